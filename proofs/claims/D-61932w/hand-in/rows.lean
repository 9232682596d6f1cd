section
-- ===== PART A: goes FIRST, ahead of the names: the tables' words, and 'selects' of the private methods out of them =====
/-- a private method of a class that the tables say can be made, by its rows of tables_1 -/
def lw_okq (q : MethodName × Nat) : Prop := (q.1.cls ≠ "java/lang/invoke/MethodHandle" ∧ q.1.cls ≠ "java/lang/invoke/VarHandle") ∧ Cond.instantiable q.1.cls q.2 ∈ tables_1 ∧ Cond.privateMethod q.1 ∈ tables_1 ∧ Cond.instanceMethod q.1 ∈ tables_1
set_option maxRecDepth 100000
theorem lw_t1 {w : Cond} (h : w ∈ tables_1_1) : w ∈ tables_1 := List.mem_append_left _ h
theorem lw_t2 {w : Cond} (h : w ∈ tables_1_2) : w ∈ tables_1 := List.mem_append_right _ h
theorem lw_p0 : lw_okq (⟨"SequencePatterns", "noEvent", "(I)Z"⟩, 14) := ⟨⟨by decide +kernel, by decide +kernel⟩, lw_t1 (List.mem_of_getElem? (i := 4) rfl), lw_t1 (List.mem_of_getElem? (i := 77) rfl), lw_t1 (List.mem_of_getElem? (i := 78) rfl)⟩
theorem lw_p1 : lw_okq (⟨"SequencePatterns", "runFrom", "(I)V"⟩, 14) := ⟨⟨by decide +kernel, by decide +kernel⟩, lw_t1 (List.mem_of_getElem? (i := 4) rfl), lw_t1 (List.mem_of_getElem? (i := 81) rfl), lw_t1 (List.mem_of_getElem? (i := 82) rfl)⟩
theorem lw_p2 : lw_okq (⟨"SequencePatterns", "meets", "(III)Z"⟩, 14) := ⟨⟨by decide +kernel, by decide +kernel⟩, lw_t1 (List.mem_of_getElem? (i := 4) rfl), lw_t1 (List.mem_of_getElem? (i := 85) rfl), lw_t1 (List.mem_of_getElem? (i := 86) rfl)⟩
theorem lw_p3 : lw_okq (⟨"SequencePatterns", "add", "(III)V"⟩, 14) := ⟨⟨by decide +kernel, by decide +kernel⟩, lw_t1 (List.mem_of_getElem? (i := 4) rfl), lw_t1 (List.mem_of_getElem? (i := 89) rfl), lw_t1 (List.mem_of_getElem? (i := 90) rfl)⟩
theorem lw_p4 : lw_okq (⟨"SequencePatterns", "inWindow", "(I)Z"⟩, 14) := ⟨⟨by decide +kernel, by decide +kernel⟩, lw_t1 (List.mem_of_getElem? (i := 4) rfl), lw_t1 (List.mem_of_getElem? (i := 93) rfl), lw_t1 (List.mem_of_getElem? (i := 94) rfl)⟩
theorem lw_p5 : lw_okq (⟨"SequencePatterns", "extendAll", "(II)V"⟩, 14) := ⟨⟨by decide +kernel, by decide +kernel⟩, lw_t1 (List.mem_of_getElem? (i := 4) rfl), lw_t1 (List.mem_of_getElem? (i := 97) rfl), lw_t1 (List.mem_of_getElem? (i := 98) rfl)⟩
theorem lw_p6 : lw_okq (⟨"SequencePatterns", "extend", "(III)V"⟩, 14) := ⟨⟨by decide +kernel, by decide +kernel⟩, lw_t1 (List.mem_of_getElem? (i := 4) rfl), lw_t1 (List.mem_of_getElem? (i := 101) rfl), lw_t1 (List.mem_of_getElem? (i := 102) rfl)⟩
theorem lw_p7 : lw_okq (⟨"SequencePatterns", "whole", "(I)I"⟩, 14) := ⟨⟨by decide +kernel, by decide +kernel⟩, lw_t1 (List.mem_of_getElem? (i := 4) rfl), lw_t1 (List.mem_of_getElem? (i := 105) rfl), lw_t1 (List.mem_of_getElem? (i := 106) rfl)⟩
theorem lw_p8 : lw_okq (⟨"SequencePatterns", "waysFrom", "(I)V"⟩, 14) := ⟨⟨by decide +kernel, by decide +kernel⟩, lw_t1 (List.mem_of_getElem? (i := 4) rfl), lw_t1 (List.mem_of_getElem? (i := 131) rfl), lw_t1 (List.mem_of_getElem? (i := 132) rfl)⟩
theorem lw_p9 : lw_okq (⟨"SequencePatterns", "waysOn", "(II)I"⟩, 14) := ⟨⟨by decide +kernel, by decide +kernel⟩, lw_t1 (List.mem_of_getElem? (i := 4) rfl), lw_t1 (List.mem_of_getElem? (i := 135) rfl), lw_t1 (List.mem_of_getElem? (i := 136) rfl)⟩
theorem lw_p10 : lw_okq (⟨"SequencePatternsModel", "isEvent", "(I)Z"⟩, 12) := ⟨⟨by decide +kernel, by decide +kernel⟩, lw_t1 (List.mem_of_getElem? (i := 157) rfl), lw_t1 (List.mem_of_getElem? (i := 220) rfl), lw_t1 (List.mem_of_getElem? (i := 221) rfl)⟩
theorem lw_p11 : lw_okq (⟨"SequencePatternsModel", "lastOf", "(I)I"⟩, 12) := ⟨⟨by decide +kernel, by decide +kernel⟩, lw_t1 (List.mem_of_getElem? (i := 157) rfl), lw_t1 (List.mem_of_getElem? (i := 224) rfl), lw_t1 (List.mem_of_getElem? (i := 225) rfl)⟩
theorem lw_p12 : lw_okq (⟨"SequencePatternsModel", "findsOf", "(I)I"⟩, 12) := ⟨⟨by decide +kernel, by decide +kernel⟩, lw_t1 (List.mem_of_getElem? (i := 157) rfl), lw_t1 (List.mem_of_getElem? (i := 228) rfl), lw_t1 (List.mem_of_getElem? (i := 229) rfl)⟩
theorem lw_p13 : lw_okq (⟨"SequencePatternsModel", "firstOf", "(I)I"⟩, 12) := ⟨⟨by decide +kernel, by decide +kernel⟩, lw_t1 (List.mem_of_getElem? (i := 157) rfl), lw_t1 (List.mem_of_getElem? (i := 232) rfl), lw_t1 (List.mem_of_getElem? (i := 233) rfl)⟩
theorem lw_p14 : lw_okq (⟨"SequencePatternsModel", "take", "(III)V"⟩, 12) := ⟨⟨by decide +kernel, by decide +kernel⟩, lw_t1 (List.mem_of_getElem? (i := 157) rfl), lw_t1 (List.mem_of_getElem? (i := 236) rfl), lw_t1 (List.mem_of_getElem? (i := 237) rfl)⟩
theorem lw_p15 : lw_okq (⟨"SequencePatternsModel", "meets", "(IIII)Z"⟩, 12) := ⟨⟨by decide +kernel, by decide +kernel⟩, lw_t1 (List.mem_of_getElem? (i := 157) rfl), lw_t2 (List.mem_of_getElem? (i := 0) rfl), lw_t2 (List.mem_of_getElem? (i := 1) rfl)⟩
def lw_privs_1 : List (MethodName × Nat) := [(⟨"SequencePatterns", "noEvent", "(I)Z"⟩, 14), (⟨"SequencePatterns", "runFrom", "(I)V"⟩, 14), (⟨"SequencePatterns", "meets", "(III)Z"⟩, 14), (⟨"SequencePatterns", "add", "(III)V"⟩, 14), (⟨"SequencePatterns", "inWindow", "(I)Z"⟩, 14), (⟨"SequencePatterns", "extendAll", "(II)V"⟩, 14), (⟨"SequencePatterns", "extend", "(III)V"⟩, 14), (⟨"SequencePatterns", "whole", "(I)I"⟩, 14), (⟨"SequencePatterns", "waysFrom", "(I)V"⟩, 14), (⟨"SequencePatterns", "waysOn", "(II)I"⟩, 14), (⟨"SequencePatternsModel", "isEvent", "(I)Z"⟩, 12), (⟨"SequencePatternsModel", "lastOf", "(I)I"⟩, 12), (⟨"SequencePatternsModel", "findsOf", "(I)I"⟩, 12), (⟨"SequencePatternsModel", "firstOf", "(I)I"⟩, 12), (⟨"SequencePatternsModel", "take", "(III)V"⟩, 12), (⟨"SequencePatternsModel", "meets", "(IIII)Z"⟩, 12)]
theorem lw_r1 : ∀ q ∈ lw_privs_1, lw_okq q := List.forall_mem_cons.mpr ⟨lw_p0, List.forall_mem_cons.mpr ⟨lw_p1, List.forall_mem_cons.mpr ⟨lw_p2, List.forall_mem_cons.mpr ⟨lw_p3, List.forall_mem_cons.mpr ⟨lw_p4, List.forall_mem_cons.mpr ⟨lw_p5, List.forall_mem_cons.mpr ⟨lw_p6, List.forall_mem_cons.mpr ⟨lw_p7, List.forall_mem_cons.mpr ⟨lw_p8, List.forall_mem_cons.mpr ⟨lw_p9, List.forall_mem_cons.mpr ⟨lw_p10, List.forall_mem_cons.mpr ⟨lw_p11, List.forall_mem_cons.mpr ⟨lw_p12, List.forall_mem_cons.mpr ⟨lw_p13, List.forall_mem_cons.mpr ⟨lw_p14, List.forall_mem_cons.mpr ⟨lw_p15, fun _ h => absurd h List.not_mem_nil⟩⟩⟩⟩⟩⟩⟩⟩⟩⟩⟩⟩⟩⟩⟩⟩
theorem lw_p16 : lw_okq (⟨"SequencePatternsModel", "sizeOf", "(I)I"⟩, 12) := ⟨⟨by decide +kernel, by decide +kernel⟩, lw_t1 (List.mem_of_getElem? (i := 157) rfl), lw_t2 (List.mem_of_getElem? (i := 29) rfl), lw_t2 (List.mem_of_getElem? (i := 30) rfl)⟩
def lw_privs_2 : List (MethodName × Nat) := [(⟨"SequencePatternsModel", "sizeOf", "(I)I"⟩, 12)]
theorem lw_r2 : ∀ q ∈ lw_privs_2, lw_okq q := List.forall_mem_cons.mpr ⟨lw_p16, fun _ h => absurd h List.not_mem_nil⟩
def lw_privs : List (MethodName × Nat) := lw_privs_1 ++ (lw_privs_2)
def lw_tbl : List Cond := k2_sels lw_privs ++ tables_1
theorem lw_privs_ok : ∀ q ∈ lw_privs, lw_okq q := by
  show ∀ q ∈ lw_privs_1 ++ (lw_privs_2), lw_okq q
  exact List.forall_mem_append.mpr ⟨lw_r1, lw_r2⟩
-- ===== ONE list of words for every method: the tables' words that hold all through a run =====
def lw_all : List Cond := lw_tbl.filter goodWord
/-- a word of the tables by its place: claim/WORDS.tsv -/
theorem lw_w {w : Cond} (i : Nat) (h : lw_tbl[i]? = some w) (g : goodWord w = true) : w ∈ lw_all := List.mem_filter.mpr ⟨List.mem_of_getElem? h, g⟩
theorem lw_all_tbl {w : Cond} (h : w ∈ lw_all) : w ∈ lw_tbl := (List.mem_filter.mp h).1
theorem lw_self : GoodIn lw_all lw_all := fun w h => ⟨h, good_of_word (List.mem_filter.mp h).2⟩
/-- a class's field words, by their places -/
theorem lw_in (ws : List Cond) (ps : List Nat) (hp : ws = ps.filterMap (fun i => lw_tbl[i]?)) (hg : ws.all goodWord = true) : ∀ w ∈ ws, w ∈ lw_all := by
  intro w h
  have h1 := List.all_eq_true.mp hg w h
  rw [hp] at h
  obtain ⟨i, -, hi⟩ := List.mem_filterMap.mp h
  exact lw_w i hi h1
/-- the words of a contract for the method y with code b, L locals, answer r -/
abbrev ws_ (y : MethodName) (b : ByteArray) (L : Nat) (r : Option FieldType) : List Cond := Cond.code y b L r :: lw_all
theorem lw_meth {y : MethodName} {b : ByteArray} {L : Nat} {r : Option FieldType} (h : Cond.code y b L r ∈ lw_all) : GoodIn lw_all (ws_ y b L r) := by
  intro w hw
  rcases List.mem_cons.mp hw with e | e
  · rw [e]
    exact lw_self _ h
  · exact lw_self _ e
theorem lw_app {a c : List Cond} (ha : ∀ w ∈ a, w ∈ lw_all) (hc : GoodIn lw_all c) : GoodIn lw_all (a ++ c) := by
  intro w hw
  rcases List.mem_append.mp hw with e | e
  · exact lw_self w (ha w e)
  · exact hc w e
/-- what a call through an object asks: cwV n hts (lw_V ..) -/
theorem lw_V {own : String} {idx : Nat} {C : String} {y : MethodName} {b : ByteArray} {L : Nat} {r : Option FieldType} (h1 : Cond.methodLink own idx y ∈ lw_all) (h2 : Cond.instanceMethod y ∈ lw_all) (h3 : Cond.selects C y y ∈ lw_all) (h4 : Cond.initialized C ∈ lw_all) (h5 : Cond.code y b L r ∈ lw_all) : GoodIn lw_all (wsV own idx C y (ws_ y b L r)) := by
  refine lw_app ?_ (lw_meth h5)
  intro w hw
  simp only [List.mem_cons, List.not_mem_nil, or_false] at hw
  rcases hw with e | e | e | e
  · rw [e]; exact h1
  · rw [e]; exact h2
  · rw [e]; exact h3
  · rw [e]; exact h4
/-- what a static call asks: va_cwS n hts (lw_S ..) -/
theorem lw_S {own : String} {idx : Nat} {y : MethodName} {b : ByteArray} {L : Nat} {r : Option FieldType} (h1 : Cond.methodLink own idx y ∈ lw_all) (h2 : Cond.static y ∈ lw_all) (h3 : Cond.initialized y.cls ∈ lw_all) (h4 : Cond.code y b L r ∈ lw_all) : GoodIn lw_all (va_wsS own idx y (ws_ y b L r)) := by
  refine lw_app ?_ (lw_meth h4)
  intro w hw
  simp only [List.mem_cons, List.not_mem_nil, or_false] at hw
  rcases hw with e | e | e
  · rw [e]; exact h1
  · rw [e]; exact h2
  · rw [e]; exact h3
/-- the words of a contract for a method WITH HANDLERS (hh: its table) -/
abbrev wsW_ (y : MethodName) (b : ByteArray) (L : Nat) (r : Option FieldType) (hh : List (Nat × Nat × Nat × Nat)) : List Cond := Cond.codeWith y b L r hh :: lw_all
theorem lw_methW {y : MethodName} {b : ByteArray} {L : Nat} {r : Option FieldType} {hh : List (Nat × Nat × Nat × Nat)} (h : Cond.codeWith y b L r hh ∈ lw_all) : GoodIn lw_all (wsW_ y b L r hh) := by
  intro w hw
  rcases List.mem_cons.mp hw with e | e
  · rw [e]
    exact lw_self _ h
  · exact lw_self _ e
/-- any list of words by their places (lw_in), good -/
theorem lw_good {ws : List Cond} (h : ∀ w ∈ ws, w ∈ lw_all) : GoodIn lw_all ws := fun w hw => lw_self w (h w hw)
/-- what a call of a method with handlers asks: vx_cwVW n hts (lw_VW ..), vx_cwSW n hts (lw_SW ..) -/
theorem lw_VW {own : String} {idx : Nat} {C : String} {y : MethodName} {b : ByteArray} {L : Nat} {r : Option FieldType} {hh : List (Nat × Nat × Nat × Nat)} (h1 : Cond.methodLink own idx y ∈ lw_all) (h2 : Cond.instanceMethod y ∈ lw_all) (h3 : Cond.selects C y y ∈ lw_all) (h4 : Cond.initialized C ∈ lw_all) (h5 : Cond.codeWith y b L r hh ∈ lw_all) : GoodIn lw_all (wsV own idx C y (wsW_ y b L r hh)) := by
  refine lw_app ?_ (lw_methW h5)
  intro w hw
  simp only [List.mem_cons, List.not_mem_nil, or_false] at hw
  rcases hw with e | e | e | e
  · rw [e]; exact h1
  · rw [e]; exact h2
  · rw [e]; exact h3
  · rw [e]; exact h4
theorem lw_SW {own : String} {idx : Nat} {y : MethodName} {b : ByteArray} {L : Nat} {r : Option FieldType} {hh : List (Nat × Nat × Nat × Nat)} (h1 : Cond.methodLink own idx y ∈ lw_all) (h2 : Cond.static y ∈ lw_all) (h3 : Cond.initialized y.cls ∈ lw_all) (h4 : Cond.codeWith y b L r hh ∈ lw_all) : GoodIn lw_all (va_wsS own idx y (wsW_ y b L r hh)) := by
  refine lw_app ?_ (lw_methW h4)
  intro w hw
  simp only [List.mem_cons, List.not_mem_nil, or_false] at hw
  rcases hw with e | e | e
  · rw [e]; exact h1
  · rw [e]; exact h2
  · rw [e]; exact h3
/-- a word by its place in its run of the tables -/
theorem lw_at {r : List Cond} (hr : ∀ w ∈ r, w ∈ lw_tbl) {w : Cond} (i : Nat) (h : r[i]? = some w) : w ∈ lw_tbl := hr w (List.mem_of_getElem? h)
theorem lw_g {w : Cond} (h : w ∈ lw_tbl) (g : goodWord w = true) : w ∈ lw_all := List.mem_filter.mpr ⟨h, g⟩
theorem lw_ms : ∀ w ∈ k2_sels lw_privs, w ∈ lw_tbl := fun w h => show w ∈ k2_sels lw_privs ++ tables_1 from List.mem_append_left _ h
theorem lw_m1 : ∀ w ∈ tables_1_1, w ∈ lw_tbl := fun w h => show w ∈ k2_sels lw_privs ++ tables_1 from List.mem_append_right (k2_sels lw_privs) (show w ∈ tables_1 from List.mem_append_left _ h)
theorem lw_m2 : ∀ w ∈ tables_1_2, w ∈ lw_tbl := fun w h => show w ∈ k2_sels lw_privs ++ tables_1 from List.mem_append_right (k2_sels lw_privs) (show w ∈ tables_1 from List.mem_append_right _ h)
theorem qs0 : (Cond.selects "SequencePatterns" ⟨"SequencePatterns", "noEvent", "(I)Z"⟩ ⟨"SequencePatterns", "noEvent", "(I)Z"⟩) ∈ lw_all := lw_g (lw_at lw_ms 0 rfl) rfl
theorem qs1 : (Cond.selects "SequencePatterns" ⟨"SequencePatterns", "runFrom", "(I)V"⟩ ⟨"SequencePatterns", "runFrom", "(I)V"⟩) ∈ lw_all := lw_g (lw_at lw_ms 1 rfl) rfl
theorem qs2 : (Cond.selects "SequencePatterns" ⟨"SequencePatterns", "meets", "(III)Z"⟩ ⟨"SequencePatterns", "meets", "(III)Z"⟩) ∈ lw_all := lw_g (lw_at lw_ms 2 rfl) rfl
theorem qs3 : (Cond.selects "SequencePatterns" ⟨"SequencePatterns", "add", "(III)V"⟩ ⟨"SequencePatterns", "add", "(III)V"⟩) ∈ lw_all := lw_g (lw_at lw_ms 3 rfl) rfl
theorem qs4 : (Cond.selects "SequencePatterns" ⟨"SequencePatterns", "inWindow", "(I)Z"⟩ ⟨"SequencePatterns", "inWindow", "(I)Z"⟩) ∈ lw_all := lw_g (lw_at lw_ms 4 rfl) rfl
theorem qs5 : (Cond.selects "SequencePatterns" ⟨"SequencePatterns", "extendAll", "(II)V"⟩ ⟨"SequencePatterns", "extendAll", "(II)V"⟩) ∈ lw_all := lw_g (lw_at lw_ms 5 rfl) rfl
theorem qs6 : (Cond.selects "SequencePatterns" ⟨"SequencePatterns", "extend", "(III)V"⟩ ⟨"SequencePatterns", "extend", "(III)V"⟩) ∈ lw_all := lw_g (lw_at lw_ms 6 rfl) rfl
theorem qs7 : (Cond.selects "SequencePatterns" ⟨"SequencePatterns", "whole", "(I)I"⟩ ⟨"SequencePatterns", "whole", "(I)I"⟩) ∈ lw_all := lw_g (lw_at lw_ms 7 rfl) rfl
theorem qs8 : (Cond.selects "SequencePatterns" ⟨"SequencePatterns", "waysFrom", "(I)V"⟩ ⟨"SequencePatterns", "waysFrom", "(I)V"⟩) ∈ lw_all := lw_g (lw_at lw_ms 8 rfl) rfl
theorem qs9 : (Cond.selects "SequencePatterns" ⟨"SequencePatterns", "waysOn", "(II)I"⟩ ⟨"SequencePatterns", "waysOn", "(II)I"⟩) ∈ lw_all := lw_g (lw_at lw_ms 9 rfl) rfl
theorem qs10 : (Cond.selects "SequencePatternsModel" ⟨"SequencePatternsModel", "isEvent", "(I)Z"⟩ ⟨"SequencePatternsModel", "isEvent", "(I)Z"⟩) ∈ lw_all := lw_g (lw_at lw_ms 10 rfl) rfl
theorem qs11 : (Cond.selects "SequencePatternsModel" ⟨"SequencePatternsModel", "lastOf", "(I)I"⟩ ⟨"SequencePatternsModel", "lastOf", "(I)I"⟩) ∈ lw_all := lw_g (lw_at lw_ms 11 rfl) rfl
theorem qs12 : (Cond.selects "SequencePatternsModel" ⟨"SequencePatternsModel", "findsOf", "(I)I"⟩ ⟨"SequencePatternsModel", "findsOf", "(I)I"⟩) ∈ lw_all := lw_g (lw_at lw_ms 12 rfl) rfl
theorem qs13 : (Cond.selects "SequencePatternsModel" ⟨"SequencePatternsModel", "firstOf", "(I)I"⟩ ⟨"SequencePatternsModel", "firstOf", "(I)I"⟩) ∈ lw_all := lw_g (lw_at lw_ms 13 rfl) rfl
theorem qs14 : (Cond.selects "SequencePatternsModel" ⟨"SequencePatternsModel", "take", "(III)V"⟩ ⟨"SequencePatternsModel", "take", "(III)V"⟩) ∈ lw_all := lw_g (lw_at lw_ms 14 rfl) rfl
theorem qs15 : (Cond.selects "SequencePatternsModel" ⟨"SequencePatternsModel", "meets", "(IIII)Z"⟩ ⟨"SequencePatternsModel", "meets", "(IIII)Z"⟩) ∈ lw_all := lw_g (lw_at lw_ms 15 rfl) rfl
theorem qs16 : (Cond.selects "SequencePatternsModel" ⟨"SequencePatternsModel", "sizeOf", "(I)I"⟩ ⟨"SequencePatternsModel", "sizeOf", "(I)I"⟩) ∈ lw_all := lw_g (lw_at lw_ms 16 rfl) rfl
end
section
/-! SequencePatterns -/
set_option maxRecDepth 100000
def RX0 : String := "SequencePatterns"
def TX0 : u_T := fun k => match k with
  | 0 => ("SequencePatterns", "steps", "I", false)
  | 1 => ("SequencePatterns", "stepType", "[I", true)
  | 2 => ("SequencePatterns", "stepBound", "[I", true)
  | 3 => ("SequencePatterns", "stepKind", "[I", true)
  | 4 => ("SequencePatterns", "repeats", "[Z", true)
  | 5 => ("SequencePatterns", "window", "I", false)
  | 6 => ("SequencePatterns", "count", "I", false)
  | 7 => ("SequencePatterns", "type", "[I", true)
  | 8 => ("SequencePatterns", "value", "[I", true)
  | 9 => ("SequencePatterns", "time", "[I", true)
  | 10 => ("SequencePatterns", "first", "I", false)
  | 11 => ("SequencePatterns", "runs", "[I", true)
  | 12 => ("SequencePatterns", "ways", "[I", true)
  | _ => ("SequencePatterns", "most", "[I", true)
def tyX0 : Nat → FieldType := fun k => match k with
  | 0 => .int
  | 1 => .array .int
  | 2 => .array .int
  | 3 => .array .int
  | 4 => .array .boolean
  | 5 => .int
  | 6 => .int
  | 7 => .array .int
  | 8 => .array .int
  | 9 => .array .int
  | 10 => .int
  | 11 => .array .int
  | 12 => .array .int
  | _ => .array .int
abbrev wsX00 : List Cond := u_ws RX0 TX0 14
set_option maxRecDepth 100000 in
theorem nmX0 : ∀ a, a < 14 → ∀ b, b < 14 → a ≠ b → (TX0 a).2.1 ≠ (TX0 b).2.1 := by decide +kernel
set_option maxRecDepth 100000 in
theorem tyX0_ok : ∀ k, k < 14 → parseFieldDescriptor (TX0 k).2.2.1 = some (tyX0 k) := by decide +kernel
abbrev cX0_init : ByteArray := prog_1_method_1_code
def yX0_init : MethodName := ⟨RX0, "<init>", "()V"⟩
abbrev cX0_begin : ByteArray := prog_1_method_2_code
def yX0_begin : MethodName := ⟨RX0, "begin", "()V"⟩
abbrev cX0_step : ByteArray := prog_1_method_3_code
def yX0_step : MethodName := ⟨RX0, "step", "(III)I"⟩
abbrev cX0_window : ByteArray := prog_1_method_4_code
def yX0_window : MethodName := ⟨RX0, "window", "(I)I"⟩
abbrev cX0_event : ByteArray := prog_1_method_5_code
def yX0_event : MethodName := ⟨RX0, "event", "(III)I"⟩
abbrev cX0_endingAt : ByteArray := prog_1_method_19_code
def yX0_endingAt : MethodName := ⟨RX0, "endingAt", "(I)I"⟩
abbrev cX0_noEvent : ByteArray := prog_1_method_17_code
def yX0_noEvent : MethodName := ⟨RX0, "noEvent", "(I)Z"⟩
abbrev cX0_runFrom : ByteArray := prog_1_method_12_code
def yX0_runFrom : MethodName := ⟨RX0, "runFrom", "(I)V"⟩
abbrev cX0_meets : ByteArray := prog_1_method_8_code
def yX0_meets : MethodName := ⟨RX0, "meets", "(III)Z"⟩
abbrev cX0_add : ByteArray := prog_1_method_11_code
def yX0_add : MethodName := ⟨RX0, "add", "(III)V"⟩
abbrev cX0_inWindow : ByteArray := prog_1_method_9_code
def yX0_inWindow : MethodName := ⟨RX0, "inWindow", "(I)Z"⟩
abbrev cX0_extendAll : ByteArray := prog_1_method_13_code
def yX0_extendAll : MethodName := ⟨RX0, "extendAll", "(II)V"⟩
abbrev cX0_extend : ByteArray := prog_1_method_10_code
def yX0_extend : MethodName := ⟨RX0, "extend", "(III)V"⟩
abbrev cX0_whole : ByteArray := prog_1_method_16_code
def yX0_whole : MethodName := ⟨RX0, "whole", "(I)I"⟩
abbrev cX0_restart : ByteArray := prog_1_method_6_code
def yX0_restart : MethodName := ⟨RX0, "restart", "()V"⟩
abbrev cX0_events : ByteArray := prog_1_method_7_code
def yX0_events : MethodName := ⟨RX0, "events", "()I"⟩
abbrev cX0_finds : ByteArray := prog_1_method_18_code
def yX0_finds : MethodName := ⟨RX0, "finds", "()I"⟩
abbrev cX0_beginningAt : ByteArray := prog_1_method_20_code
def yX0_beginningAt : MethodName := ⟨RX0, "beginningAt", "(I)I"⟩
abbrev cX0_using : ByteArray := prog_1_method_21_code
def yX0_using : MethodName := ⟨RX0, "using", "(I)I"⟩
abbrev cX0_waysFrom : ByteArray := prog_1_method_15_code
def yX0_waysFrom : MethodName := ⟨RX0, "waysFrom", "(I)V"⟩
abbrev cX0_waysOn : ByteArray := prog_1_method_14_code
def yX0_waysOn : MethodName := ⟨RX0, "waysOn", "(II)I"⟩
abbrev cX0_longest : ByteArray := prog_1_method_22_code
def yX0_longest : MethodName := ⟨RX0, "longest", "()I"⟩
abbrev cX0_tightest : ByteArray := prog_1_method_23_code
def yX0_tightest : MethodName := ⟨RX0, "tightest", "()I"⟩
abbrev cX0_lastValues : ByteArray := prog_1_method_24_code
def yX0_lastValues : MethodName := ⟨RX0, "lastValues", "()I"⟩
abbrev cX0_without : ByteArray := prog_1_method_25_code
def yX0_without : MethodName := ⟨RX0, "without", "(I)I"⟩

theorem q18 : (Jvm.Cond.initialized "SequencePatterns") ∈ lw_all := lw_g (lw_at lw_m1 1 rfl) rfl
theorem q21 : (Jvm.Cond.instantiable "SequencePatterns" (14 : Nat)) ∈ lw_all := lw_g (lw_at lw_m1 4 rfl) rfl
theorem q23 : (Jvm.Cond.instanceMethod ({ cls := "SequencePatterns", name := "<init>", desc := "()V" } : Jvm.MethodName)) ∈ lw_all := lw_g (lw_at lw_m1 6 rfl) rfl
theorem q24 : (Jvm.Cond.code ({ cls := "SequencePatterns", name := "<init>", desc := "()V" } : Jvm.MethodName) prog_1_method_1_code (1 : Nat) (Option.none : Option Jvm.ClassFile.FieldType)) ∈ lw_all := lw_g (lw_at lw_m1 7 rfl) rfl
theorem q25 : (Jvm.Cond.methodLink "SequencePatterns" (1 : Nat) ({ cls := "java/lang/Object", name := "<init>", desc := "()V" } : Jvm.MethodName)) ∈ lw_all := lw_g (lw_at lw_m1 8 rfl) rfl
theorem q28 : (Jvm.Cond.fieldLink "SequencePatterns" (41 : Nat) "SequencePatterns" "steps" "I") ∈ lw_all := lw_g (lw_at lw_m1 11 rfl) rfl
theorem q29 : (Jvm.Cond.fieldLink "SequencePatterns" (7 : Nat) "SequencePatterns" "stepType" "[I") ∈ lw_all := lw_g (lw_at lw_m1 12 rfl) rfl
theorem q30 : (Jvm.Cond.fieldLink "SequencePatterns" (13 : Nat) "SequencePatterns" "stepBound" "[I") ∈ lw_all := lw_g (lw_at lw_m1 13 rfl) rfl
theorem q31 : (Jvm.Cond.fieldLink "SequencePatterns" (16 : Nat) "SequencePatterns" "stepKind" "[I") ∈ lw_all := lw_g (lw_at lw_m1 14 rfl) rfl
theorem q32 : (Jvm.Cond.fieldLink "SequencePatterns" (19 : Nat) "SequencePatterns" "repeats" "[Z") ∈ lw_all := lw_g (lw_at lw_m1 15 rfl) rfl
theorem q33 : (Jvm.Cond.fieldLink "SequencePatterns" (45 : Nat) "SequencePatterns" "window" "I") ∈ lw_all := lw_g (lw_at lw_m1 16 rfl) rfl
theorem q34 : (Jvm.Cond.fieldLink "SequencePatterns" (48 : Nat) "SequencePatterns" "count" "I") ∈ lw_all := lw_g (lw_at lw_m1 17 rfl) rfl
theorem q35 : (Jvm.Cond.fieldLink "SequencePatterns" (23 : Nat) "SequencePatterns" "type" "[I") ∈ lw_all := lw_g (lw_at lw_m1 18 rfl) rfl
theorem q36 : (Jvm.Cond.fieldLink "SequencePatterns" (26 : Nat) "SequencePatterns" "value" "[I") ∈ lw_all := lw_g (lw_at lw_m1 19 rfl) rfl
theorem q37 : (Jvm.Cond.fieldLink "SequencePatterns" (29 : Nat) "SequencePatterns" "time" "[I") ∈ lw_all := lw_g (lw_at lw_m1 20 rfl) rfl
theorem q38 : (Jvm.Cond.fieldLink "SequencePatterns" (55 : Nat) "SequencePatterns" "first" "I") ∈ lw_all := lw_g (lw_at lw_m1 21 rfl) rfl
theorem q39 : (Jvm.Cond.fieldLink "SequencePatterns" (32 : Nat) "SequencePatterns" "runs" "[I") ∈ lw_all := lw_g (lw_at lw_m1 22 rfl) rfl
theorem q40 : (Jvm.Cond.fieldLink "SequencePatterns" (35 : Nat) "SequencePatterns" "ways" "[I") ∈ lw_all := lw_g (lw_at lw_m1 23 rfl) rfl
theorem q41 : (Jvm.Cond.fieldLink "SequencePatterns" (38 : Nat) "SequencePatterns" "most" "[I") ∈ lw_all := lw_g (lw_at lw_m1 24 rfl) rfl
theorem q42 : (Jvm.Cond.lays "SequencePatterns" "SequencePatterns" "steps" "I") ∈ lw_all := lw_g (lw_at lw_m1 25 rfl) rfl
theorem q43 : (Jvm.Cond.soleField "SequencePatterns" "steps") ∈ lw_all := lw_g (lw_at lw_m1 26 rfl) rfl
theorem q44 : (Jvm.Cond.laysFinal "SequencePatterns" "SequencePatterns" "stepType" "[I") ∈ lw_all := lw_g (lw_at lw_m1 27 rfl) rfl
theorem q45 : (Jvm.Cond.soleField "SequencePatterns" "stepType") ∈ lw_all := lw_g (lw_at lw_m1 28 rfl) rfl
theorem q46 : (Jvm.Cond.laysFinal "SequencePatterns" "SequencePatterns" "stepBound" "[I") ∈ lw_all := lw_g (lw_at lw_m1 29 rfl) rfl
theorem q47 : (Jvm.Cond.soleField "SequencePatterns" "stepBound") ∈ lw_all := lw_g (lw_at lw_m1 30 rfl) rfl
theorem q48 : (Jvm.Cond.laysFinal "SequencePatterns" "SequencePatterns" "stepKind" "[I") ∈ lw_all := lw_g (lw_at lw_m1 31 rfl) rfl
theorem q49 : (Jvm.Cond.soleField "SequencePatterns" "stepKind") ∈ lw_all := lw_g (lw_at lw_m1 32 rfl) rfl
theorem q50 : (Jvm.Cond.laysFinal "SequencePatterns" "SequencePatterns" "repeats" "[Z") ∈ lw_all := lw_g (lw_at lw_m1 33 rfl) rfl
theorem q51 : (Jvm.Cond.soleField "SequencePatterns" "repeats") ∈ lw_all := lw_g (lw_at lw_m1 34 rfl) rfl
theorem q52 : (Jvm.Cond.lays "SequencePatterns" "SequencePatterns" "window" "I") ∈ lw_all := lw_g (lw_at lw_m1 35 rfl) rfl
theorem q53 : (Jvm.Cond.soleField "SequencePatterns" "window") ∈ lw_all := lw_g (lw_at lw_m1 36 rfl) rfl
theorem q54 : (Jvm.Cond.lays "SequencePatterns" "SequencePatterns" "count" "I") ∈ lw_all := lw_g (lw_at lw_m1 37 rfl) rfl
theorem q55 : (Jvm.Cond.soleField "SequencePatterns" "count") ∈ lw_all := lw_g (lw_at lw_m1 38 rfl) rfl
theorem q56 : (Jvm.Cond.laysFinal "SequencePatterns" "SequencePatterns" "type" "[I") ∈ lw_all := lw_g (lw_at lw_m1 39 rfl) rfl
theorem q57 : (Jvm.Cond.soleField "SequencePatterns" "type") ∈ lw_all := lw_g (lw_at lw_m1 40 rfl) rfl
theorem q58 : (Jvm.Cond.laysFinal "SequencePatterns" "SequencePatterns" "value" "[I") ∈ lw_all := lw_g (lw_at lw_m1 41 rfl) rfl
theorem q59 : (Jvm.Cond.soleField "SequencePatterns" "value") ∈ lw_all := lw_g (lw_at lw_m1 42 rfl) rfl
theorem q60 : (Jvm.Cond.laysFinal "SequencePatterns" "SequencePatterns" "time" "[I") ∈ lw_all := lw_g (lw_at lw_m1 43 rfl) rfl
theorem q61 : (Jvm.Cond.soleField "SequencePatterns" "time") ∈ lw_all := lw_g (lw_at lw_m1 44 rfl) rfl
theorem q62 : (Jvm.Cond.lays "SequencePatterns" "SequencePatterns" "first" "I") ∈ lw_all := lw_g (lw_at lw_m1 45 rfl) rfl
theorem q63 : (Jvm.Cond.soleField "SequencePatterns" "first") ∈ lw_all := lw_g (lw_at lw_m1 46 rfl) rfl
theorem q64 : (Jvm.Cond.laysFinal "SequencePatterns" "SequencePatterns" "runs" "[I") ∈ lw_all := lw_g (lw_at lw_m1 47 rfl) rfl
theorem q65 : (Jvm.Cond.soleField "SequencePatterns" "runs") ∈ lw_all := lw_g (lw_at lw_m1 48 rfl) rfl
theorem q66 : (Jvm.Cond.laysFinal "SequencePatterns" "SequencePatterns" "ways" "[I") ∈ lw_all := lw_g (lw_at lw_m1 49 rfl) rfl
theorem q67 : (Jvm.Cond.soleField "SequencePatterns" "ways") ∈ lw_all := lw_g (lw_at lw_m1 50 rfl) rfl
theorem q68 : (Jvm.Cond.laysFinal "SequencePatterns" "SequencePatterns" "most" "[I") ∈ lw_all := lw_g (lw_at lw_m1 51 rfl) rfl
theorem q69 : (Jvm.Cond.soleField "SequencePatterns" "most") ∈ lw_all := lw_g (lw_at lw_m1 52 rfl) rfl
theorem q70 : (Jvm.Cond.superclass "SequencePatterns" "java/lang/Object") ∈ lw_all := lw_g (lw_at lw_m1 53 rfl) rfl
theorem q74 : (Jvm.Cond.instanceMethod ({ cls := "SequencePatterns", name := "begin", desc := "()V" } : Jvm.MethodName)) ∈ lw_all := lw_g (lw_at lw_m1 57 rfl) rfl
theorem q75 : (Jvm.Cond.selects "SequencePatterns" ({ cls := "SequencePatterns", name := "begin", desc := "()V" } : Jvm.MethodName) ({ cls := "SequencePatterns", name := "begin", desc := "()V" } : Jvm.MethodName)) ∈ lw_all := lw_g (lw_at lw_m1 58 rfl) rfl
theorem q76 : (Jvm.Cond.code ({ cls := "SequencePatterns", name := "begin", desc := "()V" } : Jvm.MethodName) prog_1_method_2_code (1 : Nat) (Option.none : Option Jvm.ClassFile.FieldType)) ∈ lw_all := lw_g (lw_at lw_m1 59 rfl) rfl
theorem q78 : (Jvm.Cond.instanceMethod ({ cls := "SequencePatterns", name := "step", desc := "(III)I" } : Jvm.MethodName)) ∈ lw_all := lw_g (lw_at lw_m1 61 rfl) rfl
theorem q79 : (Jvm.Cond.selects "SequencePatterns" ({ cls := "SequencePatterns", name := "step", desc := "(III)I" } : Jvm.MethodName) ({ cls := "SequencePatterns", name := "step", desc := "(III)I" } : Jvm.MethodName)) ∈ lw_all := lw_g (lw_at lw_m1 62 rfl) rfl
theorem q80 : (Jvm.Cond.code ({ cls := "SequencePatterns", name := "step", desc := "(III)I" } : Jvm.MethodName) prog_1_method_3_code (5 : Nat) (Option.some Jvm.ClassFile.FieldType.int)) ∈ lw_all := lw_g (lw_at lw_m1 63 rfl) rfl
theorem q82 : (Jvm.Cond.instanceMethod ({ cls := "SequencePatterns", name := "window", desc := "(I)I" } : Jvm.MethodName)) ∈ lw_all := lw_g (lw_at lw_m1 65 rfl) rfl
theorem q83 : (Jvm.Cond.selects "SequencePatterns" ({ cls := "SequencePatterns", name := "window", desc := "(I)I" } : Jvm.MethodName) ({ cls := "SequencePatterns", name := "window", desc := "(I)I" } : Jvm.MethodName)) ∈ lw_all := lw_g (lw_at lw_m1 66 rfl) rfl
theorem q84 : (Jvm.Cond.code ({ cls := "SequencePatterns", name := "window", desc := "(I)I" } : Jvm.MethodName) prog_1_method_4_code (3 : Nat) (Option.some Jvm.ClassFile.FieldType.int)) ∈ lw_all := lw_g (lw_at lw_m1 67 rfl) rfl
theorem q86 : (Jvm.Cond.instanceMethod ({ cls := "SequencePatterns", name := "event", desc := "(III)I" } : Jvm.MethodName)) ∈ lw_all := lw_g (lw_at lw_m1 69 rfl) rfl
theorem q87 : (Jvm.Cond.selects "SequencePatterns" ({ cls := "SequencePatterns", name := "event", desc := "(III)I" } : Jvm.MethodName) ({ cls := "SequencePatterns", name := "event", desc := "(III)I" } : Jvm.MethodName)) ∈ lw_all := lw_g (lw_at lw_m1 70 rfl) rfl
theorem q88 : (Jvm.Cond.code ({ cls := "SequencePatterns", name := "event", desc := "(III)I" } : Jvm.MethodName) prog_1_method_5_code (4 : Nat) (Option.some Jvm.ClassFile.FieldType.int)) ∈ lw_all := lw_g (lw_at lw_m1 71 rfl) rfl
theorem q89 : (Jvm.Cond.methodLink "SequencePatterns" (51 : Nat) ({ cls := "SequencePatterns", name := "endingAt", desc := "(I)I" } : Jvm.MethodName)) ∈ lw_all := lw_g (lw_at lw_m1 72 rfl) rfl
theorem q90 : (Jvm.Cond.instanceMethod ({ cls := "SequencePatterns", name := "endingAt", desc := "(I)I" } : Jvm.MethodName)) ∈ lw_all := lw_g (lw_at lw_m1 73 rfl) rfl
theorem q91 : (Jvm.Cond.selects "SequencePatterns" ({ cls := "SequencePatterns", name := "endingAt", desc := "(I)I" } : Jvm.MethodName) ({ cls := "SequencePatterns", name := "endingAt", desc := "(I)I" } : Jvm.MethodName)) ∈ lw_all := lw_g (lw_at lw_m1 74 rfl) rfl
theorem q92 : (Jvm.Cond.code ({ cls := "SequencePatterns", name := "endingAt", desc := "(I)I" } : Jvm.MethodName) prog_1_method_19_code (5 : Nat) (Option.some Jvm.ClassFile.FieldType.int)) ∈ lw_all := lw_g (lw_at lw_m1 75 rfl) rfl
theorem q93 : (Jvm.Cond.methodLink "SequencePatterns" (84 : Nat) ({ cls := "SequencePatterns", name := "noEvent", desc := "(I)Z" } : Jvm.MethodName)) ∈ lw_all := lw_g (lw_at lw_m1 76 rfl) rfl
theorem q94 : (Jvm.Cond.privateMethod ({ cls := "SequencePatterns", name := "noEvent", desc := "(I)Z" } : Jvm.MethodName)) ∈ lw_tbl := lw_at lw_m1 77 rfl
theorem q95 : (Jvm.Cond.instanceMethod ({ cls := "SequencePatterns", name := "noEvent", desc := "(I)Z" } : Jvm.MethodName)) ∈ lw_all := lw_g (lw_at lw_m1 78 rfl) rfl
theorem q96 : (Jvm.Cond.code ({ cls := "SequencePatterns", name := "noEvent", desc := "(I)Z" } : Jvm.MethodName) prog_1_method_17_code (2 : Nat) (Option.some Jvm.ClassFile.FieldType.boolean)) ∈ lw_all := lw_g (lw_at lw_m1 79 rfl) rfl
theorem q97 : (Jvm.Cond.methodLink "SequencePatterns" (87 : Nat) ({ cls := "SequencePatterns", name := "runFrom", desc := "(I)V" } : Jvm.MethodName)) ∈ lw_all := lw_g (lw_at lw_m1 80 rfl) rfl
theorem q98 : (Jvm.Cond.privateMethod ({ cls := "SequencePatterns", name := "runFrom", desc := "(I)V" } : Jvm.MethodName)) ∈ lw_tbl := lw_at lw_m1 81 rfl
theorem q99 : (Jvm.Cond.instanceMethod ({ cls := "SequencePatterns", name := "runFrom", desc := "(I)V" } : Jvm.MethodName)) ∈ lw_all := lw_g (lw_at lw_m1 82 rfl) rfl
theorem q100 : (Jvm.Cond.code ({ cls := "SequencePatterns", name := "runFrom", desc := "(I)V" } : Jvm.MethodName) prog_1_method_12_code (4 : Nat) (Option.none : Option Jvm.ClassFile.FieldType)) ∈ lw_all := lw_g (lw_at lw_m1 83 rfl) rfl
theorem q101 : (Jvm.Cond.methodLink "SequencePatterns" (58 : Nat) ({ cls := "SequencePatterns", name := "meets", desc := "(III)Z" } : Jvm.MethodName)) ∈ lw_all := lw_g (lw_at lw_m1 84 rfl) rfl
theorem q102 : (Jvm.Cond.privateMethod ({ cls := "SequencePatterns", name := "meets", desc := "(III)Z" } : Jvm.MethodName)) ∈ lw_tbl := lw_at lw_m1 85 rfl
theorem q103 : (Jvm.Cond.instanceMethod ({ cls := "SequencePatterns", name := "meets", desc := "(III)Z" } : Jvm.MethodName)) ∈ lw_all := lw_g (lw_at lw_m1 86 rfl) rfl
theorem q104 : (Jvm.Cond.code ({ cls := "SequencePatterns", name := "meets", desc := "(III)Z" } : Jvm.MethodName) prog_1_method_8_code (4 : Nat) (Option.some Jvm.ClassFile.FieldType.boolean)) ∈ lw_all := lw_g (lw_at lw_m1 87 rfl) rfl
theorem q105 : (Jvm.Cond.methodLink "SequencePatterns" (62 : Nat) ({ cls := "SequencePatterns", name := "add", desc := "(III)V" } : Jvm.MethodName)) ∈ lw_all := lw_g (lw_at lw_m1 88 rfl) rfl
theorem q106 : (Jvm.Cond.privateMethod ({ cls := "SequencePatterns", name := "add", desc := "(III)V" } : Jvm.MethodName)) ∈ lw_tbl := lw_at lw_m1 89 rfl
theorem q107 : (Jvm.Cond.instanceMethod ({ cls := "SequencePatterns", name := "add", desc := "(III)V" } : Jvm.MethodName)) ∈ lw_all := lw_g (lw_at lw_m1 90 rfl) rfl
theorem q108 : (Jvm.Cond.code ({ cls := "SequencePatterns", name := "add", desc := "(III)V" } : Jvm.MethodName) prog_1_method_11_code (4 : Nat) (Option.none : Option Jvm.ClassFile.FieldType)) ∈ lw_all := lw_g (lw_at lw_m1 91 rfl) rfl
theorem q109 : (Jvm.Cond.methodLink "SequencePatterns" (66 : Nat) ({ cls := "SequencePatterns", name := "inWindow", desc := "(I)Z" } : Jvm.MethodName)) ∈ lw_all := lw_g (lw_at lw_m1 92 rfl) rfl
theorem q110 : (Jvm.Cond.privateMethod ({ cls := "SequencePatterns", name := "inWindow", desc := "(I)Z" } : Jvm.MethodName)) ∈ lw_tbl := lw_at lw_m1 93 rfl
theorem q111 : (Jvm.Cond.instanceMethod ({ cls := "SequencePatterns", name := "inWindow", desc := "(I)Z" } : Jvm.MethodName)) ∈ lw_all := lw_g (lw_at lw_m1 94 rfl) rfl
theorem q112 : (Jvm.Cond.code ({ cls := "SequencePatterns", name := "inWindow", desc := "(I)Z" } : Jvm.MethodName) prog_1_method_9_code (2 : Nat) (Option.some Jvm.ClassFile.FieldType.boolean)) ∈ lw_all := lw_g (lw_at lw_m1 95 rfl) rfl
theorem q113 : (Jvm.Cond.methodLink "SequencePatterns" (70 : Nat) ({ cls := "SequencePatterns", name := "extendAll", desc := "(II)V" } : Jvm.MethodName)) ∈ lw_all := lw_g (lw_at lw_m1 96 rfl) rfl
theorem q114 : (Jvm.Cond.privateMethod ({ cls := "SequencePatterns", name := "extendAll", desc := "(II)V" } : Jvm.MethodName)) ∈ lw_tbl := lw_at lw_m1 97 rfl
theorem q115 : (Jvm.Cond.instanceMethod ({ cls := "SequencePatterns", name := "extendAll", desc := "(II)V" } : Jvm.MethodName)) ∈ lw_all := lw_g (lw_at lw_m1 98 rfl) rfl
theorem q116 : (Jvm.Cond.code ({ cls := "SequencePatterns", name := "extendAll", desc := "(II)V" } : Jvm.MethodName) prog_1_method_13_code (4 : Nat) (Option.none : Option Jvm.ClassFile.FieldType)) ∈ lw_all := lw_g (lw_at lw_m1 99 rfl) rfl
theorem q117 : (Jvm.Cond.methodLink "SequencePatterns" (74 : Nat) ({ cls := "SequencePatterns", name := "extend", desc := "(III)V" } : Jvm.MethodName)) ∈ lw_all := lw_g (lw_at lw_m1 100 rfl) rfl
theorem q118 : (Jvm.Cond.privateMethod ({ cls := "SequencePatterns", name := "extend", desc := "(III)V" } : Jvm.MethodName)) ∈ lw_tbl := lw_at lw_m1 101 rfl
theorem q119 : (Jvm.Cond.instanceMethod ({ cls := "SequencePatterns", name := "extend", desc := "(III)V" } : Jvm.MethodName)) ∈ lw_all := lw_g (lw_at lw_m1 102 rfl) rfl
theorem q120 : (Jvm.Cond.code ({ cls := "SequencePatterns", name := "extend", desc := "(III)V" } : Jvm.MethodName) prog_1_method_10_code (5 : Nat) (Option.none : Option Jvm.ClassFile.FieldType)) ∈ lw_all := lw_g (lw_at lw_m1 103 rfl) rfl
theorem q121 : (Jvm.Cond.methodLink "SequencePatterns" (91 : Nat) ({ cls := "SequencePatterns", name := "whole", desc := "(I)I" } : Jvm.MethodName)) ∈ lw_all := lw_g (lw_at lw_m1 104 rfl) rfl
theorem q122 : (Jvm.Cond.privateMethod ({ cls := "SequencePatterns", name := "whole", desc := "(I)I" } : Jvm.MethodName)) ∈ lw_tbl := lw_at lw_m1 105 rfl
theorem q123 : (Jvm.Cond.instanceMethod ({ cls := "SequencePatterns", name := "whole", desc := "(I)I" } : Jvm.MethodName)) ∈ lw_all := lw_g (lw_at lw_m1 106 rfl) rfl
theorem q124 : (Jvm.Cond.code ({ cls := "SequencePatterns", name := "whole", desc := "(I)I" } : Jvm.MethodName) prog_1_method_16_code (2 : Nat) (Option.some Jvm.ClassFile.FieldType.int)) ∈ lw_all := lw_g (lw_at lw_m1 107 rfl) rfl
theorem q126 : (Jvm.Cond.instanceMethod ({ cls := "SequencePatterns", name := "restart", desc := "()V" } : Jvm.MethodName)) ∈ lw_all := lw_g (lw_at lw_m1 109 rfl) rfl
theorem q127 : (Jvm.Cond.selects "SequencePatterns" ({ cls := "SequencePatterns", name := "restart", desc := "()V" } : Jvm.MethodName) ({ cls := "SequencePatterns", name := "restart", desc := "()V" } : Jvm.MethodName)) ∈ lw_all := lw_g (lw_at lw_m1 110 rfl) rfl
theorem q128 : (Jvm.Cond.code ({ cls := "SequencePatterns", name := "restart", desc := "()V" } : Jvm.MethodName) prog_1_method_6_code (1 : Nat) (Option.none : Option Jvm.ClassFile.FieldType)) ∈ lw_all := lw_g (lw_at lw_m1 111 rfl) rfl
theorem q130 : (Jvm.Cond.instanceMethod ({ cls := "SequencePatterns", name := "events", desc := "()I" } : Jvm.MethodName)) ∈ lw_all := lw_g (lw_at lw_m1 113 rfl) rfl
theorem q131 : (Jvm.Cond.selects "SequencePatterns" ({ cls := "SequencePatterns", name := "events", desc := "()I" } : Jvm.MethodName) ({ cls := "SequencePatterns", name := "events", desc := "()I" } : Jvm.MethodName)) ∈ lw_all := lw_g (lw_at lw_m1 114 rfl) rfl
theorem q132 : (Jvm.Cond.code ({ cls := "SequencePatterns", name := "events", desc := "()I" } : Jvm.MethodName) prog_1_method_7_code (1 : Nat) (Option.some Jvm.ClassFile.FieldType.int)) ∈ lw_all := lw_g (lw_at lw_m1 115 rfl) rfl
theorem q134 : (Jvm.Cond.instanceMethod ({ cls := "SequencePatterns", name := "finds", desc := "()I" } : Jvm.MethodName)) ∈ lw_all := lw_g (lw_at lw_m1 117 rfl) rfl
theorem q135 : (Jvm.Cond.selects "SequencePatterns" ({ cls := "SequencePatterns", name := "finds", desc := "()I" } : Jvm.MethodName) ({ cls := "SequencePatterns", name := "finds", desc := "()I" } : Jvm.MethodName)) ∈ lw_all := lw_g (lw_at lw_m1 118 rfl) rfl
theorem q136 : (Jvm.Cond.code ({ cls := "SequencePatterns", name := "finds", desc := "()I" } : Jvm.MethodName) prog_1_method_18_code (4 : Nat) (Option.some Jvm.ClassFile.FieldType.int)) ∈ lw_all := lw_g (lw_at lw_m1 119 rfl) rfl
theorem q137 : (Jvm.Cond.methodLink "SequencePatterns" (81 : Nat) ({ cls := "SequencePatterns", name := "beginningAt", desc := "(I)I" } : Jvm.MethodName)) ∈ lw_all := lw_g (lw_at lw_m1 120 rfl) rfl
theorem q138 : (Jvm.Cond.instanceMethod ({ cls := "SequencePatterns", name := "beginningAt", desc := "(I)I" } : Jvm.MethodName)) ∈ lw_all := lw_g (lw_at lw_m1 121 rfl) rfl
theorem q139 : (Jvm.Cond.selects "SequencePatterns" ({ cls := "SequencePatterns", name := "beginningAt", desc := "(I)I" } : Jvm.MethodName) ({ cls := "SequencePatterns", name := "beginningAt", desc := "(I)I" } : Jvm.MethodName)) ∈ lw_all := lw_g (lw_at lw_m1 122 rfl) rfl
theorem q140 : (Jvm.Cond.code ({ cls := "SequencePatterns", name := "beginningAt", desc := "(I)I" } : Jvm.MethodName) prog_1_method_20_code (5 : Nat) (Option.some Jvm.ClassFile.FieldType.int)) ∈ lw_all := lw_g (lw_at lw_m1 123 rfl) rfl
theorem q144 : (Jvm.Cond.instanceMethod ({ cls := "SequencePatterns", name := "using", desc := "(I)I" } : Jvm.MethodName)) ∈ lw_all := lw_g (lw_at lw_m1 127 rfl) rfl
theorem q145 : (Jvm.Cond.selects "SequencePatterns" ({ cls := "SequencePatterns", name := "using", desc := "(I)I" } : Jvm.MethodName) ({ cls := "SequencePatterns", name := "using", desc := "(I)I" } : Jvm.MethodName)) ∈ lw_all := lw_g (lw_at lw_m1 128 rfl) rfl
theorem q146 : (Jvm.Cond.code ({ cls := "SequencePatterns", name := "using", desc := "(I)I" } : Jvm.MethodName) prog_1_method_21_code (5 : Nat) (Option.some Jvm.ClassFile.FieldType.int)) ∈ lw_all := lw_g (lw_at lw_m1 129 rfl) rfl
theorem q147 : (Jvm.Cond.methodLink "SequencePatterns" (94 : Nat) ({ cls := "SequencePatterns", name := "waysFrom", desc := "(I)V" } : Jvm.MethodName)) ∈ lw_all := lw_g (lw_at lw_m1 130 rfl) rfl
theorem q148 : (Jvm.Cond.privateMethod ({ cls := "SequencePatterns", name := "waysFrom", desc := "(I)V" } : Jvm.MethodName)) ∈ lw_tbl := lw_at lw_m1 131 rfl
theorem q149 : (Jvm.Cond.instanceMethod ({ cls := "SequencePatterns", name := "waysFrom", desc := "(I)V" } : Jvm.MethodName)) ∈ lw_all := lw_g (lw_at lw_m1 132 rfl) rfl
theorem q150 : (Jvm.Cond.code ({ cls := "SequencePatterns", name := "waysFrom", desc := "(I)V" } : Jvm.MethodName) prog_1_method_15_code (4 : Nat) (Option.none : Option Jvm.ClassFile.FieldType)) ∈ lw_all := lw_g (lw_at lw_m1 133 rfl) rfl
theorem q151 : (Jvm.Cond.methodLink "SequencePatterns" (77 : Nat) ({ cls := "SequencePatterns", name := "waysOn", desc := "(II)I" } : Jvm.MethodName)) ∈ lw_all := lw_g (lw_at lw_m1 134 rfl) rfl
theorem q152 : (Jvm.Cond.privateMethod ({ cls := "SequencePatterns", name := "waysOn", desc := "(II)I" } : Jvm.MethodName)) ∈ lw_tbl := lw_at lw_m1 135 rfl
theorem q153 : (Jvm.Cond.instanceMethod ({ cls := "SequencePatterns", name := "waysOn", desc := "(II)I" } : Jvm.MethodName)) ∈ lw_all := lw_g (lw_at lw_m1 136 rfl) rfl
theorem q154 : (Jvm.Cond.code ({ cls := "SequencePatterns", name := "waysOn", desc := "(II)I" } : Jvm.MethodName) prog_1_method_14_code (5 : Nat) (Option.some Jvm.ClassFile.FieldType.int)) ∈ lw_all := lw_g (lw_at lw_m1 137 rfl) rfl
theorem q156 : (Jvm.Cond.instanceMethod ({ cls := "SequencePatterns", name := "longest", desc := "()I" } : Jvm.MethodName)) ∈ lw_all := lw_g (lw_at lw_m1 139 rfl) rfl
theorem q157 : (Jvm.Cond.selects "SequencePatterns" ({ cls := "SequencePatterns", name := "longest", desc := "()I" } : Jvm.MethodName) ({ cls := "SequencePatterns", name := "longest", desc := "()I" } : Jvm.MethodName)) ∈ lw_all := lw_g (lw_at lw_m1 140 rfl) rfl
theorem q158 : (Jvm.Cond.code ({ cls := "SequencePatterns", name := "longest", desc := "()I" } : Jvm.MethodName) prog_1_method_22_code (5 : Nat) (Option.some Jvm.ClassFile.FieldType.int)) ∈ lw_all := lw_g (lw_at lw_m1 141 rfl) rfl
theorem q160 : (Jvm.Cond.instanceMethod ({ cls := "SequencePatterns", name := "tightest", desc := "()I" } : Jvm.MethodName)) ∈ lw_all := lw_g (lw_at lw_m1 143 rfl) rfl
theorem q161 : (Jvm.Cond.selects "SequencePatterns" ({ cls := "SequencePatterns", name := "tightest", desc := "()I" } : Jvm.MethodName) ({ cls := "SequencePatterns", name := "tightest", desc := "()I" } : Jvm.MethodName)) ∈ lw_all := lw_g (lw_at lw_m1 144 rfl) rfl
theorem q162 : (Jvm.Cond.code ({ cls := "SequencePatterns", name := "tightest", desc := "()I" } : Jvm.MethodName) prog_1_method_23_code (6 : Nat) (Option.some Jvm.ClassFile.FieldType.int)) ∈ lw_all := lw_g (lw_at lw_m1 145 rfl) rfl
theorem q164 : (Jvm.Cond.instanceMethod ({ cls := "SequencePatterns", name := "lastValues", desc := "()I" } : Jvm.MethodName)) ∈ lw_all := lw_g (lw_at lw_m1 147 rfl) rfl
theorem q165 : (Jvm.Cond.selects "SequencePatterns" ({ cls := "SequencePatterns", name := "lastValues", desc := "()I" } : Jvm.MethodName) ({ cls := "SequencePatterns", name := "lastValues", desc := "()I" } : Jvm.MethodName)) ∈ lw_all := lw_g (lw_at lw_m1 148 rfl) rfl
theorem q166 : (Jvm.Cond.code ({ cls := "SequencePatterns", name := "lastValues", desc := "()I" } : Jvm.MethodName) prog_1_method_24_code (4 : Nat) (Option.some Jvm.ClassFile.FieldType.int)) ∈ lw_all := lw_g (lw_at lw_m1 149 rfl) rfl
theorem q168 : (Jvm.Cond.instanceMethod ({ cls := "SequencePatterns", name := "without", desc := "(I)I" } : Jvm.MethodName)) ∈ lw_all := lw_g (lw_at lw_m1 151 rfl) rfl
theorem q169 : (Jvm.Cond.selects "SequencePatterns" ({ cls := "SequencePatterns", name := "without", desc := "(I)I" } : Jvm.MethodName) ({ cls := "SequencePatterns", name := "without", desc := "(I)I" } : Jvm.MethodName)) ∈ lw_all := lw_g (lw_at lw_m1 152 rfl) rfl
theorem q170 : (Jvm.Cond.code ({ cls := "SequencePatterns", name := "without", desc := "(I)I" } : Jvm.MethodName) prog_1_method_25_code (4 : Nat) (Option.some Jvm.ClassFile.FieldType.int)) ∈ lw_all := lw_g (lw_at lw_m1 153 rfl) rfl
theorem q171 : (Jvm.Cond.methodLink "SequencePatterns" (97 : Nat) ({ cls := "SequencePatterns", name := "finds", desc := "()I" } : Jvm.MethodName)) ∈ lw_all := lw_g (lw_at lw_m1 154 rfl) rfl
theorem q172 : (Jvm.Cond.methodLink "SequencePatterns" (101 : Nat) ({ cls := "SequencePatterns", name := "using", desc := "(I)I" } : Jvm.MethodName)) ∈ lw_all := lw_g (lw_at lw_m1 155 rfl) rfl
theorem in_X0 : ∀ w ∈ wsX00, w ∈ lw_all := lw_in wsX00 [42, 44, 46, 48, 50, 52, 54, 56, 58, 60, 62, 64, 66, 68] (by decide +kernel) (by decide +kernel)
end
section
set_option maxRecDepth 100000
theorem dX0_init_0 : decode cX0_init 0 = .ok (.aload_n 0, 1) := by decide +kernel
theorem dX0_init_1 : decode cX0_init 1 = .ok (.invokespecial 1, 3) := by decide +kernel
theorem dX0_init_4 : decode cX0_init 4 = .ok (.aload_n 0, 1) := by decide +kernel
theorem dX0_init_5 : decode cX0_init 5 = .ok (.iconst 4, 1) := by decide +kernel
theorem dX0_init_6 : decode cX0_init 6 = .ok (.newarray .int, 2) := by decide +kernel
theorem dX0_init_8 : decode cX0_init 8 = .ok (.putfield 7, 3) := by decide +kernel
theorem dX0_init_11 : decode cX0_init 11 = .ok (.aload_n 0, 1) := by decide +kernel
theorem dX0_init_12 : decode cX0_init 12 = .ok (.iconst 4, 1) := by decide +kernel
theorem dX0_init_13 : decode cX0_init 13 = .ok (.newarray .int, 2) := by decide +kernel
theorem dX0_init_15 : decode cX0_init 15 = .ok (.putfield 13, 3) := by decide +kernel
theorem dX0_init_18 : decode cX0_init 18 = .ok (.aload_n 0, 1) := by decide +kernel
theorem dX0_init_19 : decode cX0_init 19 = .ok (.iconst 4, 1) := by decide +kernel
theorem dX0_init_20 : decode cX0_init 20 = .ok (.newarray .int, 2) := by decide +kernel
theorem dX0_init_22 : decode cX0_init 22 = .ok (.putfield 16, 3) := by decide +kernel
theorem dX0_init_25 : decode cX0_init 25 = .ok (.aload_n 0, 1) := by decide +kernel
theorem dX0_init_26 : decode cX0_init 26 = .ok (.iconst 4, 1) := by decide +kernel
theorem dX0_init_27 : decode cX0_init 27 = .ok (.newarray .boolean, 2) := by decide +kernel
theorem dX0_init_29 : decode cX0_init 29 = .ok (.putfield 19, 3) := by decide +kernel
theorem dX0_init_32 : decode cX0_init 32 = .ok (.aload_n 0, 1) := by decide +kernel
theorem dX0_init_33 : decode cX0_init 33 = .ok (.bipush 10, 2) := by decide +kernel
theorem dX0_init_35 : decode cX0_init 35 = .ok (.newarray .int, 2) := by decide +kernel
theorem dX0_init_37 : decode cX0_init 37 = .ok (.putfield 23, 3) := by decide +kernel
theorem dX0_init_40 : decode cX0_init 40 = .ok (.aload_n 0, 1) := by decide +kernel
theorem dX0_init_41 : decode cX0_init 41 = .ok (.bipush 10, 2) := by decide +kernel
theorem dX0_init_43 : decode cX0_init 43 = .ok (.newarray .int, 2) := by decide +kernel
theorem dX0_init_45 : decode cX0_init 45 = .ok (.putfield 26, 3) := by decide +kernel
theorem dX0_init_48 : decode cX0_init 48 = .ok (.aload_n 0, 1) := by decide +kernel
theorem dX0_init_49 : decode cX0_init 49 = .ok (.bipush 10, 2) := by decide +kernel
theorem dX0_init_51 : decode cX0_init 51 = .ok (.newarray .int, 2) := by decide +kernel
theorem dX0_init_53 : decode cX0_init 53 = .ok (.putfield 29, 3) := by decide +kernel
theorem dX0_init_56 : decode cX0_init 56 = .ok (.aload_n 0, 1) := by decide +kernel
theorem dX0_init_57 : decode cX0_init 57 = .ok (.bipush 40, 2) := by decide +kernel
theorem dX0_init_59 : decode cX0_init 59 = .ok (.newarray .int, 2) := by decide +kernel
theorem dX0_init_61 : decode cX0_init 61 = .ok (.putfield 32, 3) := by decide +kernel
theorem dX0_init_64 : decode cX0_init 64 = .ok (.aload_n 0, 1) := by decide +kernel
theorem dX0_init_65 : decode cX0_init 65 = .ok (.bipush 40, 2) := by decide +kernel
theorem dX0_init_67 : decode cX0_init 67 = .ok (.newarray .int, 2) := by decide +kernel
theorem dX0_init_69 : decode cX0_init 69 = .ok (.putfield 35, 3) := by decide +kernel
theorem dX0_init_72 : decode cX0_init 72 = .ok (.aload_n 0, 1) := by decide +kernel
theorem dX0_init_73 : decode cX0_init 73 = .ok (.bipush 40, 2) := by decide +kernel
theorem dX0_init_75 : decode cX0_init 75 = .ok (.newarray .int, 2) := by decide +kernel
theorem dX0_init_77 : decode cX0_init 77 = .ok (.putfield 38, 3) := by decide +kernel
theorem dX0_init_80 : decode cX0_init 80 = .ok (.aload_n 0, 1) := by decide +kernel
theorem dX0_init_81 : decode cX0_init 81 = .ok (.iconst 1, 1) := by decide +kernel
theorem dX0_init_82 : decode cX0_init 82 = .ok (.putfield 41, 3) := by decide +kernel
theorem dX0_init_85 : decode cX0_init 85 = .ok (.aload_n 0, 1) := by decide +kernel
theorem dX0_init_86 : decode cX0_init 86 = .ok (.getfield 7, 3) := by decide +kernel
theorem dX0_init_89 : decode cX0_init 89 = .ok (.iconst 0, 1) := by decide +kernel
theorem dX0_init_90 : decode cX0_init 90 = .ok (.iconst 4, 1) := by decide +kernel
theorem dX0_init_91 : decode cX0_init 91 = .ok (.iastore, 1) := by decide +kernel
theorem dX0_init_92 : decode cX0_init 92 = .ok (.aload_n 0, 1) := by decide +kernel
theorem dX0_init_93 : decode cX0_init 93 = .ok (.bipush 10, 2) := by decide +kernel
theorem dX0_init_95 : decode cX0_init 95 = .ok (.putfield 45, 3) := by decide +kernel
theorem dX0_init_98 : decode cX0_init 98 = .ok (.return_, 1) := by decide +kernel
theorem dX0_begin_0 : decode cX0_begin 0 = .ok (.aload_n 0, 1) := by decide +kernel
theorem dX0_begin_1 : decode cX0_begin 1 = .ok (.iconst 0, 1) := by decide +kernel
theorem dX0_begin_2 : decode cX0_begin 2 = .ok (.putfield 41, 3) := by decide +kernel
theorem dX0_begin_5 : decode cX0_begin 5 = .ok (.return_, 1) := by decide +kernel
theorem dX0_step_0 : decode cX0_step 0 = .ok (.iload_n 3, 1) := by decide +kernel
theorem dX0_step_1 : decode cX0_step 1 = .ok (.bipush 7, 2) := by decide +kernel
theorem dX0_step_3 : decode cX0_step 3 = .ok (.iand, 1) := by decide +kernel
theorem dX0_step_4 : decode cX0_step 4 = .ok (.istore 4, 2) := by decide +kernel
theorem dX0_step_6 : decode cX0_step 6 = .ok (.iload_n 1, 1) := by decide +kernel
theorem dX0_step_7 : decode cX0_step 7 = .ok (.ifCond .lt 18, 3) := by decide +kernel
theorem dX0_step_10 : decode cX0_step 10 = .ok (.iload_n 1, 1) := by decide +kernel
theorem dX0_step_11 : decode cX0_step 11 = .ok (.iconst 4, 1) := by decide +kernel
theorem dX0_step_12 : decode cX0_step 12 = .ok (.if_icmp .gt 13, 3) := by decide +kernel
theorem dX0_step_15 : decode cX0_step 15 = .ok (.iload_n 2, 1) := by decide +kernel
theorem dX0_step_16 : decode cX0_step 16 = .ok (.ifCond .lt 9, 3) := by decide +kernel
theorem dX0_step_19 : decode cX0_step 19 = .ok (.iload_n 2, 1) := by decide +kernel
theorem dX0_step_20 : decode cX0_step 20 = .ok (.bipush 9, 2) := by decide +kernel
theorem dX0_step_22 : decode cX0_step 22 = .ok (.if_icmp .le 5, 3) := by decide +kernel
theorem dX0_step_25 : decode cX0_step 25 = .ok (.iconst (-1), 1) := by decide +kernel
theorem dX0_step_26 : decode cX0_step 26 = .ok (.ireturn, 1) := by decide +kernel
theorem dX0_step_27 : decode cX0_step 27 = .ok (.iload_n 3, 1) := by decide +kernel
theorem dX0_step_28 : decode cX0_step 28 = .ok (.ifCond .lt 15, 3) := by decide +kernel
theorem dX0_step_31 : decode cX0_step 31 = .ok (.iload_n 3, 1) := by decide +kernel
theorem dX0_step_32 : decode cX0_step 32 = .ok (.bipush 15, 2) := by decide +kernel
theorem dX0_step_34 : decode cX0_step 34 = .ok (.if_icmp .gt 9, 3) := by decide +kernel
theorem dX0_step_37 : decode cX0_step 37 = .ok (.iload 4, 2) := by decide +kernel
theorem dX0_step_39 : decode cX0_step 39 = .ok (.iconst 4, 1) := by decide +kernel
theorem dX0_step_40 : decode cX0_step 40 = .ok (.if_icmp .le 5, 3) := by decide +kernel
theorem dX0_step_43 : decode cX0_step 43 = .ok (.iconst (-1), 1) := by decide +kernel
theorem dX0_step_44 : decode cX0_step 44 = .ok (.ireturn, 1) := by decide +kernel
theorem dX0_step_45 : decode cX0_step 45 = .ok (.aload_n 0, 1) := by decide +kernel
theorem dX0_step_46 : decode cX0_step 46 = .ok (.getfield 41, 3) := by decide +kernel
theorem dX0_step_49 : decode cX0_step 49 = .ok (.iconst 4, 1) := by decide +kernel
theorem dX0_step_50 : decode cX0_step 50 = .ok (.if_icmp .ne 6, 3) := by decide +kernel
theorem dX0_step_53 : decode cX0_step 53 = .ok (.bipush (-2), 2) := by decide +kernel
theorem dX0_step_55 : decode cX0_step 55 = .ok (.ireturn, 1) := by decide +kernel
theorem dX0_step_56 : decode cX0_step 56 = .ok (.aload_n 0, 1) := by decide +kernel
theorem dX0_step_57 : decode cX0_step 57 = .ok (.getfield 7, 3) := by decide +kernel
theorem dX0_step_60 : decode cX0_step 60 = .ok (.aload_n 0, 1) := by decide +kernel
theorem dX0_step_61 : decode cX0_step 61 = .ok (.getfield 41, 3) := by decide +kernel
theorem dX0_step_64 : decode cX0_step 64 = .ok (.iload_n 1, 1) := by decide +kernel
theorem dX0_step_65 : decode cX0_step 65 = .ok (.iastore, 1) := by decide +kernel
theorem dX0_step_66 : decode cX0_step 66 = .ok (.aload_n 0, 1) := by decide +kernel
theorem dX0_step_67 : decode cX0_step 67 = .ok (.getfield 13, 3) := by decide +kernel
theorem dX0_step_70 : decode cX0_step 70 = .ok (.aload_n 0, 1) := by decide +kernel
theorem dX0_step_71 : decode cX0_step 71 = .ok (.getfield 41, 3) := by decide +kernel
theorem dX0_step_74 : decode cX0_step 74 = .ok (.iload_n 2, 1) := by decide +kernel
theorem dX0_step_75 : decode cX0_step 75 = .ok (.iastore, 1) := by decide +kernel
theorem dX0_step_76 : decode cX0_step 76 = .ok (.aload_n 0, 1) := by decide +kernel
theorem dX0_step_77 : decode cX0_step 77 = .ok (.getfield 16, 3) := by decide +kernel
theorem dX0_step_80 : decode cX0_step 80 = .ok (.aload_n 0, 1) := by decide +kernel
theorem dX0_step_81 : decode cX0_step 81 = .ok (.getfield 41, 3) := by decide +kernel
theorem dX0_step_84 : decode cX0_step 84 = .ok (.iload 4, 2) := by decide +kernel
theorem dX0_step_86 : decode cX0_step 86 = .ok (.iastore, 1) := by decide +kernel
theorem dX0_step_87 : decode cX0_step 87 = .ok (.aload_n 0, 1) := by decide +kernel
theorem dX0_step_88 : decode cX0_step 88 = .ok (.getfield 19, 3) := by decide +kernel
theorem dX0_step_91 : decode cX0_step 91 = .ok (.aload_n 0, 1) := by decide +kernel
theorem dX0_step_92 : decode cX0_step 92 = .ok (.getfield 41, 3) := by decide +kernel
theorem dX0_step_95 : decode cX0_step 95 = .ok (.iload_n 3, 1) := by decide +kernel
theorem dX0_step_96 : decode cX0_step 96 = .ok (.bipush 8, 2) := by decide +kernel
theorem dX0_step_98 : decode cX0_step 98 = .ok (.if_icmp .lt 7, 3) := by decide +kernel
theorem dX0_step_101 : decode cX0_step 101 = .ok (.iconst 1, 1) := by decide +kernel
theorem dX0_step_102 : decode cX0_step 102 = .ok (.goto 4, 3) := by decide +kernel
theorem dX0_step_105 : decode cX0_step 105 = .ok (.iconst 0, 1) := by decide +kernel
theorem dX0_step_106 : decode cX0_step 106 = .ok (.bastore, 1) := by decide +kernel
theorem dX0_step_107 : decode cX0_step 107 = .ok (.aload_n 0, 1) := by decide +kernel
theorem dX0_step_108 : decode cX0_step 108 = .ok (.dup, 1) := by decide +kernel
theorem dX0_step_109 : decode cX0_step 109 = .ok (.getfield 41, 3) := by decide +kernel
theorem dX0_step_112 : decode cX0_step 112 = .ok (.iconst 1, 1) := by decide +kernel
theorem dX0_step_113 : decode cX0_step 113 = .ok (.iadd, 1) := by decide +kernel
theorem dX0_step_114 : decode cX0_step 114 = .ok (.putfield 41, 3) := by decide +kernel
theorem dX0_step_117 : decode cX0_step 117 = .ok (.aload_n 0, 1) := by decide +kernel
theorem dX0_step_118 : decode cX0_step 118 = .ok (.getfield 41, 3) := by decide +kernel
theorem dX0_step_121 : decode cX0_step 121 = .ok (.ireturn, 1) := by decide +kernel
theorem dX0_window_0 : decode cX0_window 0 = .ok (.iload_n 1, 1) := by decide +kernel
theorem dX0_window_1 : decode cX0_window 1 = .ok (.ifCond .lt 9, 3) := by decide +kernel
theorem dX0_window_4 : decode cX0_window 4 = .ok (.iload_n 1, 1) := by decide +kernel
theorem dX0_window_5 : decode cX0_window 5 = .ok (.bipush 40, 2) := by decide +kernel
theorem dX0_window_7 : decode cX0_window 7 = .ok (.if_icmp .le 5, 3) := by decide +kernel
theorem dX0_window_10 : decode cX0_window 10 = .ok (.iconst (-1), 1) := by decide +kernel
theorem dX0_window_11 : decode cX0_window 11 = .ok (.ireturn, 1) := by decide +kernel
theorem dX0_window_12 : decode cX0_window 12 = .ok (.aload_n 0, 1) := by decide +kernel
theorem dX0_window_13 : decode cX0_window 13 = .ok (.getfield 45, 3) := by decide +kernel
theorem dX0_window_16 : decode cX0_window 16 = .ok (.istore_n 2, 1) := by decide +kernel
theorem dX0_window_17 : decode cX0_window 17 = .ok (.aload_n 0, 1) := by decide +kernel
theorem dX0_window_18 : decode cX0_window 18 = .ok (.iload_n 1, 1) := by decide +kernel
theorem dX0_window_19 : decode cX0_window 19 = .ok (.putfield 45, 3) := by decide +kernel
theorem dX0_window_22 : decode cX0_window 22 = .ok (.iload_n 2, 1) := by decide +kernel
theorem dX0_window_23 : decode cX0_window 23 = .ok (.ireturn, 1) := by decide +kernel
theorem dX0_event_0 : decode cX0_event 0 = .ok (.iload_n 1, 1) := by decide +kernel
theorem dX0_event_1 : decode cX0_event 1 = .ok (.ifCond .lt 27, 3) := by decide +kernel
theorem dX0_event_4 : decode cX0_event 4 = .ok (.iload_n 1, 1) := by decide +kernel
theorem dX0_event_5 : decode cX0_event 5 = .ok (.iconst 3, 1) := by decide +kernel
theorem dX0_event_6 : decode cX0_event 6 = .ok (.if_icmp .gt 22, 3) := by decide +kernel
theorem dX0_event_9 : decode cX0_event 9 = .ok (.iload_n 2, 1) := by decide +kernel
theorem dX0_event_10 : decode cX0_event 10 = .ok (.ifCond .lt 18, 3) := by decide +kernel
theorem dX0_event_13 : decode cX0_event 13 = .ok (.iload_n 2, 1) := by decide +kernel
theorem dX0_event_14 : decode cX0_event 14 = .ok (.bipush 9, 2) := by decide +kernel
theorem dX0_event_16 : decode cX0_event 16 = .ok (.if_icmp .gt 12, 3) := by decide +kernel
theorem dX0_event_19 : decode cX0_event 19 = .ok (.iload_n 3, 1) := by decide +kernel
theorem dX0_event_20 : decode cX0_event 20 = .ok (.ifCond .lt 8, 3) := by decide +kernel
theorem dX0_event_23 : decode cX0_event 23 = .ok (.iload_n 3, 1) := by decide +kernel
theorem dX0_event_24 : decode cX0_event 24 = .ok (.iconst 5, 1) := by decide +kernel
theorem dX0_event_25 : decode cX0_event 25 = .ok (.if_icmp .le 5, 3) := by decide +kernel
theorem dX0_event_28 : decode cX0_event 28 = .ok (.iconst (-1), 1) := by decide +kernel
theorem dX0_event_29 : decode cX0_event 29 = .ok (.ireturn, 1) := by decide +kernel
theorem dX0_event_30 : decode cX0_event 30 = .ok (.aload_n 0, 1) := by decide +kernel
theorem dX0_event_31 : decode cX0_event 31 = .ok (.getfield 48, 3) := by decide +kernel
theorem dX0_event_34 : decode cX0_event 34 = .ok (.bipush 10, 2) := by decide +kernel
theorem dX0_event_36 : decode cX0_event 36 = .ok (.if_icmp .ne 6, 3) := by decide +kernel
theorem dX0_event_39 : decode cX0_event 39 = .ok (.bipush (-2), 2) := by decide +kernel
theorem dX0_event_41 : decode cX0_event 41 = .ok (.ireturn, 1) := by decide +kernel
theorem dX0_event_42 : decode cX0_event 42 = .ok (.aload_n 0, 1) := by decide +kernel
theorem dX0_event_43 : decode cX0_event 43 = .ok (.getfield 23, 3) := by decide +kernel
theorem dX0_event_46 : decode cX0_event 46 = .ok (.aload_n 0, 1) := by decide +kernel
theorem dX0_event_47 : decode cX0_event 47 = .ok (.getfield 48, 3) := by decide +kernel
theorem dX0_event_50 : decode cX0_event 50 = .ok (.iload_n 1, 1) := by decide +kernel
theorem dX0_event_51 : decode cX0_event 51 = .ok (.iastore, 1) := by decide +kernel
theorem dX0_event_52 : decode cX0_event 52 = .ok (.aload_n 0, 1) := by decide +kernel
theorem dX0_event_53 : decode cX0_event 53 = .ok (.getfield 26, 3) := by decide +kernel
theorem dX0_event_56 : decode cX0_event 56 = .ok (.aload_n 0, 1) := by decide +kernel
theorem dX0_event_57 : decode cX0_event 57 = .ok (.getfield 48, 3) := by decide +kernel
theorem dX0_event_60 : decode cX0_event 60 = .ok (.iload_n 2, 1) := by decide +kernel
theorem dX0_event_61 : decode cX0_event 61 = .ok (.iastore, 1) := by decide +kernel
theorem dX0_event_62 : decode cX0_event 62 = .ok (.aload_n 0, 1) := by decide +kernel
theorem dX0_event_63 : decode cX0_event 63 = .ok (.getfield 29, 3) := by decide +kernel
theorem dX0_event_66 : decode cX0_event 66 = .ok (.aload_n 0, 1) := by decide +kernel
theorem dX0_event_67 : decode cX0_event 67 = .ok (.getfield 48, 3) := by decide +kernel
theorem dX0_event_70 : decode cX0_event 70 = .ok (.aload_n 0, 1) := by decide +kernel
theorem dX0_event_71 : decode cX0_event 71 = .ok (.getfield 48, 3) := by decide +kernel
theorem dX0_event_74 : decode cX0_event 74 = .ok (.ifCond .ne 7, 3) := by decide +kernel
theorem dX0_event_77 : decode cX0_event 77 = .ok (.iconst 0, 1) := by decide +kernel
theorem dX0_event_78 : decode cX0_event 78 = .ok (.goto 14, 3) := by decide +kernel
theorem dX0_event_81 : decode cX0_event 81 = .ok (.aload_n 0, 1) := by decide +kernel
theorem dX0_event_82 : decode cX0_event 82 = .ok (.getfield 29, 3) := by decide +kernel
theorem dX0_event_85 : decode cX0_event 85 = .ok (.aload_n 0, 1) := by decide +kernel
theorem dX0_event_86 : decode cX0_event 86 = .ok (.getfield 48, 3) := by decide +kernel
theorem dX0_event_89 : decode cX0_event 89 = .ok (.iconst 1, 1) := by decide +kernel
theorem dX0_event_90 : decode cX0_event 90 = .ok (.isub, 1) := by decide +kernel
theorem dX0_event_91 : decode cX0_event 91 = .ok (.iaload, 1) := by decide +kernel
theorem dX0_event_92 : decode cX0_event 92 = .ok (.iload_n 3, 1) := by decide +kernel
theorem dX0_event_93 : decode cX0_event 93 = .ok (.iadd, 1) := by decide +kernel
theorem dX0_event_94 : decode cX0_event 94 = .ok (.iastore, 1) := by decide +kernel
theorem dX0_event_95 : decode cX0_event 95 = .ok (.aload_n 0, 1) := by decide +kernel
theorem dX0_event_96 : decode cX0_event 96 = .ok (.dup, 1) := by decide +kernel
theorem dX0_event_97 : decode cX0_event 97 = .ok (.getfield 48, 3) := by decide +kernel
theorem dX0_event_100 : decode cX0_event 100 = .ok (.iconst 1, 1) := by decide +kernel
theorem dX0_event_101 : decode cX0_event 101 = .ok (.iadd, 1) := by decide +kernel
theorem dX0_event_102 : decode cX0_event 102 = .ok (.putfield 48, 3) := by decide +kernel
theorem dX0_event_105 : decode cX0_event 105 = .ok (.aload_n 0, 1) := by decide +kernel
theorem dX0_event_106 : decode cX0_event 106 = .ok (.aload_n 0, 1) := by decide +kernel
theorem dX0_event_107 : decode cX0_event 107 = .ok (.getfield 48, 3) := by decide +kernel
theorem dX0_event_110 : decode cX0_event 110 = .ok (.iconst 1, 1) := by decide +kernel
theorem dX0_event_111 : decode cX0_event 111 = .ok (.isub, 1) := by decide +kernel
theorem dX0_event_112 : decode cX0_event 112 = .ok (.invokevirtual 51, 3) := by decide +kernel
theorem dX0_event_115 : decode cX0_event 115 = .ok (.ireturn, 1) := by decide +kernel
theorem dX0_endingAt_0 : decode cX0_endingAt 0 = .ok (.aload_n 0, 1) := by decide +kernel
theorem dX0_endingAt_1 : decode cX0_endingAt 1 = .ok (.iload_n 1, 1) := by decide +kernel
theorem dX0_endingAt_2 : decode cX0_endingAt 2 = .ok (.invokevirtual 84, 3) := by decide +kernel
theorem dX0_endingAt_5 : decode cX0_endingAt 5 = .ok (.ifCond .eq 6, 3) := by decide +kernel
theorem dX0_endingAt_8 : decode cX0_endingAt 8 = .ok (.bipush (-4), 2) := by decide +kernel
theorem dX0_endingAt_10 : decode cX0_endingAt 10 = .ok (.ireturn, 1) := by decide +kernel
theorem dX0_endingAt_11 : decode cX0_endingAt 11 = .ok (.iconst 0, 1) := by decide +kernel
theorem dX0_endingAt_12 : decode cX0_endingAt 12 = .ok (.istore_n 2, 1) := by decide +kernel
theorem dX0_endingAt_13 : decode cX0_endingAt 13 = .ok (.iconst 0, 1) := by decide +kernel
theorem dX0_endingAt_14 : decode cX0_endingAt 14 = .ok (.istore_n 3, 1) := by decide +kernel
theorem dX0_endingAt_15 : decode cX0_endingAt 15 = .ok (.iload_n 3, 1) := by decide +kernel
theorem dX0_endingAt_16 : decode cX0_endingAt 16 = .ok (.iload_n 1, 1) := by decide +kernel
theorem dX0_endingAt_17 : decode cX0_endingAt 17 = .ok (.if_icmp .gt 26, 3) := by decide +kernel
theorem dX0_endingAt_20 : decode cX0_endingAt 20 = .ok (.aload_n 0, 1) := by decide +kernel
theorem dX0_endingAt_21 : decode cX0_endingAt 21 = .ok (.iload_n 3, 1) := by decide +kernel
theorem dX0_endingAt_22 : decode cX0_endingAt 22 = .ok (.invokevirtual 87, 3) := by decide +kernel
theorem dX0_endingAt_25 : decode cX0_endingAt 25 = .ok (.aload_n 0, 1) := by decide +kernel
theorem dX0_endingAt_26 : decode cX0_endingAt 26 = .ok (.iload_n 1, 1) := by decide +kernel
theorem dX0_endingAt_27 : decode cX0_endingAt 27 = .ok (.invokevirtual 91, 3) := by decide +kernel
theorem dX0_endingAt_30 : decode cX0_endingAt 30 = .ok (.istore 4, 2) := by decide +kernel
theorem dX0_endingAt_32 : decode cX0_endingAt 32 = .ok (.iload_n 2, 1) := by decide +kernel
theorem dX0_endingAt_33 : decode cX0_endingAt 33 = .ok (.iload 4, 2) := by decide +kernel
theorem dX0_endingAt_35 : decode cX0_endingAt 35 = .ok (.iadd, 1) := by decide +kernel
theorem dX0_endingAt_36 : decode cX0_endingAt 36 = .ok (.istore_n 2, 1) := by decide +kernel
theorem dX0_endingAt_37 : decode cX0_endingAt 37 = .ok (.iinc 3 1, 3) := by decide +kernel
theorem dX0_endingAt_40 : decode cX0_endingAt 40 = .ok (.goto (-25), 3) := by decide +kernel
theorem dX0_endingAt_43 : decode cX0_endingAt 43 = .ok (.iload_n 2, 1) := by decide +kernel
theorem dX0_endingAt_44 : decode cX0_endingAt 44 = .ok (.ireturn, 1) := by decide +kernel
theorem dX0_noEvent_0 : decode cX0_noEvent 0 = .ok (.iload_n 1, 1) := by decide +kernel
theorem dX0_noEvent_1 : decode cX0_noEvent 1 = .ok (.ifCond .lt 11, 3) := by decide +kernel
theorem dX0_noEvent_4 : decode cX0_noEvent 4 = .ok (.iload_n 1, 1) := by decide +kernel
theorem dX0_noEvent_5 : decode cX0_noEvent 5 = .ok (.aload_n 0, 1) := by decide +kernel
theorem dX0_noEvent_6 : decode cX0_noEvent 6 = .ok (.getfield 48, 3) := by decide +kernel
theorem dX0_noEvent_9 : decode cX0_noEvent 9 = .ok (.if_icmp .lt 7, 3) := by decide +kernel
theorem dX0_noEvent_12 : decode cX0_noEvent 12 = .ok (.iconst 1, 1) := by decide +kernel
theorem dX0_noEvent_13 : decode cX0_noEvent 13 = .ok (.goto 4, 3) := by decide +kernel
theorem dX0_noEvent_16 : decode cX0_noEvent 16 = .ok (.iconst 0, 1) := by decide +kernel
theorem dX0_noEvent_17 : decode cX0_noEvent 17 = .ok (.ireturn, 1) := by decide +kernel
theorem dX0_runFrom_0 : decode cX0_runFrom 0 = .ok (.aload_n 0, 1) := by decide +kernel
theorem dX0_runFrom_1 : decode cX0_runFrom 1 = .ok (.iload_n 1, 1) := by decide +kernel
theorem dX0_runFrom_2 : decode cX0_runFrom 2 = .ok (.putfield 55, 3) := by decide +kernel
theorem dX0_runFrom_5 : decode cX0_runFrom 5 = .ok (.iconst 0, 1) := by decide +kernel
theorem dX0_runFrom_6 : decode cX0_runFrom 6 = .ok (.istore_n 2, 1) := by decide +kernel
theorem dX0_runFrom_7 : decode cX0_runFrom 7 = .ok (.iload_n 2, 1) := by decide +kernel
theorem dX0_runFrom_8 : decode cX0_runFrom 8 = .ok (.bipush 40, 2) := by decide +kernel
theorem dX0_runFrom_10 : decode cX0_runFrom 10 = .ok (.if_icmp .ge 23, 3) := by decide +kernel
theorem dX0_runFrom_13 : decode cX0_runFrom 13 = .ok (.aload_n 0, 1) := by decide +kernel
theorem dX0_runFrom_14 : decode cX0_runFrom 14 = .ok (.getfield 32, 3) := by decide +kernel
theorem dX0_runFrom_17 : decode cX0_runFrom 17 = .ok (.iload_n 2, 1) := by decide +kernel
theorem dX0_runFrom_18 : decode cX0_runFrom 18 = .ok (.iconst 0, 1) := by decide +kernel
theorem dX0_runFrom_19 : decode cX0_runFrom 19 = .ok (.iastore, 1) := by decide +kernel
theorem dX0_runFrom_20 : decode cX0_runFrom 20 = .ok (.aload_n 0, 1) := by decide +kernel
theorem dX0_runFrom_21 : decode cX0_runFrom 21 = .ok (.getfield 38, 3) := by decide +kernel
theorem dX0_runFrom_24 : decode cX0_runFrom 24 = .ok (.iload_n 2, 1) := by decide +kernel
theorem dX0_runFrom_25 : decode cX0_runFrom 25 = .ok (.iconst 0, 1) := by decide +kernel
theorem dX0_runFrom_26 : decode cX0_runFrom 26 = .ok (.iastore, 1) := by decide +kernel
theorem dX0_runFrom_27 : decode cX0_runFrom 27 = .ok (.iinc 2 1, 3) := by decide +kernel
theorem dX0_runFrom_30 : decode cX0_runFrom 30 = .ok (.goto (-23), 3) := by decide +kernel
theorem dX0_runFrom_33 : decode cX0_runFrom 33 = .ok (.aload_n 0, 1) := by decide +kernel
theorem dX0_runFrom_34 : decode cX0_runFrom 34 = .ok (.getfield 41, 3) := by decide +kernel
theorem dX0_runFrom_37 : decode cX0_runFrom 37 = .ok (.ifCond .le 20, 3) := by decide +kernel
theorem dX0_runFrom_40 : decode cX0_runFrom 40 = .ok (.aload_n 0, 1) := by decide +kernel
theorem dX0_runFrom_41 : decode cX0_runFrom 41 = .ok (.iconst 0, 1) := by decide +kernel
theorem dX0_runFrom_42 : decode cX0_runFrom 42 = .ok (.iconst (-1), 1) := by decide +kernel
theorem dX0_runFrom_43 : decode cX0_runFrom 43 = .ok (.iload_n 1, 1) := by decide +kernel
theorem dX0_runFrom_44 : decode cX0_runFrom 44 = .ok (.invokevirtual 58, 3) := by decide +kernel
theorem dX0_runFrom_47 : decode cX0_runFrom 47 = .ok (.ifCond .eq 10, 3) := by decide +kernel
theorem dX0_runFrom_50 : decode cX0_runFrom 50 = .ok (.aload_n 0, 1) := by decide +kernel
theorem dX0_runFrom_51 : decode cX0_runFrom 51 = .ok (.iload_n 1, 1) := by decide +kernel
theorem dX0_runFrom_52 : decode cX0_runFrom 52 = .ok (.iconst 1, 1) := by decide +kernel
theorem dX0_runFrom_53 : decode cX0_runFrom 53 = .ok (.iconst 1, 1) := by decide +kernel
theorem dX0_runFrom_54 : decode cX0_runFrom 54 = .ok (.invokevirtual 62, 3) := by decide +kernel
theorem dX0_runFrom_57 : decode cX0_runFrom 57 = .ok (.iload_n 1, 1) := by decide +kernel
theorem dX0_runFrom_58 : decode cX0_runFrom 58 = .ok (.iconst 1, 1) := by decide +kernel
theorem dX0_runFrom_59 : decode cX0_runFrom 59 = .ok (.iadd, 1) := by decide +kernel
theorem dX0_runFrom_60 : decode cX0_runFrom 60 = .ok (.istore_n 2, 1) := by decide +kernel
theorem dX0_runFrom_61 : decode cX0_runFrom 61 = .ok (.iload_n 2, 1) := by decide +kernel
theorem dX0_runFrom_62 : decode cX0_runFrom 62 = .ok (.aload_n 0, 1) := by decide +kernel
theorem dX0_runFrom_63 : decode cX0_runFrom 63 = .ok (.getfield 48, 3) := by decide +kernel
theorem dX0_runFrom_66 : decode cX0_runFrom 66 = .ok (.if_icmp .ge 36, 3) := by decide +kernel
theorem dX0_runFrom_69 : decode cX0_runFrom 69 = .ok (.aload_n 0, 1) := by decide +kernel
theorem dX0_runFrom_70 : decode cX0_runFrom 70 = .ok (.iload_n 2, 1) := by decide +kernel
theorem dX0_runFrom_71 : decode cX0_runFrom 71 = .ok (.invokevirtual 66, 3) := by decide +kernel
theorem dX0_runFrom_74 : decode cX0_runFrom 74 = .ok (.ifCond .eq 22, 3) := by decide +kernel
theorem dX0_runFrom_77 : decode cX0_runFrom 77 = .ok (.iload_n 1, 1) := by decide +kernel
theorem dX0_runFrom_78 : decode cX0_runFrom 78 = .ok (.istore_n 3, 1) := by decide +kernel
theorem dX0_runFrom_79 : decode cX0_runFrom 79 = .ok (.iload_n 3, 1) := by decide +kernel
theorem dX0_runFrom_80 : decode cX0_runFrom 80 = .ok (.iload_n 2, 1) := by decide +kernel
theorem dX0_runFrom_81 : decode cX0_runFrom 81 = .ok (.if_icmp .ge 15, 3) := by decide +kernel
theorem dX0_runFrom_84 : decode cX0_runFrom 84 = .ok (.aload_n 0, 1) := by decide +kernel
theorem dX0_runFrom_85 : decode cX0_runFrom 85 = .ok (.iload_n 3, 1) := by decide +kernel
theorem dX0_runFrom_86 : decode cX0_runFrom 86 = .ok (.iload_n 2, 1) := by decide +kernel
theorem dX0_runFrom_87 : decode cX0_runFrom 87 = .ok (.invokevirtual 70, 3) := by decide +kernel
theorem dX0_runFrom_90 : decode cX0_runFrom 90 = .ok (.iinc 3 1, 3) := by decide +kernel
theorem dX0_runFrom_93 : decode cX0_runFrom 93 = .ok (.goto (-14), 3) := by decide +kernel
theorem dX0_runFrom_96 : decode cX0_runFrom 96 = .ok (.iinc 2 1, 3) := by decide +kernel
theorem dX0_runFrom_99 : decode cX0_runFrom 99 = .ok (.goto (-38), 3) := by decide +kernel
theorem dX0_runFrom_102 : decode cX0_runFrom 102 = .ok (.return_, 1) := by decide +kernel
theorem dX0_meets_0 : decode cX0_meets 0 = .ok (.aload_n 0, 1) := by decide +kernel
theorem dX0_meets_1 : decode cX0_meets 1 = .ok (.getfield 7, 3) := by decide +kernel
theorem dX0_meets_4 : decode cX0_meets 4 = .ok (.iload_n 1, 1) := by decide +kernel
theorem dX0_meets_5 : decode cX0_meets 5 = .ok (.iaload, 1) := by decide +kernel
theorem dX0_meets_6 : decode cX0_meets 6 = .ok (.iconst 4, 1) := by decide +kernel
theorem dX0_meets_7 : decode cX0_meets 7 = .ok (.if_icmp .eq 20, 3) := by decide +kernel
theorem dX0_meets_10 : decode cX0_meets 10 = .ok (.aload_n 0, 1) := by decide +kernel
theorem dX0_meets_11 : decode cX0_meets 11 = .ok (.getfield 7, 3) := by decide +kernel
theorem dX0_meets_14 : decode cX0_meets 14 = .ok (.iload_n 1, 1) := by decide +kernel
theorem dX0_meets_15 : decode cX0_meets 15 = .ok (.iaload, 1) := by decide +kernel
theorem dX0_meets_16 : decode cX0_meets 16 = .ok (.aload_n 0, 1) := by decide +kernel
theorem dX0_meets_17 : decode cX0_meets 17 = .ok (.getfield 23, 3) := by decide +kernel
end
section
set_option maxRecDepth 100000
theorem dX0_meets_20 : decode cX0_meets 20 = .ok (.iload_n 3, 1) := by decide +kernel
theorem dX0_meets_21 : decode cX0_meets 21 = .ok (.iaload, 1) := by decide +kernel
theorem dX0_meets_22 : decode cX0_meets 22 = .ok (.if_icmp .eq 5, 3) := by decide +kernel
theorem dX0_meets_25 : decode cX0_meets 25 = .ok (.iconst 0, 1) := by decide +kernel
theorem dX0_meets_26 : decode cX0_meets 26 = .ok (.ireturn, 1) := by decide +kernel
theorem dX0_meets_27 : decode cX0_meets 27 = .ok (.aload_n 0, 1) := by decide +kernel
theorem dX0_meets_28 : decode cX0_meets 28 = .ok (.getfield 16, 3) := by decide +kernel
theorem dX0_meets_31 : decode cX0_meets 31 = .ok (.iload_n 1, 1) := by decide +kernel
theorem dX0_meets_32 : decode cX0_meets 32 = .ok (.iaload, 1) := by decide +kernel
theorem dX0_meets_33 : decode cX0_meets 33 = .ok (.iconst 1, 1) := by decide +kernel
theorem dX0_meets_34 : decode cX0_meets 34 = .ok (.if_icmp .ne 28, 3) := by decide +kernel
theorem dX0_meets_37 : decode cX0_meets 37 = .ok (.iload_n 2, 1) := by decide +kernel
theorem dX0_meets_38 : decode cX0_meets 38 = .ok (.ifCond .lt 18, 3) := by decide +kernel
theorem dX0_meets_41 : decode cX0_meets 41 = .ok (.aload_n 0, 1) := by decide +kernel
theorem dX0_meets_42 : decode cX0_meets 42 = .ok (.getfield 26, 3) := by decide +kernel
theorem dX0_meets_45 : decode cX0_meets 45 = .ok (.iload_n 3, 1) := by decide +kernel
theorem dX0_meets_46 : decode cX0_meets 46 = .ok (.iaload, 1) := by decide +kernel
theorem dX0_meets_47 : decode cX0_meets 47 = .ok (.aload_n 0, 1) := by decide +kernel
theorem dX0_meets_48 : decode cX0_meets 48 = .ok (.getfield 26, 3) := by decide +kernel
theorem dX0_meets_51 : decode cX0_meets 51 = .ok (.iload_n 2, 1) := by decide +kernel
theorem dX0_meets_52 : decode cX0_meets 52 = .ok (.iaload, 1) := by decide +kernel
theorem dX0_meets_53 : decode cX0_meets 53 = .ok (.if_icmp .le 7, 3) := by decide +kernel
theorem dX0_meets_56 : decode cX0_meets 56 = .ok (.iconst 1, 1) := by decide +kernel
theorem dX0_meets_57 : decode cX0_meets 57 = .ok (.goto 4, 3) := by decide +kernel
theorem dX0_meets_60 : decode cX0_meets 60 = .ok (.iconst 0, 1) := by decide +kernel
theorem dX0_meets_61 : decode cX0_meets 61 = .ok (.ireturn, 1) := by decide +kernel
theorem dX0_meets_62 : decode cX0_meets 62 = .ok (.aload_n 0, 1) := by decide +kernel
theorem dX0_meets_63 : decode cX0_meets 63 = .ok (.getfield 16, 3) := by decide +kernel
theorem dX0_meets_66 : decode cX0_meets 66 = .ok (.iload_n 1, 1) := by decide +kernel
theorem dX0_meets_67 : decode cX0_meets 67 = .ok (.iaload, 1) := by decide +kernel
theorem dX0_meets_68 : decode cX0_meets 68 = .ok (.iconst 2, 1) := by decide +kernel
theorem dX0_meets_69 : decode cX0_meets 69 = .ok (.if_icmp .ne 28, 3) := by decide +kernel
theorem dX0_meets_72 : decode cX0_meets 72 = .ok (.iload_n 2, 1) := by decide +kernel
theorem dX0_meets_73 : decode cX0_meets 73 = .ok (.ifCond .lt 18, 3) := by decide +kernel
theorem dX0_meets_76 : decode cX0_meets 76 = .ok (.aload_n 0, 1) := by decide +kernel
theorem dX0_meets_77 : decode cX0_meets 77 = .ok (.getfield 26, 3) := by decide +kernel
theorem dX0_meets_80 : decode cX0_meets 80 = .ok (.iload_n 3, 1) := by decide +kernel
theorem dX0_meets_81 : decode cX0_meets 81 = .ok (.iaload, 1) := by decide +kernel
theorem dX0_meets_82 : decode cX0_meets 82 = .ok (.aload_n 0, 1) := by decide +kernel
theorem dX0_meets_83 : decode cX0_meets 83 = .ok (.getfield 26, 3) := by decide +kernel
theorem dX0_meets_86 : decode cX0_meets 86 = .ok (.iload_n 2, 1) := by decide +kernel
theorem dX0_meets_87 : decode cX0_meets 87 = .ok (.iaload, 1) := by decide +kernel
theorem dX0_meets_88 : decode cX0_meets 88 = .ok (.if_icmp .ge 7, 3) := by decide +kernel
theorem dX0_meets_91 : decode cX0_meets 91 = .ok (.iconst 1, 1) := by decide +kernel
theorem dX0_meets_92 : decode cX0_meets 92 = .ok (.goto 4, 3) := by decide +kernel
theorem dX0_meets_95 : decode cX0_meets 95 = .ok (.iconst 0, 1) := by decide +kernel
theorem dX0_meets_96 : decode cX0_meets 96 = .ok (.ireturn, 1) := by decide +kernel
theorem dX0_meets_97 : decode cX0_meets 97 = .ok (.aload_n 0, 1) := by decide +kernel
theorem dX0_meets_98 : decode cX0_meets 98 = .ok (.getfield 16, 3) := by decide +kernel
theorem dX0_meets_101 : decode cX0_meets 101 = .ok (.iload_n 1, 1) := by decide +kernel
theorem dX0_meets_102 : decode cX0_meets 102 = .ok (.iaload, 1) := by decide +kernel
theorem dX0_meets_103 : decode cX0_meets 103 = .ok (.iconst 3, 1) := by decide +kernel
theorem dX0_meets_104 : decode cX0_meets 104 = .ok (.if_icmp .ne 24, 3) := by decide +kernel
theorem dX0_meets_107 : decode cX0_meets 107 = .ok (.aload_n 0, 1) := by decide +kernel
theorem dX0_meets_108 : decode cX0_meets 108 = .ok (.getfield 26, 3) := by decide +kernel
theorem dX0_meets_111 : decode cX0_meets 111 = .ok (.iload_n 3, 1) := by decide +kernel
theorem dX0_meets_112 : decode cX0_meets 112 = .ok (.iaload, 1) := by decide +kernel
theorem dX0_meets_113 : decode cX0_meets 113 = .ok (.aload_n 0, 1) := by decide +kernel
theorem dX0_meets_114 : decode cX0_meets 114 = .ok (.getfield 13, 3) := by decide +kernel
theorem dX0_meets_117 : decode cX0_meets 117 = .ok (.iload_n 1, 1) := by decide +kernel
theorem dX0_meets_118 : decode cX0_meets 118 = .ok (.iaload, 1) := by decide +kernel
theorem dX0_meets_119 : decode cX0_meets 119 = .ok (.if_icmp .ne 7, 3) := by decide +kernel
theorem dX0_meets_122 : decode cX0_meets 122 = .ok (.iconst 1, 1) := by decide +kernel
theorem dX0_meets_123 : decode cX0_meets 123 = .ok (.goto 4, 3) := by decide +kernel
theorem dX0_meets_126 : decode cX0_meets 126 = .ok (.iconst 0, 1) := by decide +kernel
theorem dX0_meets_127 : decode cX0_meets 127 = .ok (.ireturn, 1) := by decide +kernel
theorem dX0_meets_128 : decode cX0_meets 128 = .ok (.aload_n 0, 1) := by decide +kernel
theorem dX0_meets_129 : decode cX0_meets 129 = .ok (.getfield 16, 3) := by decide +kernel
theorem dX0_meets_132 : decode cX0_meets 132 = .ok (.iload_n 1, 1) := by decide +kernel
theorem dX0_meets_133 : decode cX0_meets 133 = .ok (.iaload, 1) := by decide +kernel
theorem dX0_meets_134 : decode cX0_meets 134 = .ok (.iconst 4, 1) := by decide +kernel
theorem dX0_meets_135 : decode cX0_meets 135 = .ok (.if_icmp .ne 21, 3) := by decide +kernel
theorem dX0_meets_138 : decode cX0_meets 138 = .ok (.aload_n 0, 1) := by decide +kernel
theorem dX0_meets_139 : decode cX0_meets 139 = .ok (.getfield 26, 3) := by decide +kernel
theorem dX0_meets_142 : decode cX0_meets 142 = .ok (.iload_n 3, 1) := by decide +kernel
theorem dX0_meets_143 : decode cX0_meets 143 = .ok (.iaload, 1) := by decide +kernel
theorem dX0_meets_144 : decode cX0_meets 144 = .ok (.aload_n 0, 1) := by decide +kernel
theorem dX0_meets_145 : decode cX0_meets 145 = .ok (.getfield 26, 3) := by decide +kernel
theorem dX0_meets_148 : decode cX0_meets 148 = .ok (.aload_n 0, 1) := by decide +kernel
theorem dX0_meets_149 : decode cX0_meets 149 = .ok (.getfield 55, 3) := by decide +kernel
theorem dX0_meets_152 : decode cX0_meets 152 = .ok (.iaload, 1) := by decide +kernel
theorem dX0_meets_153 : decode cX0_meets 153 = .ok (.if_icmp .ne 7, 3) := by decide +kernel
theorem dX0_meets_156 : decode cX0_meets 156 = .ok (.iconst 1, 1) := by decide +kernel
theorem dX0_meets_157 : decode cX0_meets 157 = .ok (.goto 4, 3) := by decide +kernel
theorem dX0_meets_160 : decode cX0_meets 160 = .ok (.iconst 0, 1) := by decide +kernel
theorem dX0_meets_161 : decode cX0_meets 161 = .ok (.ireturn, 1) := by decide +kernel
theorem dX0_add_0 : decode cX0_add 0 = .ok (.aload_n 0, 1) := by decide +kernel
theorem dX0_add_1 : decode cX0_add 1 = .ok (.getfield 32, 3) := by decide +kernel
theorem dX0_add_4 : decode cX0_add 4 = .ok (.iload_n 1, 1) := by decide +kernel
theorem dX0_add_5 : decode cX0_add 5 = .ok (.aload_n 0, 1) := by decide +kernel
theorem dX0_add_6 : decode cX0_add 6 = .ok (.getfield 32, 3) := by decide +kernel
theorem dX0_add_9 : decode cX0_add 9 = .ok (.iload_n 1, 1) := by decide +kernel
theorem dX0_add_10 : decode cX0_add 10 = .ok (.iaload, 1) := by decide +kernel
theorem dX0_add_11 : decode cX0_add 11 = .ok (.iload_n 2, 1) := by decide +kernel
theorem dX0_add_12 : decode cX0_add 12 = .ok (.iadd, 1) := by decide +kernel
theorem dX0_add_13 : decode cX0_add 13 = .ok (.iastore, 1) := by decide +kernel
theorem dX0_add_14 : decode cX0_add 14 = .ok (.aload_n 0, 1) := by decide +kernel
theorem dX0_add_15 : decode cX0_add 15 = .ok (.getfield 38, 3) := by decide +kernel
theorem dX0_add_18 : decode cX0_add 18 = .ok (.iload_n 1, 1) := by decide +kernel
theorem dX0_add_19 : decode cX0_add 19 = .ok (.iload_n 3, 1) := by decide +kernel
theorem dX0_add_20 : decode cX0_add 20 = .ok (.aload_n 0, 1) := by decide +kernel
theorem dX0_add_21 : decode cX0_add 21 = .ok (.getfield 38, 3) := by decide +kernel
theorem dX0_add_24 : decode cX0_add 24 = .ok (.iload_n 1, 1) := by decide +kernel
theorem dX0_add_25 : decode cX0_add 25 = .ok (.iaload, 1) := by decide +kernel
theorem dX0_add_26 : decode cX0_add 26 = .ok (.if_icmp .le 7, 3) := by decide +kernel
theorem dX0_add_29 : decode cX0_add 29 = .ok (.iload_n 3, 1) := by decide +kernel
theorem dX0_add_30 : decode cX0_add 30 = .ok (.goto 9, 3) := by decide +kernel
theorem dX0_add_33 : decode cX0_add 33 = .ok (.aload_n 0, 1) := by decide +kernel
theorem dX0_add_34 : decode cX0_add 34 = .ok (.getfield 38, 3) := by decide +kernel
theorem dX0_add_37 : decode cX0_add 37 = .ok (.iload_n 1, 1) := by decide +kernel
theorem dX0_add_38 : decode cX0_add 38 = .ok (.iaload, 1) := by decide +kernel
theorem dX0_add_39 : decode cX0_add 39 = .ok (.iastore, 1) := by decide +kernel
theorem dX0_add_40 : decode cX0_add 40 = .ok (.return_, 1) := by decide +kernel
theorem dX0_inWindow_0 : decode cX0_inWindow 0 = .ok (.aload_n 0, 1) := by decide +kernel
theorem dX0_inWindow_1 : decode cX0_inWindow 1 = .ok (.getfield 29, 3) := by decide +kernel
theorem dX0_inWindow_4 : decode cX0_inWindow 4 = .ok (.iload_n 1, 1) := by decide +kernel
theorem dX0_inWindow_5 : decode cX0_inWindow 5 = .ok (.iaload, 1) := by decide +kernel
theorem dX0_inWindow_6 : decode cX0_inWindow 6 = .ok (.aload_n 0, 1) := by decide +kernel
theorem dX0_inWindow_7 : decode cX0_inWindow 7 = .ok (.getfield 29, 3) := by decide +kernel
theorem dX0_inWindow_10 : decode cX0_inWindow 10 = .ok (.aload_n 0, 1) := by decide +kernel
theorem dX0_inWindow_11 : decode cX0_inWindow 11 = .ok (.getfield 55, 3) := by decide +kernel
theorem dX0_inWindow_14 : decode cX0_inWindow 14 = .ok (.iaload, 1) := by decide +kernel
theorem dX0_inWindow_15 : decode cX0_inWindow 15 = .ok (.isub, 1) := by decide +kernel
theorem dX0_inWindow_16 : decode cX0_inWindow 16 = .ok (.aload_n 0, 1) := by decide +kernel
theorem dX0_inWindow_17 : decode cX0_inWindow 17 = .ok (.getfield 45, 3) := by decide +kernel
theorem dX0_inWindow_20 : decode cX0_inWindow 20 = .ok (.if_icmp .gt 7, 3) := by decide +kernel
theorem dX0_inWindow_23 : decode cX0_inWindow 23 = .ok (.iconst 1, 1) := by decide +kernel
theorem dX0_inWindow_24 : decode cX0_inWindow 24 = .ok (.goto 4, 3) := by decide +kernel
theorem dX0_inWindow_27 : decode cX0_inWindow 27 = .ok (.iconst 0, 1) := by decide +kernel
theorem dX0_inWindow_28 : decode cX0_inWindow 28 = .ok (.ireturn, 1) := by decide +kernel
theorem dX0_extendAll_0 : decode cX0_extendAll 0 = .ok (.iconst 0, 1) := by decide +kernel
theorem dX0_extendAll_1 : decode cX0_extendAll 1 = .ok (.istore_n 3, 1) := by decide +kernel
theorem dX0_extendAll_2 : decode cX0_extendAll 2 = .ok (.iload_n 3, 1) := by decide +kernel
theorem dX0_extendAll_3 : decode cX0_extendAll 3 = .ok (.aload_n 0, 1) := by decide +kernel
theorem dX0_extendAll_4 : decode cX0_extendAll 4 = .ok (.getfield 41, 3) := by decide +kernel
theorem dX0_extendAll_7 : decode cX0_extendAll 7 = .ok (.if_icmp .ge 16, 3) := by decide +kernel
theorem dX0_extendAll_10 : decode cX0_extendAll 10 = .ok (.aload_n 0, 1) := by decide +kernel
theorem dX0_extendAll_11 : decode cX0_extendAll 11 = .ok (.iload_n 3, 1) := by decide +kernel
theorem dX0_extendAll_12 : decode cX0_extendAll 12 = .ok (.iload_n 1, 1) := by decide +kernel
theorem dX0_extendAll_13 : decode cX0_extendAll 13 = .ok (.iload_n 2, 1) := by decide +kernel
theorem dX0_extendAll_14 : decode cX0_extendAll 14 = .ok (.invokevirtual 74, 3) := by decide +kernel
theorem dX0_extendAll_17 : decode cX0_extendAll 17 = .ok (.iinc 3 1, 3) := by decide +kernel
theorem dX0_extendAll_20 : decode cX0_extendAll 20 = .ok (.goto (-18), 3) := by decide +kernel
theorem dX0_extendAll_23 : decode cX0_extendAll 23 = .ok (.return_, 1) := by decide +kernel
theorem dX0_extend_0 : decode cX0_extend 0 = .ok (.iload_n 1, 1) := by decide +kernel
theorem dX0_extend_1 : decode cX0_extend 1 = .ok (.bipush 10, 2) := by decide +kernel
theorem dX0_extend_3 : decode cX0_extend 3 = .ok (.imul, 1) := by decide +kernel
theorem dX0_extend_4 : decode cX0_extend 4 = .ok (.iload_n 2, 1) := by decide +kernel
theorem dX0_extend_5 : decode cX0_extend 5 = .ok (.iadd, 1) := by decide +kernel
theorem dX0_extend_6 : decode cX0_extend 6 = .ok (.istore 4, 2) := by decide +kernel
theorem dX0_extend_8 : decode cX0_extend 8 = .ok (.aload_n 0, 1) := by decide +kernel
theorem dX0_extend_9 : decode cX0_extend 9 = .ok (.getfield 32, 3) := by decide +kernel
theorem dX0_extend_12 : decode cX0_extend 12 = .ok (.iload 4, 2) := by decide +kernel
theorem dX0_extend_14 : decode cX0_extend 14 = .ok (.iaload, 1) := by decide +kernel
theorem dX0_extend_15 : decode cX0_extend 15 = .ok (.ifCond .ne 4, 3) := by decide +kernel
theorem dX0_extend_18 : decode cX0_extend 18 = .ok (.return_, 1) := by decide +kernel
theorem dX0_extend_19 : decode cX0_extend 19 = .ok (.aload_n 0, 1) := by decide +kernel
theorem dX0_extend_20 : decode cX0_extend 20 = .ok (.getfield 19, 3) := by decide +kernel
theorem dX0_extend_23 : decode cX0_extend 23 = .ok (.iload_n 1, 1) := by decide +kernel
theorem dX0_extend_24 : decode cX0_extend 24 = .ok (.baload, 1) := by decide +kernel
theorem dX0_extend_25 : decode cX0_extend 25 = .ok (.ifCond .eq 39, 3) := by decide +kernel
theorem dX0_extend_28 : decode cX0_extend 28 = .ok (.aload_n 0, 1) := by decide +kernel
theorem dX0_extend_29 : decode cX0_extend 29 = .ok (.iload_n 1, 1) := by decide +kernel
theorem dX0_extend_30 : decode cX0_extend 30 = .ok (.iload_n 2, 1) := by decide +kernel
theorem dX0_extend_31 : decode cX0_extend 31 = .ok (.iload_n 3, 1) := by decide +kernel
theorem dX0_extend_32 : decode cX0_extend 32 = .ok (.invokevirtual 58, 3) := by decide +kernel
theorem dX0_extend_35 : decode cX0_extend 35 = .ok (.ifCond .eq 29, 3) := by decide +kernel
theorem dX0_extend_38 : decode cX0_extend 38 = .ok (.aload_n 0, 1) := by decide +kernel
theorem dX0_extend_39 : decode cX0_extend 39 = .ok (.iload_n 1, 1) := by decide +kernel
theorem dX0_extend_40 : decode cX0_extend 40 = .ok (.bipush 10, 2) := by decide +kernel
theorem dX0_extend_42 : decode cX0_extend 42 = .ok (.imul, 1) := by decide +kernel
theorem dX0_extend_43 : decode cX0_extend 43 = .ok (.iload_n 3, 1) := by decide +kernel
theorem dX0_extend_44 : decode cX0_extend 44 = .ok (.iadd, 1) := by decide +kernel
theorem dX0_extend_45 : decode cX0_extend 45 = .ok (.aload_n 0, 1) := by decide +kernel
theorem dX0_extend_46 : decode cX0_extend 46 = .ok (.getfield 32, 3) := by decide +kernel
theorem dX0_extend_49 : decode cX0_extend 49 = .ok (.iload 4, 2) := by decide +kernel
theorem dX0_extend_51 : decode cX0_extend 51 = .ok (.iaload, 1) := by decide +kernel
theorem dX0_extend_52 : decode cX0_extend 52 = .ok (.aload_n 0, 1) := by decide +kernel
theorem dX0_extend_53 : decode cX0_extend 53 = .ok (.getfield 38, 3) := by decide +kernel
theorem dX0_extend_56 : decode cX0_extend 56 = .ok (.iload 4, 2) := by decide +kernel
theorem dX0_extend_58 : decode cX0_extend 58 = .ok (.iaload, 1) := by decide +kernel
theorem dX0_extend_59 : decode cX0_extend 59 = .ok (.iconst 1, 1) := by decide +kernel
theorem dX0_extend_60 : decode cX0_extend 60 = .ok (.iadd, 1) := by decide +kernel
theorem dX0_extend_61 : decode cX0_extend 61 = .ok (.invokevirtual 62, 3) := by decide +kernel
theorem dX0_extend_64 : decode cX0_extend 64 = .ok (.iload_n 1, 1) := by decide +kernel
theorem dX0_extend_65 : decode cX0_extend 65 = .ok (.iconst 1, 1) := by decide +kernel
theorem dX0_extend_66 : decode cX0_extend 66 = .ok (.iadd, 1) := by decide +kernel
theorem dX0_extend_67 : decode cX0_extend 67 = .ok (.aload_n 0, 1) := by decide +kernel
theorem dX0_extend_68 : decode cX0_extend 68 = .ok (.getfield 41, 3) := by decide +kernel
theorem dX0_extend_71 : decode cX0_extend 71 = .ok (.if_icmp .ge 43, 3) := by decide +kernel
theorem dX0_extend_74 : decode cX0_extend 74 = .ok (.aload_n 0, 1) := by decide +kernel
theorem dX0_extend_75 : decode cX0_extend 75 = .ok (.iload_n 1, 1) := by decide +kernel
theorem dX0_extend_76 : decode cX0_extend 76 = .ok (.iconst 1, 1) := by decide +kernel
theorem dX0_extend_77 : decode cX0_extend 77 = .ok (.iadd, 1) := by decide +kernel
theorem dX0_extend_78 : decode cX0_extend 78 = .ok (.iload_n 2, 1) := by decide +kernel
theorem dX0_extend_79 : decode cX0_extend 79 = .ok (.iload_n 3, 1) := by decide +kernel
theorem dX0_extend_80 : decode cX0_extend 80 = .ok (.invokevirtual 58, 3) := by decide +kernel
theorem dX0_extend_83 : decode cX0_extend 83 = .ok (.ifCond .eq 31, 3) := by decide +kernel
theorem dX0_extend_86 : decode cX0_extend 86 = .ok (.aload_n 0, 1) := by decide +kernel
theorem dX0_extend_87 : decode cX0_extend 87 = .ok (.iload_n 1, 1) := by decide +kernel
theorem dX0_extend_88 : decode cX0_extend 88 = .ok (.iconst 1, 1) := by decide +kernel
theorem dX0_extend_89 : decode cX0_extend 89 = .ok (.iadd, 1) := by decide +kernel
theorem dX0_extend_90 : decode cX0_extend 90 = .ok (.bipush 10, 2) := by decide +kernel
theorem dX0_extend_92 : decode cX0_extend 92 = .ok (.imul, 1) := by decide +kernel
theorem dX0_extend_93 : decode cX0_extend 93 = .ok (.iload_n 3, 1) := by decide +kernel
theorem dX0_extend_94 : decode cX0_extend 94 = .ok (.iadd, 1) := by decide +kernel
theorem dX0_extend_95 : decode cX0_extend 95 = .ok (.aload_n 0, 1) := by decide +kernel
theorem dX0_extend_96 : decode cX0_extend 96 = .ok (.getfield 32, 3) := by decide +kernel
theorem dX0_extend_99 : decode cX0_extend 99 = .ok (.iload 4, 2) := by decide +kernel
theorem dX0_extend_101 : decode cX0_extend 101 = .ok (.iaload, 1) := by decide +kernel
theorem dX0_extend_102 : decode cX0_extend 102 = .ok (.aload_n 0, 1) := by decide +kernel
theorem dX0_extend_103 : decode cX0_extend 103 = .ok (.getfield 38, 3) := by decide +kernel
theorem dX0_extend_106 : decode cX0_extend 106 = .ok (.iload 4, 2) := by decide +kernel
theorem dX0_extend_108 : decode cX0_extend 108 = .ok (.iaload, 1) := by decide +kernel
theorem dX0_extend_109 : decode cX0_extend 109 = .ok (.iconst 1, 1) := by decide +kernel
theorem dX0_extend_110 : decode cX0_extend 110 = .ok (.iadd, 1) := by decide +kernel
theorem dX0_extend_111 : decode cX0_extend 111 = .ok (.invokevirtual 62, 3) := by decide +kernel
theorem dX0_extend_114 : decode cX0_extend 114 = .ok (.return_, 1) := by decide +kernel
theorem dX0_whole_0 : decode cX0_whole 0 = .ok (.aload_n 0, 1) := by decide +kernel
theorem dX0_whole_1 : decode cX0_whole 1 = .ok (.getfield 41, 3) := by decide +kernel
theorem dX0_whole_4 : decode cX0_whole 4 = .ok (.ifCond .ne 7, 3) := by decide +kernel
theorem dX0_whole_7 : decode cX0_whole 7 = .ok (.iconst 0, 1) := by decide +kernel
theorem dX0_whole_8 : decode cX0_whole 8 = .ok (.goto 19, 3) := by decide +kernel
theorem dX0_whole_11 : decode cX0_whole 11 = .ok (.aload_n 0, 1) := by decide +kernel
theorem dX0_whole_12 : decode cX0_whole 12 = .ok (.getfield 32, 3) := by decide +kernel
theorem dX0_whole_15 : decode cX0_whole 15 = .ok (.aload_n 0, 1) := by decide +kernel
theorem dX0_whole_16 : decode cX0_whole 16 = .ok (.getfield 41, 3) := by decide +kernel
theorem dX0_whole_19 : decode cX0_whole 19 = .ok (.iconst 1, 1) := by decide +kernel
theorem dX0_whole_20 : decode cX0_whole 20 = .ok (.isub, 1) := by decide +kernel
theorem dX0_whole_21 : decode cX0_whole 21 = .ok (.bipush 10, 2) := by decide +kernel
theorem dX0_whole_23 : decode cX0_whole 23 = .ok (.imul, 1) := by decide +kernel
theorem dX0_whole_24 : decode cX0_whole 24 = .ok (.iload_n 1, 1) := by decide +kernel
theorem dX0_whole_25 : decode cX0_whole 25 = .ok (.iadd, 1) := by decide +kernel
theorem dX0_whole_26 : decode cX0_whole 26 = .ok (.iaload, 1) := by decide +kernel
theorem dX0_whole_27 : decode cX0_whole 27 = .ok (.ireturn, 1) := by decide +kernel
theorem dX0_restart_0 : decode cX0_restart 0 = .ok (.aload_n 0, 1) := by decide +kernel
theorem dX0_restart_1 : decode cX0_restart 1 = .ok (.iconst 0, 1) := by decide +kernel
theorem dX0_restart_2 : decode cX0_restart 2 = .ok (.putfield 48, 3) := by decide +kernel
theorem dX0_restart_5 : decode cX0_restart 5 = .ok (.return_, 1) := by decide +kernel
theorem dX0_events_0 : decode cX0_events 0 = .ok (.aload_n 0, 1) := by decide +kernel
theorem dX0_events_1 : decode cX0_events 1 = .ok (.getfield 48, 3) := by decide +kernel
theorem dX0_events_4 : decode cX0_events 4 = .ok (.ireturn, 1) := by decide +kernel
theorem dX0_finds_0 : decode cX0_finds 0 = .ok (.iconst 0, 1) := by decide +kernel
theorem dX0_finds_1 : decode cX0_finds 1 = .ok (.istore_n 1, 1) := by decide +kernel
theorem dX0_finds_2 : decode cX0_finds 2 = .ok (.iconst 0, 1) := by decide +kernel
theorem dX0_finds_3 : decode cX0_finds 3 = .ok (.istore_n 2, 1) := by decide +kernel
theorem dX0_finds_4 : decode cX0_finds 4 = .ok (.iload_n 2, 1) := by decide +kernel
theorem dX0_finds_5 : decode cX0_finds 5 = .ok (.aload_n 0, 1) := by decide +kernel
theorem dX0_finds_6 : decode cX0_finds 6 = .ok (.getfield 48, 3) := by decide +kernel
theorem dX0_finds_9 : decode cX0_finds 9 = .ok (.if_icmp .ge 19, 3) := by decide +kernel
theorem dX0_finds_12 : decode cX0_finds 12 = .ok (.aload_n 0, 1) := by decide +kernel
theorem dX0_finds_13 : decode cX0_finds 13 = .ok (.iload_n 2, 1) := by decide +kernel
theorem dX0_finds_14 : decode cX0_finds 14 = .ok (.invokevirtual 81, 3) := by decide +kernel
theorem dX0_finds_17 : decode cX0_finds 17 = .ok (.istore_n 3, 1) := by decide +kernel
theorem dX0_finds_18 : decode cX0_finds 18 = .ok (.iload_n 1, 1) := by decide +kernel
theorem dX0_finds_19 : decode cX0_finds 19 = .ok (.iload_n 3, 1) := by decide +kernel
theorem dX0_finds_20 : decode cX0_finds 20 = .ok (.iadd, 1) := by decide +kernel
theorem dX0_finds_21 : decode cX0_finds 21 = .ok (.istore_n 1, 1) := by decide +kernel
theorem dX0_finds_22 : decode cX0_finds 22 = .ok (.iinc 2 1, 3) := by decide +kernel
theorem dX0_finds_25 : decode cX0_finds 25 = .ok (.goto (-21), 3) := by decide +kernel
theorem dX0_finds_28 : decode cX0_finds 28 = .ok (.iload_n 1, 1) := by decide +kernel
theorem dX0_finds_29 : decode cX0_finds 29 = .ok (.ireturn, 1) := by decide +kernel
theorem dX0_beginningAt_0 : decode cX0_beginningAt 0 = .ok (.aload_n 0, 1) := by decide +kernel
theorem dX0_beginningAt_1 : decode cX0_beginningAt 1 = .ok (.iload_n 1, 1) := by decide +kernel
theorem dX0_beginningAt_2 : decode cX0_beginningAt 2 = .ok (.invokevirtual 84, 3) := by decide +kernel
theorem dX0_beginningAt_5 : decode cX0_beginningAt 5 = .ok (.ifCond .eq 6, 3) := by decide +kernel
theorem dX0_beginningAt_8 : decode cX0_beginningAt 8 = .ok (.bipush (-4), 2) := by decide +kernel
theorem dX0_beginningAt_10 : decode cX0_beginningAt 10 = .ok (.ireturn, 1) := by decide +kernel
theorem dX0_beginningAt_11 : decode cX0_beginningAt 11 = .ok (.aload_n 0, 1) := by decide +kernel
theorem dX0_beginningAt_12 : decode cX0_beginningAt 12 = .ok (.iload_n 1, 1) := by decide +kernel
theorem dX0_beginningAt_13 : decode cX0_beginningAt 13 = .ok (.invokevirtual 87, 3) := by decide +kernel
theorem dX0_beginningAt_16 : decode cX0_beginningAt 16 = .ok (.iconst 0, 1) := by decide +kernel
theorem dX0_beginningAt_17 : decode cX0_beginningAt 17 = .ok (.istore_n 2, 1) := by decide +kernel
theorem dX0_beginningAt_18 : decode cX0_beginningAt 18 = .ok (.iload_n 1, 1) := by decide +kernel
theorem dX0_beginningAt_19 : decode cX0_beginningAt 19 = .ok (.istore_n 3, 1) := by decide +kernel
theorem dX0_beginningAt_20 : decode cX0_beginningAt 20 = .ok (.iload_n 3, 1) := by decide +kernel
theorem dX0_beginningAt_21 : decode cX0_beginningAt 21 = .ok (.aload_n 0, 1) := by decide +kernel
theorem dX0_beginningAt_22 : decode cX0_beginningAt 22 = .ok (.getfield 48, 3) := by decide +kernel
theorem dX0_beginningAt_25 : decode cX0_beginningAt 25 = .ok (.if_icmp .ge 21, 3) := by decide +kernel
theorem dX0_beginningAt_28 : decode cX0_beginningAt 28 = .ok (.aload_n 0, 1) := by decide +kernel
theorem dX0_beginningAt_29 : decode cX0_beginningAt 29 = .ok (.iload_n 3, 1) := by decide +kernel
theorem dX0_beginningAt_30 : decode cX0_beginningAt 30 = .ok (.invokevirtual 91, 3) := by decide +kernel
theorem dX0_beginningAt_33 : decode cX0_beginningAt 33 = .ok (.istore 4, 2) := by decide +kernel
theorem dX0_beginningAt_35 : decode cX0_beginningAt 35 = .ok (.iload_n 2, 1) := by decide +kernel
theorem dX0_beginningAt_36 : decode cX0_beginningAt 36 = .ok (.iload 4, 2) := by decide +kernel
theorem dX0_beginningAt_38 : decode cX0_beginningAt 38 = .ok (.iadd, 1) := by decide +kernel
theorem dX0_beginningAt_39 : decode cX0_beginningAt 39 = .ok (.istore_n 2, 1) := by decide +kernel
theorem dX0_beginningAt_40 : decode cX0_beginningAt 40 = .ok (.iinc 3 1, 3) := by decide +kernel
theorem dX0_beginningAt_43 : decode cX0_beginningAt 43 = .ok (.goto (-23), 3) := by decide +kernel
theorem dX0_beginningAt_46 : decode cX0_beginningAt 46 = .ok (.iload_n 2, 1) := by decide +kernel
theorem dX0_beginningAt_47 : decode cX0_beginningAt 47 = .ok (.ireturn, 1) := by decide +kernel
theorem dX0_using_0 : decode cX0_using 0 = .ok (.aload_n 0, 1) := by decide +kernel
theorem dX0_using_1 : decode cX0_using 1 = .ok (.iload_n 1, 1) := by decide +kernel
theorem dX0_using_2 : decode cX0_using 2 = .ok (.invokevirtual 84, 3) := by decide +kernel
theorem dX0_using_5 : decode cX0_using 5 = .ok (.ifCond .eq 6, 3) := by decide +kernel
theorem dX0_using_8 : decode cX0_using 8 = .ok (.bipush (-4), 2) := by decide +kernel
theorem dX0_using_10 : decode cX0_using 10 = .ok (.ireturn, 1) := by decide +kernel
theorem dX0_using_11 : decode cX0_using 11 = .ok (.iconst 0, 1) := by decide +kernel
theorem dX0_using_12 : decode cX0_using 12 = .ok (.istore_n 2, 1) := by decide +kernel
theorem dX0_using_13 : decode cX0_using 13 = .ok (.iconst 0, 1) := by decide +kernel
theorem dX0_using_14 : decode cX0_using 14 = .ok (.istore_n 3, 1) := by decide +kernel
theorem dX0_using_15 : decode cX0_using 15 = .ok (.iload_n 3, 1) := by decide +kernel
theorem dX0_using_16 : decode cX0_using 16 = .ok (.iload_n 1, 1) := by decide +kernel
theorem dX0_using_17 : decode cX0_using 17 = .ok (.if_icmp .gt 65, 3) := by decide +kernel
theorem dX0_using_20 : decode cX0_using 20 = .ok (.aload_n 0, 1) := by decide +kernel
theorem dX0_using_21 : decode cX0_using 21 = .ok (.iload_n 3, 1) := by decide +kernel
theorem dX0_using_22 : decode cX0_using 22 = .ok (.invokevirtual 87, 3) := by decide +kernel
theorem dX0_using_25 : decode cX0_using 25 = .ok (.aload_n 0, 1) := by decide +kernel
theorem dX0_using_26 : decode cX0_using 26 = .ok (.iload_n 3, 1) := by decide +kernel
theorem dX0_using_27 : decode cX0_using 27 = .ok (.invokevirtual 94, 3) := by decide +kernel
theorem dX0_using_30 : decode cX0_using 30 = .ok (.iconst 0, 1) := by decide +kernel
theorem dX0_using_31 : decode cX0_using 31 = .ok (.istore 4, 2) := by decide +kernel
theorem dX0_using_33 : decode cX0_using 33 = .ok (.iload 4, 2) := by decide +kernel
theorem dX0_using_35 : decode cX0_using 35 = .ok (.aload_n 0, 1) := by decide +kernel
theorem dX0_using_36 : decode cX0_using 36 = .ok (.getfield 41, 3) := by decide +kernel
theorem dX0_using_39 : decode cX0_using 39 = .ok (.if_icmp .ge 37, 3) := by decide +kernel
theorem dX0_using_42 : decode cX0_using 42 = .ok (.iload_n 2, 1) := by decide +kernel
theorem dX0_using_43 : decode cX0_using 43 = .ok (.aload_n 0, 1) := by decide +kernel
theorem dX0_using_44 : decode cX0_using 44 = .ok (.getfield 32, 3) := by decide +kernel
theorem dX0_using_47 : decode cX0_using 47 = .ok (.iload 4, 2) := by decide +kernel
end
section
set_option maxRecDepth 100000
theorem dX0_using_49 : decode cX0_using 49 = .ok (.bipush 10, 2) := by decide +kernel
theorem dX0_using_51 : decode cX0_using 51 = .ok (.imul, 1) := by decide +kernel
theorem dX0_using_52 : decode cX0_using 52 = .ok (.iload_n 1, 1) := by decide +kernel
theorem dX0_using_53 : decode cX0_using 53 = .ok (.iadd, 1) := by decide +kernel
theorem dX0_using_54 : decode cX0_using 54 = .ok (.iaload, 1) := by decide +kernel
theorem dX0_using_55 : decode cX0_using 55 = .ok (.aload_n 0, 1) := by decide +kernel
theorem dX0_using_56 : decode cX0_using 56 = .ok (.getfield 35, 3) := by decide +kernel
theorem dX0_using_59 : decode cX0_using 59 = .ok (.iload 4, 2) := by decide +kernel
theorem dX0_using_61 : decode cX0_using 61 = .ok (.bipush 10, 2) := by decide +kernel
theorem dX0_using_63 : decode cX0_using 63 = .ok (.imul, 1) := by decide +kernel
theorem dX0_using_64 : decode cX0_using 64 = .ok (.iload_n 1, 1) := by decide +kernel
theorem dX0_using_65 : decode cX0_using 65 = .ok (.iadd, 1) := by decide +kernel
theorem dX0_using_66 : decode cX0_using 66 = .ok (.iaload, 1) := by decide +kernel
theorem dX0_using_67 : decode cX0_using 67 = .ok (.imul, 1) := by decide +kernel
theorem dX0_using_68 : decode cX0_using 68 = .ok (.iadd, 1) := by decide +kernel
theorem dX0_using_69 : decode cX0_using 69 = .ok (.istore_n 2, 1) := by decide +kernel
theorem dX0_using_70 : decode cX0_using 70 = .ok (.iinc 4 1, 3) := by decide +kernel
theorem dX0_using_73 : decode cX0_using 73 = .ok (.goto (-40), 3) := by decide +kernel
theorem dX0_using_76 : decode cX0_using 76 = .ok (.iinc 3 1, 3) := by decide +kernel
theorem dX0_using_79 : decode cX0_using 79 = .ok (.goto (-64), 3) := by decide +kernel
theorem dX0_using_82 : decode cX0_using 82 = .ok (.iload_n 2, 1) := by decide +kernel
theorem dX0_using_83 : decode cX0_using 83 = .ok (.ireturn, 1) := by decide +kernel
theorem dX0_waysFrom_0 : decode cX0_waysFrom 0 = .ok (.aload_n 0, 1) := by decide +kernel
theorem dX0_waysFrom_1 : decode cX0_waysFrom 1 = .ok (.iload_n 1, 1) := by decide +kernel
theorem dX0_waysFrom_2 : decode cX0_waysFrom 2 = .ok (.putfield 55, 3) := by decide +kernel
theorem dX0_waysFrom_5 : decode cX0_waysFrom 5 = .ok (.aload_n 0, 1) := by decide +kernel
theorem dX0_waysFrom_6 : decode cX0_waysFrom 6 = .ok (.getfield 48, 3) := by decide +kernel
theorem dX0_waysFrom_9 : decode cX0_waysFrom 9 = .ok (.iconst 1, 1) := by decide +kernel
theorem dX0_waysFrom_10 : decode cX0_waysFrom 10 = .ok (.isub, 1) := by decide +kernel
theorem dX0_waysFrom_11 : decode cX0_waysFrom 11 = .ok (.istore_n 2, 1) := by decide +kernel
theorem dX0_waysFrom_12 : decode cX0_waysFrom 12 = .ok (.iload_n 2, 1) := by decide +kernel
theorem dX0_waysFrom_13 : decode cX0_waysFrom 13 = .ok (.iload_n 1, 1) := by decide +kernel
theorem dX0_waysFrom_14 : decode cX0_waysFrom 14 = .ok (.if_icmp .lt 43, 3) := by decide +kernel
theorem dX0_waysFrom_17 : decode cX0_waysFrom 17 = .ok (.aload_n 0, 1) := by decide +kernel
theorem dX0_waysFrom_18 : decode cX0_waysFrom 18 = .ok (.getfield 41, 3) := by decide +kernel
theorem dX0_waysFrom_21 : decode cX0_waysFrom 21 = .ok (.iconst 1, 1) := by decide +kernel
theorem dX0_waysFrom_22 : decode cX0_waysFrom 22 = .ok (.isub, 1) := by decide +kernel
theorem dX0_waysFrom_23 : decode cX0_waysFrom 23 = .ok (.istore_n 3, 1) := by decide +kernel
theorem dX0_waysFrom_24 : decode cX0_waysFrom 24 = .ok (.iload_n 3, 1) := by decide +kernel
theorem dX0_waysFrom_25 : decode cX0_waysFrom 25 = .ok (.ifCond .lt 26, 3) := by decide +kernel
theorem dX0_waysFrom_28 : decode cX0_waysFrom 28 = .ok (.aload_n 0, 1) := by decide +kernel
theorem dX0_waysFrom_29 : decode cX0_waysFrom 29 = .ok (.getfield 35, 3) := by decide +kernel
theorem dX0_waysFrom_32 : decode cX0_waysFrom 32 = .ok (.iload_n 3, 1) := by decide +kernel
theorem dX0_waysFrom_33 : decode cX0_waysFrom 33 = .ok (.bipush 10, 2) := by decide +kernel
theorem dX0_waysFrom_35 : decode cX0_waysFrom 35 = .ok (.imul, 1) := by decide +kernel
theorem dX0_waysFrom_36 : decode cX0_waysFrom 36 = .ok (.iload_n 2, 1) := by decide +kernel
theorem dX0_waysFrom_37 : decode cX0_waysFrom 37 = .ok (.iadd, 1) := by decide +kernel
theorem dX0_waysFrom_38 : decode cX0_waysFrom 38 = .ok (.aload_n 0, 1) := by decide +kernel
theorem dX0_waysFrom_39 : decode cX0_waysFrom 39 = .ok (.iload_n 3, 1) := by decide +kernel
theorem dX0_waysFrom_40 : decode cX0_waysFrom 40 = .ok (.iload_n 2, 1) := by decide +kernel
theorem dX0_waysFrom_41 : decode cX0_waysFrom 41 = .ok (.invokevirtual 77, 3) := by decide +kernel
theorem dX0_waysFrom_44 : decode cX0_waysFrom 44 = .ok (.iastore, 1) := by decide +kernel
theorem dX0_waysFrom_45 : decode cX0_waysFrom 45 = .ok (.iinc 3 (-1), 3) := by decide +kernel
theorem dX0_waysFrom_48 : decode cX0_waysFrom 48 = .ok (.goto (-24), 3) := by decide +kernel
theorem dX0_waysFrom_51 : decode cX0_waysFrom 51 = .ok (.iinc 2 (-1), 3) := by decide +kernel
theorem dX0_waysFrom_54 : decode cX0_waysFrom 54 = .ok (.goto (-42), 3) := by decide +kernel
theorem dX0_waysFrom_57 : decode cX0_waysFrom 57 = .ok (.return_, 1) := by decide +kernel
theorem dX0_waysOn_0 : decode cX0_waysOn 0 = .ok (.iload_n 1, 1) := by decide +kernel
theorem dX0_waysOn_1 : decode cX0_waysOn 1 = .ok (.aload_n 0, 1) := by decide +kernel
theorem dX0_waysOn_2 : decode cX0_waysOn 2 = .ok (.getfield 41, 3) := by decide +kernel
theorem dX0_waysOn_5 : decode cX0_waysOn 5 = .ok (.iconst 1, 1) := by decide +kernel
theorem dX0_waysOn_6 : decode cX0_waysOn 6 = .ok (.isub, 1) := by decide +kernel
theorem dX0_waysOn_7 : decode cX0_waysOn 7 = .ok (.if_icmp .ne 7, 3) := by decide +kernel
theorem dX0_waysOn_10 : decode cX0_waysOn 10 = .ok (.iconst 1, 1) := by decide +kernel
theorem dX0_waysOn_11 : decode cX0_waysOn 11 = .ok (.goto 4, 3) := by decide +kernel
theorem dX0_waysOn_14 : decode cX0_waysOn 14 = .ok (.iconst 0, 1) := by decide +kernel
theorem dX0_waysOn_15 : decode cX0_waysOn 15 = .ok (.istore_n 3, 1) := by decide +kernel
theorem dX0_waysOn_16 : decode cX0_waysOn 16 = .ok (.iload_n 2, 1) := by decide +kernel
theorem dX0_waysOn_17 : decode cX0_waysOn 17 = .ok (.iconst 1, 1) := by decide +kernel
theorem dX0_waysOn_18 : decode cX0_waysOn 18 = .ok (.iadd, 1) := by decide +kernel
theorem dX0_waysOn_19 : decode cX0_waysOn 19 = .ok (.istore 4, 2) := by decide +kernel
theorem dX0_waysOn_21 : decode cX0_waysOn 21 = .ok (.iload 4, 2) := by decide +kernel
theorem dX0_waysOn_23 : decode cX0_waysOn 23 = .ok (.aload_n 0, 1) := by decide +kernel
theorem dX0_waysOn_24 : decode cX0_waysOn 24 = .ok (.getfield 48, 3) := by decide +kernel
theorem dX0_waysOn_27 : decode cX0_waysOn 27 = .ok (.if_icmp .ge 93, 3) := by decide +kernel
theorem dX0_waysOn_30 : decode cX0_waysOn 30 = .ok (.aload_n 0, 1) := by decide +kernel
theorem dX0_waysOn_31 : decode cX0_waysOn 31 = .ok (.iload 4, 2) := by decide +kernel
theorem dX0_waysOn_33 : decode cX0_waysOn 33 = .ok (.invokevirtual 66, 3) := by decide +kernel
theorem dX0_waysOn_36 : decode cX0_waysOn 36 = .ok (.ifCond .eq 78, 3) := by decide +kernel
theorem dX0_waysOn_39 : decode cX0_waysOn 39 = .ok (.aload_n 0, 1) := by decide +kernel
theorem dX0_waysOn_40 : decode cX0_waysOn 40 = .ok (.getfield 19, 3) := by decide +kernel
theorem dX0_waysOn_43 : decode cX0_waysOn 43 = .ok (.iload_n 1, 1) := by decide +kernel
theorem dX0_waysOn_44 : decode cX0_waysOn 44 = .ok (.baload, 1) := by decide +kernel
theorem dX0_waysOn_45 : decode cX0_waysOn 45 = .ok (.ifCond .eq 29, 3) := by decide +kernel
theorem dX0_waysOn_48 : decode cX0_waysOn 48 = .ok (.aload_n 0, 1) := by decide +kernel
theorem dX0_waysOn_49 : decode cX0_waysOn 49 = .ok (.iload_n 1, 1) := by decide +kernel
theorem dX0_waysOn_50 : decode cX0_waysOn 50 = .ok (.iload_n 2, 1) := by decide +kernel
theorem dX0_waysOn_51 : decode cX0_waysOn 51 = .ok (.iload 4, 2) := by decide +kernel
theorem dX0_waysOn_53 : decode cX0_waysOn 53 = .ok (.invokevirtual 58, 3) := by decide +kernel
theorem dX0_waysOn_56 : decode cX0_waysOn 56 = .ok (.ifCond .eq 18, 3) := by decide +kernel
theorem dX0_waysOn_59 : decode cX0_waysOn 59 = .ok (.iload_n 3, 1) := by decide +kernel
theorem dX0_waysOn_60 : decode cX0_waysOn 60 = .ok (.aload_n 0, 1) := by decide +kernel
theorem dX0_waysOn_61 : decode cX0_waysOn 61 = .ok (.getfield 35, 3) := by decide +kernel
theorem dX0_waysOn_64 : decode cX0_waysOn 64 = .ok (.iload_n 1, 1) := by decide +kernel
theorem dX0_waysOn_65 : decode cX0_waysOn 65 = .ok (.bipush 10, 2) := by decide +kernel
theorem dX0_waysOn_67 : decode cX0_waysOn 67 = .ok (.imul, 1) := by decide +kernel
theorem dX0_waysOn_68 : decode cX0_waysOn 68 = .ok (.iload 4, 2) := by decide +kernel
theorem dX0_waysOn_70 : decode cX0_waysOn 70 = .ok (.iadd, 1) := by decide +kernel
theorem dX0_waysOn_71 : decode cX0_waysOn 71 = .ok (.iaload, 1) := by decide +kernel
theorem dX0_waysOn_72 : decode cX0_waysOn 72 = .ok (.iadd, 1) := by decide +kernel
theorem dX0_waysOn_73 : decode cX0_waysOn 73 = .ok (.istore_n 3, 1) := by decide +kernel
theorem dX0_waysOn_74 : decode cX0_waysOn 74 = .ok (.iload_n 1, 1) := by decide +kernel
theorem dX0_waysOn_75 : decode cX0_waysOn 75 = .ok (.iconst 1, 1) := by decide +kernel
theorem dX0_waysOn_76 : decode cX0_waysOn 76 = .ok (.iadd, 1) := by decide +kernel
theorem dX0_waysOn_77 : decode cX0_waysOn 77 = .ok (.aload_n 0, 1) := by decide +kernel
theorem dX0_waysOn_78 : decode cX0_waysOn 78 = .ok (.getfield 41, 3) := by decide +kernel
theorem dX0_waysOn_81 : decode cX0_waysOn 81 = .ok (.if_icmp .ge 33, 3) := by decide +kernel
theorem dX0_waysOn_84 : decode cX0_waysOn 84 = .ok (.aload_n 0, 1) := by decide +kernel
theorem dX0_waysOn_85 : decode cX0_waysOn 85 = .ok (.iload_n 1, 1) := by decide +kernel
theorem dX0_waysOn_86 : decode cX0_waysOn 86 = .ok (.iconst 1, 1) := by decide +kernel
theorem dX0_waysOn_87 : decode cX0_waysOn 87 = .ok (.iadd, 1) := by decide +kernel
theorem dX0_waysOn_88 : decode cX0_waysOn 88 = .ok (.iload_n 2, 1) := by decide +kernel
theorem dX0_waysOn_89 : decode cX0_waysOn 89 = .ok (.iload 4, 2) := by decide +kernel
theorem dX0_waysOn_91 : decode cX0_waysOn 91 = .ok (.invokevirtual 58, 3) := by decide +kernel
theorem dX0_waysOn_94 : decode cX0_waysOn 94 = .ok (.ifCond .eq 20, 3) := by decide +kernel
theorem dX0_waysOn_97 : decode cX0_waysOn 97 = .ok (.iload_n 3, 1) := by decide +kernel
theorem dX0_waysOn_98 : decode cX0_waysOn 98 = .ok (.aload_n 0, 1) := by decide +kernel
theorem dX0_waysOn_99 : decode cX0_waysOn 99 = .ok (.getfield 35, 3) := by decide +kernel
theorem dX0_waysOn_102 : decode cX0_waysOn 102 = .ok (.iload_n 1, 1) := by decide +kernel
theorem dX0_waysOn_103 : decode cX0_waysOn 103 = .ok (.iconst 1, 1) := by decide +kernel
theorem dX0_waysOn_104 : decode cX0_waysOn 104 = .ok (.iadd, 1) := by decide +kernel
theorem dX0_waysOn_105 : decode cX0_waysOn 105 = .ok (.bipush 10, 2) := by decide +kernel
theorem dX0_waysOn_107 : decode cX0_waysOn 107 = .ok (.imul, 1) := by decide +kernel
theorem dX0_waysOn_108 : decode cX0_waysOn 108 = .ok (.iload 4, 2) := by decide +kernel
theorem dX0_waysOn_110 : decode cX0_waysOn 110 = .ok (.iadd, 1) := by decide +kernel
theorem dX0_waysOn_111 : decode cX0_waysOn 111 = .ok (.iaload, 1) := by decide +kernel
theorem dX0_waysOn_112 : decode cX0_waysOn 112 = .ok (.iadd, 1) := by decide +kernel
theorem dX0_waysOn_113 : decode cX0_waysOn 113 = .ok (.istore_n 3, 1) := by decide +kernel
theorem dX0_waysOn_114 : decode cX0_waysOn 114 = .ok (.iinc 4 1, 3) := by decide +kernel
theorem dX0_waysOn_117 : decode cX0_waysOn 117 = .ok (.goto (-96), 3) := by decide +kernel
theorem dX0_waysOn_120 : decode cX0_waysOn 120 = .ok (.iload_n 3, 1) := by decide +kernel
theorem dX0_waysOn_121 : decode cX0_waysOn 121 = .ok (.ireturn, 1) := by decide +kernel
theorem dX0_longest_0 : decode cX0_longest 0 = .ok (.bipush (-4), 2) := by decide +kernel
theorem dX0_longest_2 : decode cX0_longest 2 = .ok (.istore_n 1, 1) := by decide +kernel
theorem dX0_longest_3 : decode cX0_longest 3 = .ok (.iconst 0, 1) := by decide +kernel
theorem dX0_longest_4 : decode cX0_longest 4 = .ok (.istore_n 2, 1) := by decide +kernel
theorem dX0_longest_5 : decode cX0_longest 5 = .ok (.iload_n 2, 1) := by decide +kernel
theorem dX0_longest_6 : decode cX0_longest 6 = .ok (.aload_n 0, 1) := by decide +kernel
theorem dX0_longest_7 : decode cX0_longest 7 = .ok (.getfield 48, 3) := by decide +kernel
theorem dX0_longest_10 : decode cX0_longest 10 = .ok (.if_icmp .ge 79, 3) := by decide +kernel
theorem dX0_longest_13 : decode cX0_longest 13 = .ok (.aload_n 0, 1) := by decide +kernel
theorem dX0_longest_14 : decode cX0_longest 14 = .ok (.iload_n 2, 1) := by decide +kernel
theorem dX0_longest_15 : decode cX0_longest 15 = .ok (.invokevirtual 87, 3) := by decide +kernel
theorem dX0_longest_18 : decode cX0_longest 18 = .ok (.iload_n 2, 1) := by decide +kernel
theorem dX0_longest_19 : decode cX0_longest 19 = .ok (.istore_n 3, 1) := by decide +kernel
theorem dX0_longest_20 : decode cX0_longest 20 = .ok (.iload_n 3, 1) := by decide +kernel
theorem dX0_longest_21 : decode cX0_longest 21 = .ok (.aload_n 0, 1) := by decide +kernel
theorem dX0_longest_22 : decode cX0_longest 22 = .ok (.getfield 48, 3) := by decide +kernel
theorem dX0_longest_25 : decode cX0_longest 25 = .ok (.if_icmp .ge 58, 3) := by decide +kernel
theorem dX0_longest_28 : decode cX0_longest 28 = .ok (.aload_n 0, 1) := by decide +kernel
theorem dX0_longest_29 : decode cX0_longest 29 = .ok (.iload_n 3, 1) := by decide +kernel
theorem dX0_longest_30 : decode cX0_longest 30 = .ok (.invokevirtual 91, 3) := by decide +kernel
theorem dX0_longest_33 : decode cX0_longest 33 = .ok (.istore 4, 2) := by decide +kernel
theorem dX0_longest_35 : decode cX0_longest 35 = .ok (.iload 4, 2) := by decide +kernel
theorem dX0_longest_37 : decode cX0_longest 37 = .ok (.ifCond .le 40, 3) := by decide +kernel
theorem dX0_longest_40 : decode cX0_longest 40 = .ok (.aload_n 0, 1) := by decide +kernel
theorem dX0_longest_41 : decode cX0_longest 41 = .ok (.getfield 38, 3) := by decide +kernel
theorem dX0_longest_44 : decode cX0_longest 44 = .ok (.aload_n 0, 1) := by decide +kernel
theorem dX0_longest_45 : decode cX0_longest 45 = .ok (.getfield 41, 3) := by decide +kernel
theorem dX0_longest_48 : decode cX0_longest 48 = .ok (.iconst 1, 1) := by decide +kernel
theorem dX0_longest_49 : decode cX0_longest 49 = .ok (.isub, 1) := by decide +kernel
theorem dX0_longest_50 : decode cX0_longest 50 = .ok (.bipush 10, 2) := by decide +kernel
theorem dX0_longest_52 : decode cX0_longest 52 = .ok (.imul, 1) := by decide +kernel
theorem dX0_longest_53 : decode cX0_longest 53 = .ok (.iload_n 3, 1) := by decide +kernel
theorem dX0_longest_54 : decode cX0_longest 54 = .ok (.iadd, 1) := by decide +kernel
theorem dX0_longest_55 : decode cX0_longest 55 = .ok (.iaload, 1) := by decide +kernel
theorem dX0_longest_56 : decode cX0_longest 56 = .ok (.iload_n 1, 1) := by decide +kernel
theorem dX0_longest_57 : decode cX0_longest 57 = .ok (.if_icmp .le 20, 3) := by decide +kernel
theorem dX0_longest_60 : decode cX0_longest 60 = .ok (.aload_n 0, 1) := by decide +kernel
theorem dX0_longest_61 : decode cX0_longest 61 = .ok (.getfield 38, 3) := by decide +kernel
theorem dX0_longest_64 : decode cX0_longest 64 = .ok (.aload_n 0, 1) := by decide +kernel
theorem dX0_longest_65 : decode cX0_longest 65 = .ok (.getfield 41, 3) := by decide +kernel
theorem dX0_longest_68 : decode cX0_longest 68 = .ok (.iconst 1, 1) := by decide +kernel
theorem dX0_longest_69 : decode cX0_longest 69 = .ok (.isub, 1) := by decide +kernel
theorem dX0_longest_70 : decode cX0_longest 70 = .ok (.bipush 10, 2) := by decide +kernel
theorem dX0_longest_72 : decode cX0_longest 72 = .ok (.imul, 1) := by decide +kernel
theorem dX0_longest_73 : decode cX0_longest 73 = .ok (.iload_n 3, 1) := by decide +kernel
theorem dX0_longest_74 : decode cX0_longest 74 = .ok (.iadd, 1) := by decide +kernel
theorem dX0_longest_75 : decode cX0_longest 75 = .ok (.iaload, 1) := by decide +kernel
theorem dX0_longest_76 : decode cX0_longest 76 = .ok (.istore_n 1, 1) := by decide +kernel
theorem dX0_longest_77 : decode cX0_longest 77 = .ok (.iinc 3 1, 3) := by decide +kernel
theorem dX0_longest_80 : decode cX0_longest 80 = .ok (.goto (-60), 3) := by decide +kernel
theorem dX0_longest_83 : decode cX0_longest 83 = .ok (.iinc 2 1, 3) := by decide +kernel
theorem dX0_longest_86 : decode cX0_longest 86 = .ok (.goto (-81), 3) := by decide +kernel
theorem dX0_longest_89 : decode cX0_longest 89 = .ok (.iload_n 1, 1) := by decide +kernel
theorem dX0_longest_90 : decode cX0_longest 90 = .ok (.ireturn, 1) := by decide +kernel
theorem dX0_tightest_0 : decode cX0_tightest 0 = .ok (.bipush (-4), 2) := by decide +kernel
theorem dX0_tightest_2 : decode cX0_tightest 2 = .ok (.istore_n 1, 1) := by decide +kernel
theorem dX0_tightest_3 : decode cX0_tightest 3 = .ok (.iconst 0, 1) := by decide +kernel
theorem dX0_tightest_4 : decode cX0_tightest 4 = .ok (.istore_n 2, 1) := by decide +kernel
theorem dX0_tightest_5 : decode cX0_tightest 5 = .ok (.iload_n 2, 1) := by decide +kernel
theorem dX0_tightest_6 : decode cX0_tightest 6 = .ok (.aload_n 0, 1) := by decide +kernel
theorem dX0_tightest_7 : decode cX0_tightest 7 = .ok (.getfield 48, 3) := by decide +kernel
theorem dX0_tightest_10 : decode cX0_tightest 10 = .ok (.if_icmp .ge 70, 3) := by decide +kernel
theorem dX0_tightest_13 : decode cX0_tightest 13 = .ok (.aload_n 0, 1) := by decide +kernel
theorem dX0_tightest_14 : decode cX0_tightest 14 = .ok (.iload_n 2, 1) := by decide +kernel
theorem dX0_tightest_15 : decode cX0_tightest 15 = .ok (.invokevirtual 87, 3) := by decide +kernel
theorem dX0_tightest_18 : decode cX0_tightest 18 = .ok (.iload_n 2, 1) := by decide +kernel
theorem dX0_tightest_19 : decode cX0_tightest 19 = .ok (.istore_n 3, 1) := by decide +kernel
theorem dX0_tightest_20 : decode cX0_tightest 20 = .ok (.iload_n 3, 1) := by decide +kernel
theorem dX0_tightest_21 : decode cX0_tightest 21 = .ok (.aload_n 0, 1) := by decide +kernel
theorem dX0_tightest_22 : decode cX0_tightest 22 = .ok (.getfield 48, 3) := by decide +kernel
theorem dX0_tightest_25 : decode cX0_tightest 25 = .ok (.if_icmp .ge 49, 3) := by decide +kernel
theorem dX0_tightest_28 : decode cX0_tightest 28 = .ok (.aload_n 0, 1) := by decide +kernel
theorem dX0_tightest_29 : decode cX0_tightest 29 = .ok (.iload_n 3, 1) := by decide +kernel
theorem dX0_tightest_30 : decode cX0_tightest 30 = .ok (.invokevirtual 91, 3) := by decide +kernel
theorem dX0_tightest_33 : decode cX0_tightest 33 = .ok (.istore 4, 2) := by decide +kernel
theorem dX0_tightest_35 : decode cX0_tightest 35 = .ok (.aload_n 0, 1) := by decide +kernel
theorem dX0_tightest_36 : decode cX0_tightest 36 = .ok (.getfield 29, 3) := by decide +kernel
theorem dX0_tightest_39 : decode cX0_tightest 39 = .ok (.iload_n 3, 1) := by decide +kernel
theorem dX0_tightest_40 : decode cX0_tightest 40 = .ok (.iaload, 1) := by decide +kernel
theorem dX0_tightest_41 : decode cX0_tightest 41 = .ok (.aload_n 0, 1) := by decide +kernel
theorem dX0_tightest_42 : decode cX0_tightest 42 = .ok (.getfield 29, 3) := by decide +kernel
theorem dX0_tightest_45 : decode cX0_tightest 45 = .ok (.iload_n 2, 1) := by decide +kernel
theorem dX0_tightest_46 : decode cX0_tightest 46 = .ok (.iaload, 1) := by decide +kernel
theorem dX0_tightest_47 : decode cX0_tightest 47 = .ok (.isub, 1) := by decide +kernel
theorem dX0_tightest_48 : decode cX0_tightest 48 = .ok (.istore 5, 2) := by decide +kernel
theorem dX0_tightest_50 : decode cX0_tightest 50 = .ok (.iload 4, 2) := by decide +kernel
theorem dX0_tightest_52 : decode cX0_tightest 52 = .ok (.ifCond .le 16, 3) := by decide +kernel
theorem dX0_tightest_55 : decode cX0_tightest 55 = .ok (.iload_n 1, 1) := by decide +kernel
theorem dX0_tightest_56 : decode cX0_tightest 56 = .ok (.ifCond .lt 9, 3) := by decide +kernel
theorem dX0_tightest_59 : decode cX0_tightest 59 = .ok (.iload 5, 2) := by decide +kernel
theorem dX0_tightest_61 : decode cX0_tightest 61 = .ok (.iload_n 1, 1) := by decide +kernel
theorem dX0_tightest_62 : decode cX0_tightest 62 = .ok (.if_icmp .ge 6, 3) := by decide +kernel
theorem dX0_tightest_65 : decode cX0_tightest 65 = .ok (.iload 5, 2) := by decide +kernel
theorem dX0_tightest_67 : decode cX0_tightest 67 = .ok (.istore_n 1, 1) := by decide +kernel
theorem dX0_tightest_68 : decode cX0_tightest 68 = .ok (.iinc 3 1, 3) := by decide +kernel
theorem dX0_tightest_71 : decode cX0_tightest 71 = .ok (.goto (-51), 3) := by decide +kernel
theorem dX0_tightest_74 : decode cX0_tightest 74 = .ok (.iinc 2 1, 3) := by decide +kernel
theorem dX0_tightest_77 : decode cX0_tightest 77 = .ok (.goto (-72), 3) := by decide +kernel
theorem dX0_tightest_80 : decode cX0_tightest 80 = .ok (.iload_n 1, 1) := by decide +kernel
theorem dX0_tightest_81 : decode cX0_tightest 81 = .ok (.ireturn, 1) := by decide +kernel
theorem dX0_lastValues_0 : decode cX0_lastValues 0 = .ok (.iconst 0, 1) := by decide +kernel
theorem dX0_lastValues_1 : decode cX0_lastValues 1 = .ok (.istore_n 1, 1) := by decide +kernel
theorem dX0_lastValues_2 : decode cX0_lastValues 2 = .ok (.iconst 0, 1) := by decide +kernel
theorem dX0_lastValues_3 : decode cX0_lastValues 3 = .ok (.istore_n 2, 1) := by decide +kernel
theorem dX0_lastValues_4 : decode cX0_lastValues 4 = .ok (.iload_n 2, 1) := by decide +kernel
theorem dX0_lastValues_5 : decode cX0_lastValues 5 = .ok (.aload_n 0, 1) := by decide +kernel
theorem dX0_lastValues_6 : decode cX0_lastValues 6 = .ok (.getfield 48, 3) := by decide +kernel
theorem dX0_lastValues_9 : decode cX0_lastValues 9 = .ok (.if_icmp .ge 26, 3) := by decide +kernel
theorem dX0_lastValues_12 : decode cX0_lastValues 12 = .ok (.aload_n 0, 1) := by decide +kernel
theorem dX0_lastValues_13 : decode cX0_lastValues 13 = .ok (.iload_n 2, 1) := by decide +kernel
theorem dX0_lastValues_14 : decode cX0_lastValues 14 = .ok (.invokevirtual 51, 3) := by decide +kernel
theorem dX0_lastValues_17 : decode cX0_lastValues 17 = .ok (.istore_n 3, 1) := by decide +kernel
theorem dX0_lastValues_18 : decode cX0_lastValues 18 = .ok (.iload_n 1, 1) := by decide +kernel
theorem dX0_lastValues_19 : decode cX0_lastValues 19 = .ok (.iload_n 3, 1) := by decide +kernel
theorem dX0_lastValues_20 : decode cX0_lastValues 20 = .ok (.aload_n 0, 1) := by decide +kernel
theorem dX0_lastValues_21 : decode cX0_lastValues 21 = .ok (.getfield 26, 3) := by decide +kernel
theorem dX0_lastValues_24 : decode cX0_lastValues 24 = .ok (.iload_n 2, 1) := by decide +kernel
theorem dX0_lastValues_25 : decode cX0_lastValues 25 = .ok (.iaload, 1) := by decide +kernel
theorem dX0_lastValues_26 : decode cX0_lastValues 26 = .ok (.imul, 1) := by decide +kernel
theorem dX0_lastValues_27 : decode cX0_lastValues 27 = .ok (.iadd, 1) := by decide +kernel
theorem dX0_lastValues_28 : decode cX0_lastValues 28 = .ok (.istore_n 1, 1) := by decide +kernel
theorem dX0_lastValues_29 : decode cX0_lastValues 29 = .ok (.iinc 2 1, 3) := by decide +kernel
theorem dX0_lastValues_32 : decode cX0_lastValues 32 = .ok (.goto (-28), 3) := by decide +kernel
theorem dX0_lastValues_35 : decode cX0_lastValues 35 = .ok (.iload_n 1, 1) := by decide +kernel
theorem dX0_lastValues_36 : decode cX0_lastValues 36 = .ok (.ireturn, 1) := by decide +kernel
theorem dX0_without_0 : decode cX0_without 0 = .ok (.aload_n 0, 1) := by decide +kernel
theorem dX0_without_1 : decode cX0_without 1 = .ok (.iload_n 1, 1) := by decide +kernel
theorem dX0_without_2 : decode cX0_without 2 = .ok (.invokevirtual 84, 3) := by decide +kernel
theorem dX0_without_5 : decode cX0_without 5 = .ok (.ifCond .eq 6, 3) := by decide +kernel
theorem dX0_without_8 : decode cX0_without 8 = .ok (.bipush (-4), 2) := by decide +kernel
theorem dX0_without_10 : decode cX0_without 10 = .ok (.ireturn, 1) := by decide +kernel
theorem dX0_without_11 : decode cX0_without 11 = .ok (.aload_n 0, 1) := by decide +kernel
theorem dX0_without_12 : decode cX0_without 12 = .ok (.invokevirtual 97, 3) := by decide +kernel
theorem dX0_without_15 : decode cX0_without 15 = .ok (.istore_n 2, 1) := by decide +kernel
theorem dX0_without_16 : decode cX0_without 16 = .ok (.aload_n 0, 1) := by decide +kernel
theorem dX0_without_17 : decode cX0_without 17 = .ok (.iload_n 1, 1) := by decide +kernel
theorem dX0_without_18 : decode cX0_without 18 = .ok (.invokevirtual 101, 3) := by decide +kernel
theorem dX0_without_21 : decode cX0_without 21 = .ok (.istore_n 3, 1) := by decide +kernel
theorem dX0_without_22 : decode cX0_without 22 = .ok (.iload_n 2, 1) := by decide +kernel
theorem dX0_without_23 : decode cX0_without 23 = .ok (.iload_n 3, 1) := by decide +kernel
theorem dX0_without_24 : decode cX0_without 24 = .ok (.isub, 1) := by decide +kernel
theorem dX0_without_25 : decode cX0_without 25 = .ok (.ireturn, 1) := by decide +kernel
end
section
/-! SequencePatternsModel -/
set_option maxRecDepth 100000
def RX1 : String := "SequencePatternsModel"
def TX1 : u_T := fun k => match k with
  | 0 => ("SequencePatternsModel", "types", "[I", true)
  | 1 => ("SequencePatternsModel", "values", "[I", true)
  | 2 => ("SequencePatternsModel", "times", "[I", true)
  | 3 => ("SequencePatternsModel", "count", "I", false)
  | 4 => ("SequencePatternsModel", "stepTypes", "[I", true)
  | 5 => ("SequencePatternsModel", "bounds", "[I", true)
  | 6 => ("SequencePatternsModel", "kinds", "[I", true)
  | 7 => ("SequencePatternsModel", "repeats", "[Z", true)
  | 8 => ("SequencePatternsModel", "steps", "I", false)
  | 9 => ("SequencePatternsModel", "window", "I", false)
  | 10 => ("SequencePatternsModel", "ways", "[I", true)
  | _ => ("SequencePatternsModel", "before", "[I", true)
def tyX1 : Nat → FieldType := fun k => match k with
  | 0 => .array .int
  | 1 => .array .int
  | 2 => .array .int
  | 3 => .int
  | 4 => .array .int
  | 5 => .array .int
  | 6 => .array .int
  | 7 => .array .boolean
  | 8 => .int
  | 9 => .int
  | 10 => .array .int
  | _ => .array .int
abbrev wsX10 : List Cond := u_ws RX1 TX1 12
theorem nmX1 : ∀ a, a < 12 → ∀ b, b < 12 → a ≠ b → (TX1 a).2.1 ≠ (TX1 b).2.1 := by decide +kernel
theorem tyX1_ok : ∀ k, k < 12 → parseFieldDescriptor (TX1 k).2.2.1 = some (tyX1 k) := by decide +kernel
abbrev cX1_init : ByteArray := prog_3_method_1_code
def yX1_init : MethodName := ⟨RX1, "<init>", "()V"⟩
abbrev cX1_begin : ByteArray := prog_3_method_2_code
def yX1_begin : MethodName := ⟨RX1, "begin", "()V"⟩
abbrev cX1_step : ByteArray := prog_3_method_3_code
def yX1_step : MethodName := ⟨RX1, "step", "(III)I"⟩
abbrev cX1_window : ByteArray := prog_3_method_4_code
def yX1_window : MethodName := ⟨RX1, "window", "(I)I"⟩
abbrev cX1_event : ByteArray := prog_3_method_5_code
def yX1_event : MethodName := ⟨RX1, "event", "(III)I"⟩
abbrev cX1_endingAt : ByteArray := prog_3_method_15_code
def yX1_endingAt : MethodName := ⟨RX1, "endingAt", "(I)I"⟩
abbrev cX1_isEvent : ByteArray := prog_3_method_14_code
def yX1_isEvent : MethodName := ⟨RX1, "isEvent", "(I)Z"⟩
abbrev cX1_lastOf : ByteArray := prog_3_method_11_code
def yX1_lastOf : MethodName := ⟨RX1, "lastOf", "(I)I"⟩
abbrev cX1_findsOf : ByteArray := prog_3_method_12_code
def yX1_findsOf : MethodName := ⟨RX1, "findsOf", "(I)I"⟩
abbrev cX1_firstOf : ByteArray := prog_3_method_10_code
def yX1_firstOf : MethodName := ⟨RX1, "firstOf", "(I)I"⟩
abbrev cX1_take : ByteArray := prog_3_method_9_code
def yX1_take : MethodName := ⟨RX1, "take", "(III)V"⟩
abbrev cX1_meets : ByteArray := prog_3_method_8_code
def yX1_meets : MethodName := ⟨RX1, "meets", "(IIII)Z"⟩
abbrev cX1_restart : ByteArray := prog_3_method_6_code
def yX1_restart : MethodName := ⟨RX1, "restart", "()V"⟩
abbrev cX1_events : ByteArray := prog_3_method_7_code
def yX1_events : MethodName := ⟨RX1, "events", "()I"⟩
abbrev cX1_finds : ByteArray := prog_3_method_13_code
def yX1_finds : MethodName := ⟨RX1, "finds", "()I"⟩
abbrev cX1_beginningAt : ByteArray := prog_3_method_16_code
def yX1_beginningAt : MethodName := ⟨RX1, "beginningAt", "(I)I"⟩
abbrev cX1_using : ByteArray := prog_3_method_17_code
def yX1_using : MethodName := ⟨RX1, "using", "(I)I"⟩
abbrev cX1_longest : ByteArray := prog_3_method_19_code
def yX1_longest : MethodName := ⟨RX1, "longest", "()I"⟩
abbrev cX1_sizeOf : ByteArray := prog_3_method_18_code
def yX1_sizeOf : MethodName := ⟨RX1, "sizeOf", "(I)I"⟩
abbrev cX1_tightest : ByteArray := prog_3_method_20_code
def yX1_tightest : MethodName := ⟨RX1, "tightest", "()I"⟩
abbrev cX1_lastValues : ByteArray := prog_3_method_21_code
def yX1_lastValues : MethodName := ⟨RX1, "lastValues", "()I"⟩
abbrev cX1_without : ByteArray := prog_3_method_22_code
def yX1_without : MethodName := ⟨RX1, "without", "(I)I"⟩

theorem q19 : (Jvm.Cond.initialized "SequencePatternsModel") ∈ lw_all := lw_g (lw_at lw_m1 2 rfl) rfl
theorem q174 : (Jvm.Cond.instantiable "SequencePatternsModel" (12 : Nat)) ∈ lw_all := lw_g (lw_at lw_m1 157 rfl) rfl
theorem q176 : (Jvm.Cond.instanceMethod ({ cls := "SequencePatternsModel", name := "<init>", desc := "()V" } : Jvm.MethodName)) ∈ lw_all := lw_g (lw_at lw_m1 159 rfl) rfl
theorem q177 : (Jvm.Cond.code ({ cls := "SequencePatternsModel", name := "<init>", desc := "()V" } : Jvm.MethodName) prog_3_method_1_code (1 : Nat) (Option.none : Option Jvm.ClassFile.FieldType)) ∈ lw_all := lw_g (lw_at lw_m1 160 rfl) rfl
theorem q178 : (Jvm.Cond.methodLink "SequencePatternsModel" (1 : Nat) ({ cls := "java/lang/Object", name := "<init>", desc := "()V" } : Jvm.MethodName)) ∈ lw_all := lw_g (lw_at lw_m1 161 rfl) rfl
theorem q179 : (Jvm.Cond.fieldLink "SequencePatternsModel" (7 : Nat) "SequencePatternsModel" "types" "[I") ∈ lw_all := lw_g (lw_at lw_m1 162 rfl) rfl
theorem q180 : (Jvm.Cond.fieldLink "SequencePatternsModel" (13 : Nat) "SequencePatternsModel" "values" "[I") ∈ lw_all := lw_g (lw_at lw_m1 163 rfl) rfl
theorem q181 : (Jvm.Cond.fieldLink "SequencePatternsModel" (16 : Nat) "SequencePatternsModel" "times" "[I") ∈ lw_all := lw_g (lw_at lw_m1 164 rfl) rfl
theorem q182 : (Jvm.Cond.fieldLink "SequencePatternsModel" (45 : Nat) "SequencePatternsModel" "count" "I") ∈ lw_all := lw_g (lw_at lw_m1 165 rfl) rfl
theorem q183 : (Jvm.Cond.fieldLink "SequencePatternsModel" (19 : Nat) "SequencePatternsModel" "stepTypes" "[I") ∈ lw_all := lw_g (lw_at lw_m1 166 rfl) rfl
theorem q184 : (Jvm.Cond.fieldLink "SequencePatternsModel" (22 : Nat) "SequencePatternsModel" "bounds" "[I") ∈ lw_all := lw_g (lw_at lw_m1 167 rfl) rfl
theorem q185 : (Jvm.Cond.fieldLink "SequencePatternsModel" (25 : Nat) "SequencePatternsModel" "kinds" "[I") ∈ lw_all := lw_g (lw_at lw_m1 168 rfl) rfl
theorem q186 : (Jvm.Cond.fieldLink "SequencePatternsModel" (28 : Nat) "SequencePatternsModel" "repeats" "[Z") ∈ lw_all := lw_g (lw_at lw_m1 169 rfl) rfl
theorem q187 : (Jvm.Cond.fieldLink "SequencePatternsModel" (38 : Nat) "SequencePatternsModel" "steps" "I") ∈ lw_all := lw_g (lw_at lw_m1 170 rfl) rfl
theorem q188 : (Jvm.Cond.fieldLink "SequencePatternsModel" (42 : Nat) "SequencePatternsModel" "window" "I") ∈ lw_all := lw_g (lw_at lw_m1 171 rfl) rfl
theorem q189 : (Jvm.Cond.fieldLink "SequencePatternsModel" (32 : Nat) "SequencePatternsModel" "ways" "[I") ∈ lw_all := lw_g (lw_at lw_m1 172 rfl) rfl
theorem q190 : (Jvm.Cond.fieldLink "SequencePatternsModel" (35 : Nat) "SequencePatternsModel" "before" "[I") ∈ lw_all := lw_g (lw_at lw_m1 173 rfl) rfl
theorem q191 : (Jvm.Cond.laysFinal "SequencePatternsModel" "SequencePatternsModel" "types" "[I") ∈ lw_all := lw_g (lw_at lw_m1 174 rfl) rfl
theorem q192 : (Jvm.Cond.soleField "SequencePatternsModel" "types") ∈ lw_all := lw_g (lw_at lw_m1 175 rfl) rfl
theorem q193 : (Jvm.Cond.laysFinal "SequencePatternsModel" "SequencePatternsModel" "values" "[I") ∈ lw_all := lw_g (lw_at lw_m1 176 rfl) rfl
theorem q194 : (Jvm.Cond.soleField "SequencePatternsModel" "values") ∈ lw_all := lw_g (lw_at lw_m1 177 rfl) rfl
theorem q195 : (Jvm.Cond.laysFinal "SequencePatternsModel" "SequencePatternsModel" "times" "[I") ∈ lw_all := lw_g (lw_at lw_m1 178 rfl) rfl
theorem q196 : (Jvm.Cond.soleField "SequencePatternsModel" "times") ∈ lw_all := lw_g (lw_at lw_m1 179 rfl) rfl
theorem q197 : (Jvm.Cond.lays "SequencePatternsModel" "SequencePatternsModel" "count" "I") ∈ lw_all := lw_g (lw_at lw_m1 180 rfl) rfl
theorem q198 : (Jvm.Cond.soleField "SequencePatternsModel" "count") ∈ lw_all := lw_g (lw_at lw_m1 181 rfl) rfl
theorem q199 : (Jvm.Cond.laysFinal "SequencePatternsModel" "SequencePatternsModel" "stepTypes" "[I") ∈ lw_all := lw_g (lw_at lw_m1 182 rfl) rfl
theorem q200 : (Jvm.Cond.soleField "SequencePatternsModel" "stepTypes") ∈ lw_all := lw_g (lw_at lw_m1 183 rfl) rfl
theorem q201 : (Jvm.Cond.laysFinal "SequencePatternsModel" "SequencePatternsModel" "bounds" "[I") ∈ lw_all := lw_g (lw_at lw_m1 184 rfl) rfl
theorem q202 : (Jvm.Cond.soleField "SequencePatternsModel" "bounds") ∈ lw_all := lw_g (lw_at lw_m1 185 rfl) rfl
theorem q203 : (Jvm.Cond.laysFinal "SequencePatternsModel" "SequencePatternsModel" "kinds" "[I") ∈ lw_all := lw_g (lw_at lw_m1 186 rfl) rfl
theorem q204 : (Jvm.Cond.soleField "SequencePatternsModel" "kinds") ∈ lw_all := lw_g (lw_at lw_m1 187 rfl) rfl
theorem q205 : (Jvm.Cond.laysFinal "SequencePatternsModel" "SequencePatternsModel" "repeats" "[Z") ∈ lw_all := lw_g (lw_at lw_m1 188 rfl) rfl
theorem q206 : (Jvm.Cond.soleField "SequencePatternsModel" "repeats") ∈ lw_all := lw_g (lw_at lw_m1 189 rfl) rfl
theorem q207 : (Jvm.Cond.lays "SequencePatternsModel" "SequencePatternsModel" "steps" "I") ∈ lw_all := lw_g (lw_at lw_m1 190 rfl) rfl
theorem q208 : (Jvm.Cond.soleField "SequencePatternsModel" "steps") ∈ lw_all := lw_g (lw_at lw_m1 191 rfl) rfl
theorem q209 : (Jvm.Cond.lays "SequencePatternsModel" "SequencePatternsModel" "window" "I") ∈ lw_all := lw_g (lw_at lw_m1 192 rfl) rfl
theorem q210 : (Jvm.Cond.soleField "SequencePatternsModel" "window") ∈ lw_all := lw_g (lw_at lw_m1 193 rfl) rfl
theorem q211 : (Jvm.Cond.laysFinal "SequencePatternsModel" "SequencePatternsModel" "ways" "[I") ∈ lw_all := lw_g (lw_at lw_m1 194 rfl) rfl
theorem q212 : (Jvm.Cond.soleField "SequencePatternsModel" "ways") ∈ lw_all := lw_g (lw_at lw_m1 195 rfl) rfl
theorem q213 : (Jvm.Cond.laysFinal "SequencePatternsModel" "SequencePatternsModel" "before" "[I") ∈ lw_all := lw_g (lw_at lw_m1 196 rfl) rfl
theorem q214 : (Jvm.Cond.soleField "SequencePatternsModel" "before") ∈ lw_all := lw_g (lw_at lw_m1 197 rfl) rfl
theorem q215 : (Jvm.Cond.superclass "SequencePatternsModel" "java/lang/Object") ∈ lw_all := lw_g (lw_at lw_m1 198 rfl) rfl
theorem q217 : (Jvm.Cond.instanceMethod ({ cls := "SequencePatternsModel", name := "begin", desc := "()V" } : Jvm.MethodName)) ∈ lw_all := lw_g (lw_at lw_m1 200 rfl) rfl
theorem q218 : (Jvm.Cond.selects "SequencePatternsModel" ({ cls := "SequencePatternsModel", name := "begin", desc := "()V" } : Jvm.MethodName) ({ cls := "SequencePatternsModel", name := "begin", desc := "()V" } : Jvm.MethodName)) ∈ lw_all := lw_g (lw_at lw_m1 201 rfl) rfl
theorem q219 : (Jvm.Cond.code ({ cls := "SequencePatternsModel", name := "begin", desc := "()V" } : Jvm.MethodName) prog_3_method_2_code (1 : Nat) (Option.none : Option Jvm.ClassFile.FieldType)) ∈ lw_all := lw_g (lw_at lw_m1 202 rfl) rfl
theorem q221 : (Jvm.Cond.instanceMethod ({ cls := "SequencePatternsModel", name := "step", desc := "(III)I" } : Jvm.MethodName)) ∈ lw_all := lw_g (lw_at lw_m1 204 rfl) rfl
theorem q222 : (Jvm.Cond.selects "SequencePatternsModel" ({ cls := "SequencePatternsModel", name := "step", desc := "(III)I" } : Jvm.MethodName) ({ cls := "SequencePatternsModel", name := "step", desc := "(III)I" } : Jvm.MethodName)) ∈ lw_all := lw_g (lw_at lw_m1 205 rfl) rfl
theorem q223 : (Jvm.Cond.code ({ cls := "SequencePatternsModel", name := "step", desc := "(III)I" } : Jvm.MethodName) prog_3_method_3_code (5 : Nat) (Option.some Jvm.ClassFile.FieldType.int)) ∈ lw_all := lw_g (lw_at lw_m1 206 rfl) rfl
theorem q225 : (Jvm.Cond.instanceMethod ({ cls := "SequencePatternsModel", name := "window", desc := "(I)I" } : Jvm.MethodName)) ∈ lw_all := lw_g (lw_at lw_m1 208 rfl) rfl
theorem q226 : (Jvm.Cond.selects "SequencePatternsModel" ({ cls := "SequencePatternsModel", name := "window", desc := "(I)I" } : Jvm.MethodName) ({ cls := "SequencePatternsModel", name := "window", desc := "(I)I" } : Jvm.MethodName)) ∈ lw_all := lw_g (lw_at lw_m1 209 rfl) rfl
theorem q227 : (Jvm.Cond.code ({ cls := "SequencePatternsModel", name := "window", desc := "(I)I" } : Jvm.MethodName) prog_3_method_4_code (3 : Nat) (Option.some Jvm.ClassFile.FieldType.int)) ∈ lw_all := lw_g (lw_at lw_m1 210 rfl) rfl
theorem q229 : (Jvm.Cond.instanceMethod ({ cls := "SequencePatternsModel", name := "event", desc := "(III)I" } : Jvm.MethodName)) ∈ lw_all := lw_g (lw_at lw_m1 212 rfl) rfl
theorem q230 : (Jvm.Cond.selects "SequencePatternsModel" ({ cls := "SequencePatternsModel", name := "event", desc := "(III)I" } : Jvm.MethodName) ({ cls := "SequencePatternsModel", name := "event", desc := "(III)I" } : Jvm.MethodName)) ∈ lw_all := lw_g (lw_at lw_m1 213 rfl) rfl
theorem q231 : (Jvm.Cond.code ({ cls := "SequencePatternsModel", name := "event", desc := "(III)I" } : Jvm.MethodName) prog_3_method_5_code (4 : Nat) (Option.some Jvm.ClassFile.FieldType.int)) ∈ lw_all := lw_g (lw_at lw_m1 214 rfl) rfl
theorem q232 : (Jvm.Cond.methodLink "SequencePatternsModel" (48 : Nat) ({ cls := "SequencePatternsModel", name := "endingAt", desc := "(I)I" } : Jvm.MethodName)) ∈ lw_all := lw_g (lw_at lw_m1 215 rfl) rfl
theorem q233 : (Jvm.Cond.instanceMethod ({ cls := "SequencePatternsModel", name := "endingAt", desc := "(I)I" } : Jvm.MethodName)) ∈ lw_all := lw_g (lw_at lw_m1 216 rfl) rfl
theorem q234 : (Jvm.Cond.selects "SequencePatternsModel" ({ cls := "SequencePatternsModel", name := "endingAt", desc := "(I)I" } : Jvm.MethodName) ({ cls := "SequencePatternsModel", name := "endingAt", desc := "(I)I" } : Jvm.MethodName)) ∈ lw_all := lw_g (lw_at lw_m1 217 rfl) rfl
theorem q235 : (Jvm.Cond.code ({ cls := "SequencePatternsModel", name := "endingAt", desc := "(I)I" } : Jvm.MethodName) prog_3_method_15_code (4 : Nat) (Option.some Jvm.ClassFile.FieldType.int)) ∈ lw_all := lw_g (lw_at lw_m1 218 rfl) rfl
theorem q236 : (Jvm.Cond.methodLink "SequencePatternsModel" (66 : Nat) ({ cls := "SequencePatternsModel", name := "isEvent", desc := "(I)Z" } : Jvm.MethodName)) ∈ lw_all := lw_g (lw_at lw_m1 219 rfl) rfl
theorem q237 : (Jvm.Cond.privateMethod ({ cls := "SequencePatternsModel", name := "isEvent", desc := "(I)Z" } : Jvm.MethodName)) ∈ lw_tbl := lw_at lw_m1 220 rfl
theorem q238 : (Jvm.Cond.instanceMethod ({ cls := "SequencePatternsModel", name := "isEvent", desc := "(I)Z" } : Jvm.MethodName)) ∈ lw_all := lw_g (lw_at lw_m1 221 rfl) rfl
theorem q239 : (Jvm.Cond.code ({ cls := "SequencePatternsModel", name := "isEvent", desc := "(I)Z" } : Jvm.MethodName) prog_3_method_14_code (2 : Nat) (Option.some Jvm.ClassFile.FieldType.boolean)) ∈ lw_all := lw_g (lw_at lw_m1 222 rfl) rfl
theorem q240 : (Jvm.Cond.methodLink "SequencePatternsModel" (70 : Nat) ({ cls := "SequencePatternsModel", name := "lastOf", desc := "(I)I" } : Jvm.MethodName)) ∈ lw_all := lw_g (lw_at lw_m1 223 rfl) rfl
theorem q241 : (Jvm.Cond.privateMethod ({ cls := "SequencePatternsModel", name := "lastOf", desc := "(I)I" } : Jvm.MethodName)) ∈ lw_tbl := lw_at lw_m1 224 rfl
theorem q242 : (Jvm.Cond.instanceMethod ({ cls := "SequencePatternsModel", name := "lastOf", desc := "(I)I" } : Jvm.MethodName)) ∈ lw_all := lw_g (lw_at lw_m1 225 rfl) rfl
theorem q243 : (Jvm.Cond.code ({ cls := "SequencePatternsModel", name := "lastOf", desc := "(I)I" } : Jvm.MethodName) prog_3_method_11_code (4 : Nat) (Option.some Jvm.ClassFile.FieldType.int)) ∈ lw_all := lw_g (lw_at lw_m1 226 rfl) rfl
theorem q244 : (Jvm.Cond.methodLink "SequencePatternsModel" (63 : Nat) ({ cls := "SequencePatternsModel", name := "findsOf", desc := "(I)I" } : Jvm.MethodName)) ∈ lw_all := lw_g (lw_at lw_m1 227 rfl) rfl
theorem q245 : (Jvm.Cond.privateMethod ({ cls := "SequencePatternsModel", name := "findsOf", desc := "(I)I" } : Jvm.MethodName)) ∈ lw_tbl := lw_at lw_m1 228 rfl
theorem q246 : (Jvm.Cond.instanceMethod ({ cls := "SequencePatternsModel", name := "findsOf", desc := "(I)I" } : Jvm.MethodName)) ∈ lw_all := lw_g (lw_at lw_m1 229 rfl) rfl
theorem q247 : (Jvm.Cond.code ({ cls := "SequencePatternsModel", name := "findsOf", desc := "(I)I" } : Jvm.MethodName) prog_3_method_12_code (5 : Nat) (Option.some Jvm.ClassFile.FieldType.int)) ∈ lw_all := lw_g (lw_at lw_m1 230 rfl) rfl
theorem q248 : (Jvm.Cond.methodLink "SequencePatternsModel" (56 : Nat) ({ cls := "SequencePatternsModel", name := "firstOf", desc := "(I)I" } : Jvm.MethodName)) ∈ lw_all := lw_g (lw_at lw_m1 231 rfl) rfl
theorem q249 : (Jvm.Cond.privateMethod ({ cls := "SequencePatternsModel", name := "firstOf", desc := "(I)I" } : Jvm.MethodName)) ∈ lw_tbl := lw_at lw_m1 232 rfl
theorem q250 : (Jvm.Cond.instanceMethod ({ cls := "SequencePatternsModel", name := "firstOf", desc := "(I)I" } : Jvm.MethodName)) ∈ lw_all := lw_g (lw_at lw_m1 233 rfl) rfl
theorem q251 : (Jvm.Cond.code ({ cls := "SequencePatternsModel", name := "firstOf", desc := "(I)I" } : Jvm.MethodName) prog_3_method_10_code (4 : Nat) (Option.some Jvm.ClassFile.FieldType.int)) ∈ lw_all := lw_g (lw_at lw_m1 234 rfl) rfl
theorem q252 : (Jvm.Cond.methodLink "SequencePatternsModel" (59 : Nat) ({ cls := "SequencePatternsModel", name := "take", desc := "(III)V" } : Jvm.MethodName)) ∈ lw_all := lw_g (lw_at lw_m1 235 rfl) rfl
theorem q253 : (Jvm.Cond.privateMethod ({ cls := "SequencePatternsModel", name := "take", desc := "(III)V" } : Jvm.MethodName)) ∈ lw_tbl := lw_at lw_m1 236 rfl
theorem q254 : (Jvm.Cond.instanceMethod ({ cls := "SequencePatternsModel", name := "take", desc := "(III)V" } : Jvm.MethodName)) ∈ lw_all := lw_g (lw_at lw_m1 237 rfl) rfl
theorem q255 : (Jvm.Cond.code ({ cls := "SequencePatternsModel", name := "take", desc := "(III)V" } : Jvm.MethodName) prog_3_method_9_code (6 : Nat) (Option.none : Option Jvm.ClassFile.FieldType)) ∈ lw_all := lw_g (lw_at lw_m1 238 rfl) rfl
theorem q256 : (Jvm.Cond.methodLink "SequencePatternsModel" (52 : Nat) ({ cls := "SequencePatternsModel", name := "meets", desc := "(IIII)Z" } : Jvm.MethodName)) ∈ lw_all := lw_g (lw_at lw_m1 239 rfl) rfl
theorem q257 : (Jvm.Cond.privateMethod ({ cls := "SequencePatternsModel", name := "meets", desc := "(IIII)Z" } : Jvm.MethodName)) ∈ lw_tbl := lw_at lw_m2 0 rfl
theorem q258 : (Jvm.Cond.instanceMethod ({ cls := "SequencePatternsModel", name := "meets", desc := "(IIII)Z" } : Jvm.MethodName)) ∈ lw_all := lw_g (lw_at lw_m2 1 rfl) rfl
theorem q259 : (Jvm.Cond.code ({ cls := "SequencePatternsModel", name := "meets", desc := "(IIII)Z" } : Jvm.MethodName) prog_3_method_8_code (5 : Nat) (Option.some Jvm.ClassFile.FieldType.boolean)) ∈ lw_all := lw_g (lw_at lw_m2 2 rfl) rfl
theorem q261 : (Jvm.Cond.instanceMethod ({ cls := "SequencePatternsModel", name := "restart", desc := "()V" } : Jvm.MethodName)) ∈ lw_all := lw_g (lw_at lw_m2 4 rfl) rfl
theorem q262 : (Jvm.Cond.selects "SequencePatternsModel" ({ cls := "SequencePatternsModel", name := "restart", desc := "()V" } : Jvm.MethodName) ({ cls := "SequencePatternsModel", name := "restart", desc := "()V" } : Jvm.MethodName)) ∈ lw_all := lw_g (lw_at lw_m2 5 rfl) rfl
theorem q263 : (Jvm.Cond.code ({ cls := "SequencePatternsModel", name := "restart", desc := "()V" } : Jvm.MethodName) prog_3_method_6_code (1 : Nat) (Option.none : Option Jvm.ClassFile.FieldType)) ∈ lw_all := lw_g (lw_at lw_m2 6 rfl) rfl
theorem q265 : (Jvm.Cond.instanceMethod ({ cls := "SequencePatternsModel", name := "events", desc := "()I" } : Jvm.MethodName)) ∈ lw_all := lw_g (lw_at lw_m2 8 rfl) rfl
theorem q266 : (Jvm.Cond.selects "SequencePatternsModel" ({ cls := "SequencePatternsModel", name := "events", desc := "()I" } : Jvm.MethodName) ({ cls := "SequencePatternsModel", name := "events", desc := "()I" } : Jvm.MethodName)) ∈ lw_all := lw_g (lw_at lw_m2 9 rfl) rfl
theorem q267 : (Jvm.Cond.code ({ cls := "SequencePatternsModel", name := "events", desc := "()I" } : Jvm.MethodName) prog_3_method_7_code (1 : Nat) (Option.some Jvm.ClassFile.FieldType.int)) ∈ lw_all := lw_g (lw_at lw_m2 10 rfl) rfl
theorem q269 : (Jvm.Cond.instanceMethod ({ cls := "SequencePatternsModel", name := "finds", desc := "()I" } : Jvm.MethodName)) ∈ lw_all := lw_g (lw_at lw_m2 12 rfl) rfl
theorem q270 : (Jvm.Cond.selects "SequencePatternsModel" ({ cls := "SequencePatternsModel", name := "finds", desc := "()I" } : Jvm.MethodName) ({ cls := "SequencePatternsModel", name := "finds", desc := "()I" } : Jvm.MethodName)) ∈ lw_all := lw_g (lw_at lw_m2 13 rfl) rfl
theorem q271 : (Jvm.Cond.code ({ cls := "SequencePatternsModel", name := "finds", desc := "()I" } : Jvm.MethodName) prog_3_method_13_code (3 : Nat) (Option.some Jvm.ClassFile.FieldType.int)) ∈ lw_all := lw_g (lw_at lw_m2 14 rfl) rfl
theorem q274 : (Jvm.Cond.instanceMethod ({ cls := "SequencePatternsModel", name := "beginningAt", desc := "(I)I" } : Jvm.MethodName)) ∈ lw_all := lw_g (lw_at lw_m2 17 rfl) rfl
theorem q275 : (Jvm.Cond.selects "SequencePatternsModel" ({ cls := "SequencePatternsModel", name := "beginningAt", desc := "(I)I" } : Jvm.MethodName) ({ cls := "SequencePatternsModel", name := "beginningAt", desc := "(I)I" } : Jvm.MethodName)) ∈ lw_all := lw_g (lw_at lw_m2 18 rfl) rfl
theorem q276 : (Jvm.Cond.code ({ cls := "SequencePatternsModel", name := "beginningAt", desc := "(I)I" } : Jvm.MethodName) prog_3_method_16_code (4 : Nat) (Option.some Jvm.ClassFile.FieldType.int)) ∈ lw_all := lw_g (lw_at lw_m2 19 rfl) rfl
theorem q278 : (Jvm.Cond.instanceMethod ({ cls := "SequencePatternsModel", name := "using", desc := "(I)I" } : Jvm.MethodName)) ∈ lw_all := lw_g (lw_at lw_m2 21 rfl) rfl
theorem q279 : (Jvm.Cond.selects "SequencePatternsModel" ({ cls := "SequencePatternsModel", name := "using", desc := "(I)I" } : Jvm.MethodName) ({ cls := "SequencePatternsModel", name := "using", desc := "(I)I" } : Jvm.MethodName)) ∈ lw_all := lw_g (lw_at lw_m2 22 rfl) rfl
theorem q280 : (Jvm.Cond.code ({ cls := "SequencePatternsModel", name := "using", desc := "(I)I" } : Jvm.MethodName) prog_3_method_17_code (4 : Nat) (Option.some Jvm.ClassFile.FieldType.int)) ∈ lw_all := lw_g (lw_at lw_m2 23 rfl) rfl
theorem q282 : (Jvm.Cond.instanceMethod ({ cls := "SequencePatternsModel", name := "longest", desc := "()I" } : Jvm.MethodName)) ∈ lw_all := lw_g (lw_at lw_m2 25 rfl) rfl
theorem q283 : (Jvm.Cond.selects "SequencePatternsModel" ({ cls := "SequencePatternsModel", name := "longest", desc := "()I" } : Jvm.MethodName) ({ cls := "SequencePatternsModel", name := "longest", desc := "()I" } : Jvm.MethodName)) ∈ lw_all := lw_g (lw_at lw_m2 26 rfl) rfl
theorem q284 : (Jvm.Cond.code ({ cls := "SequencePatternsModel", name := "longest", desc := "()I" } : Jvm.MethodName) prog_3_method_19_code (4 : Nat) (Option.some Jvm.ClassFile.FieldType.int)) ∈ lw_all := lw_g (lw_at lw_m2 27 rfl) rfl
theorem q285 : (Jvm.Cond.methodLink "SequencePatternsModel" (73 : Nat) ({ cls := "SequencePatternsModel", name := "sizeOf", desc := "(I)I" } : Jvm.MethodName)) ∈ lw_all := lw_g (lw_at lw_m2 28 rfl) rfl
theorem q286 : (Jvm.Cond.privateMethod ({ cls := "SequencePatternsModel", name := "sizeOf", desc := "(I)I" } : Jvm.MethodName)) ∈ lw_tbl := lw_at lw_m2 29 rfl
theorem q287 : (Jvm.Cond.instanceMethod ({ cls := "SequencePatternsModel", name := "sizeOf", desc := "(I)I" } : Jvm.MethodName)) ∈ lw_all := lw_g (lw_at lw_m2 30 rfl) rfl
theorem q288 : (Jvm.Cond.code ({ cls := "SequencePatternsModel", name := "sizeOf", desc := "(I)I" } : Jvm.MethodName) prog_3_method_18_code (4 : Nat) (Option.some Jvm.ClassFile.FieldType.int)) ∈ lw_all := lw_g (lw_at lw_m2 31 rfl) rfl
theorem q290 : (Jvm.Cond.instanceMethod ({ cls := "SequencePatternsModel", name := "tightest", desc := "()I" } : Jvm.MethodName)) ∈ lw_all := lw_g (lw_at lw_m2 33 rfl) rfl
theorem q291 : (Jvm.Cond.selects "SequencePatternsModel" ({ cls := "SequencePatternsModel", name := "tightest", desc := "()I" } : Jvm.MethodName) ({ cls := "SequencePatternsModel", name := "tightest", desc := "()I" } : Jvm.MethodName)) ∈ lw_all := lw_g (lw_at lw_m2 34 rfl) rfl
theorem q292 : (Jvm.Cond.code ({ cls := "SequencePatternsModel", name := "tightest", desc := "()I" } : Jvm.MethodName) prog_3_method_20_code (6 : Nat) (Option.some Jvm.ClassFile.FieldType.int)) ∈ lw_all := lw_g (lw_at lw_m2 35 rfl) rfl
theorem q294 : (Jvm.Cond.instanceMethod ({ cls := "SequencePatternsModel", name := "lastValues", desc := "()I" } : Jvm.MethodName)) ∈ lw_all := lw_g (lw_at lw_m2 37 rfl) rfl
theorem q295 : (Jvm.Cond.selects "SequencePatternsModel" ({ cls := "SequencePatternsModel", name := "lastValues", desc := "()I" } : Jvm.MethodName) ({ cls := "SequencePatternsModel", name := "lastValues", desc := "()I" } : Jvm.MethodName)) ∈ lw_all := lw_g (lw_at lw_m2 38 rfl) rfl
theorem q296 : (Jvm.Cond.code ({ cls := "SequencePatternsModel", name := "lastValues", desc := "()I" } : Jvm.MethodName) prog_3_method_21_code (4 : Nat) (Option.some Jvm.ClassFile.FieldType.int)) ∈ lw_all := lw_g (lw_at lw_m2 39 rfl) rfl
theorem q298 : (Jvm.Cond.instanceMethod ({ cls := "SequencePatternsModel", name := "without", desc := "(I)I" } : Jvm.MethodName)) ∈ lw_all := lw_g (lw_at lw_m2 41 rfl) rfl
theorem q299 : (Jvm.Cond.selects "SequencePatternsModel" ({ cls := "SequencePatternsModel", name := "without", desc := "(I)I" } : Jvm.MethodName) ({ cls := "SequencePatternsModel", name := "without", desc := "(I)I" } : Jvm.MethodName)) ∈ lw_all := lw_g (lw_at lw_m2 42 rfl) rfl
theorem q300 : (Jvm.Cond.code ({ cls := "SequencePatternsModel", name := "without", desc := "(I)I" } : Jvm.MethodName) prog_3_method_22_code (4 : Nat) (Option.some Jvm.ClassFile.FieldType.int)) ∈ lw_all := lw_g (lw_at lw_m2 43 rfl) rfl
theorem in_X1 : ∀ w ∈ wsX10, w ∈ lw_all := lw_in wsX10 [191, 193, 195, 197, 199, 201, 203, 205, 207, 209, 211, 213] (by decide +kernel) (by decide +kernel)
end
section
set_option maxRecDepth 100000
theorem dX1_init_0 : decode cX1_init 0 = .ok (.aload_n 0, 1) := by decide +kernel
theorem dX1_init_1 : decode cX1_init 1 = .ok (.invokespecial 1, 3) := by decide +kernel
theorem dX1_init_4 : decode cX1_init 4 = .ok (.aload_n 0, 1) := by decide +kernel
theorem dX1_init_5 : decode cX1_init 5 = .ok (.bipush 10, 2) := by decide +kernel
theorem dX1_init_7 : decode cX1_init 7 = .ok (.newarray .int, 2) := by decide +kernel
theorem dX1_init_9 : decode cX1_init 9 = .ok (.putfield 7, 3) := by decide +kernel
theorem dX1_init_12 : decode cX1_init 12 = .ok (.aload_n 0, 1) := by decide +kernel
theorem dX1_init_13 : decode cX1_init 13 = .ok (.bipush 10, 2) := by decide +kernel
theorem dX1_init_15 : decode cX1_init 15 = .ok (.newarray .int, 2) := by decide +kernel
theorem dX1_init_17 : decode cX1_init 17 = .ok (.putfield 13, 3) := by decide +kernel
theorem dX1_init_20 : decode cX1_init 20 = .ok (.aload_n 0, 1) := by decide +kernel
theorem dX1_init_21 : decode cX1_init 21 = .ok (.bipush 10, 2) := by decide +kernel
theorem dX1_init_23 : decode cX1_init 23 = .ok (.newarray .int, 2) := by decide +kernel
theorem dX1_init_25 : decode cX1_init 25 = .ok (.putfield 16, 3) := by decide +kernel
theorem dX1_init_28 : decode cX1_init 28 = .ok (.aload_n 0, 1) := by decide +kernel
theorem dX1_init_29 : decode cX1_init 29 = .ok (.iconst 4, 1) := by decide +kernel
theorem dX1_init_30 : decode cX1_init 30 = .ok (.newarray .int, 2) := by decide +kernel
theorem dX1_init_32 : decode cX1_init 32 = .ok (.putfield 19, 3) := by decide +kernel
theorem dX1_init_35 : decode cX1_init 35 = .ok (.aload_n 0, 1) := by decide +kernel
theorem dX1_init_36 : decode cX1_init 36 = .ok (.iconst 4, 1) := by decide +kernel
theorem dX1_init_37 : decode cX1_init 37 = .ok (.newarray .int, 2) := by decide +kernel
theorem dX1_init_39 : decode cX1_init 39 = .ok (.putfield 22, 3) := by decide +kernel
theorem dX1_init_42 : decode cX1_init 42 = .ok (.aload_n 0, 1) := by decide +kernel
theorem dX1_init_43 : decode cX1_init 43 = .ok (.iconst 4, 1) := by decide +kernel
theorem dX1_init_44 : decode cX1_init 44 = .ok (.newarray .int, 2) := by decide +kernel
theorem dX1_init_46 : decode cX1_init 46 = .ok (.putfield 25, 3) := by decide +kernel
theorem dX1_init_49 : decode cX1_init 49 = .ok (.aload_n 0, 1) := by decide +kernel
theorem dX1_init_50 : decode cX1_init 50 = .ok (.iconst 4, 1) := by decide +kernel
theorem dX1_init_51 : decode cX1_init 51 = .ok (.newarray .boolean, 2) := by decide +kernel
theorem dX1_init_53 : decode cX1_init 53 = .ok (.putfield 28, 3) := by decide +kernel
theorem dX1_init_56 : decode cX1_init 56 = .ok (.aload_n 0, 1) := by decide +kernel
theorem dX1_init_57 : decode cX1_init 57 = .ok (.iconst 4, 1) := by decide +kernel
theorem dX1_init_58 : decode cX1_init 58 = .ok (.newarray .int, 2) := by decide +kernel
theorem dX1_init_60 : decode cX1_init 60 = .ok (.putfield 32, 3) := by decide +kernel
theorem dX1_init_63 : decode cX1_init 63 = .ok (.aload_n 0, 1) := by decide +kernel
theorem dX1_init_64 : decode cX1_init 64 = .ok (.iconst 4, 1) := by decide +kernel
theorem dX1_init_65 : decode cX1_init 65 = .ok (.newarray .int, 2) := by decide +kernel
theorem dX1_init_67 : decode cX1_init 67 = .ok (.putfield 35, 3) := by decide +kernel
theorem dX1_init_70 : decode cX1_init 70 = .ok (.aload_n 0, 1) := by decide +kernel
theorem dX1_init_71 : decode cX1_init 71 = .ok (.getfield 19, 3) := by decide +kernel
theorem dX1_init_74 : decode cX1_init 74 = .ok (.iconst 0, 1) := by decide +kernel
theorem dX1_init_75 : decode cX1_init 75 = .ok (.iconst 4, 1) := by decide +kernel
theorem dX1_init_76 : decode cX1_init 76 = .ok (.iastore, 1) := by decide +kernel
theorem dX1_init_77 : decode cX1_init 77 = .ok (.aload_n 0, 1) := by decide +kernel
theorem dX1_init_78 : decode cX1_init 78 = .ok (.iconst 1, 1) := by decide +kernel
theorem dX1_init_79 : decode cX1_init 79 = .ok (.putfield 38, 3) := by decide +kernel
theorem dX1_init_82 : decode cX1_init 82 = .ok (.aload_n 0, 1) := by decide +kernel
theorem dX1_init_83 : decode cX1_init 83 = .ok (.bipush 10, 2) := by decide +kernel
theorem dX1_init_85 : decode cX1_init 85 = .ok (.putfield 42, 3) := by decide +kernel
theorem dX1_init_88 : decode cX1_init 88 = .ok (.return_, 1) := by decide +kernel
theorem dX1_begin_0 : decode cX1_begin 0 = .ok (.aload_n 0, 1) := by decide +kernel
theorem dX1_begin_1 : decode cX1_begin 1 = .ok (.iconst 0, 1) := by decide +kernel
theorem dX1_begin_2 : decode cX1_begin 2 = .ok (.putfield 38, 3) := by decide +kernel
theorem dX1_begin_5 : decode cX1_begin 5 = .ok (.return_, 1) := by decide +kernel
theorem dX1_step_0 : decode cX1_step 0 = .ok (.iload_n 3, 1) := by decide +kernel
theorem dX1_step_1 : decode cX1_step 1 = .ok (.ifCond .lt 8, 3) := by decide +kernel
theorem dX1_step_4 : decode cX1_step 4 = .ok (.iload_n 3, 1) := by decide +kernel
theorem dX1_step_5 : decode cX1_step 5 = .ok (.iconst 4, 1) := by decide +kernel
theorem dX1_step_6 : decode cX1_step 6 = .ok (.if_icmp .le 15, 3) := by decide +kernel
theorem dX1_step_9 : decode cX1_step 9 = .ok (.iload_n 3, 1) := by decide +kernel
theorem dX1_step_10 : decode cX1_step 10 = .ok (.bipush 8, 2) := by decide +kernel
theorem dX1_step_12 : decode cX1_step 12 = .ok (.if_icmp .lt 13, 3) := by decide +kernel
theorem dX1_step_15 : decode cX1_step 15 = .ok (.iload_n 3, 1) := by decide +kernel
theorem dX1_step_16 : decode cX1_step 16 = .ok (.bipush 12, 2) := by decide +kernel
theorem dX1_step_18 : decode cX1_step 18 = .ok (.if_icmp .gt 7, 3) := by decide +kernel
theorem dX1_step_21 : decode cX1_step 21 = .ok (.iconst 1, 1) := by decide +kernel
theorem dX1_step_22 : decode cX1_step 22 = .ok (.goto 4, 3) := by decide +kernel
theorem dX1_step_25 : decode cX1_step 25 = .ok (.iconst 0, 1) := by decide +kernel
theorem dX1_step_26 : decode cX1_step 26 = .ok (.istore 4, 2) := by decide +kernel
theorem dX1_step_28 : decode cX1_step 28 = .ok (.iload_n 1, 1) := by decide +kernel
theorem dX1_step_29 : decode cX1_step 29 = .ok (.ifCond .lt 23, 3) := by decide +kernel
theorem dX1_step_32 : decode cX1_step 32 = .ok (.iload_n 1, 1) := by decide +kernel
theorem dX1_step_33 : decode cX1_step 33 = .ok (.iconst 4, 1) := by decide +kernel
theorem dX1_step_34 : decode cX1_step 34 = .ok (.if_icmp .gt 18, 3) := by decide +kernel
theorem dX1_step_37 : decode cX1_step 37 = .ok (.iload_n 2, 1) := by decide +kernel
theorem dX1_step_38 : decode cX1_step 38 = .ok (.ifCond .lt 14, 3) := by decide +kernel
theorem dX1_step_41 : decode cX1_step 41 = .ok (.iload_n 2, 1) := by decide +kernel
theorem dX1_step_42 : decode cX1_step 42 = .ok (.bipush 9, 2) := by decide +kernel
theorem dX1_step_44 : decode cX1_step 44 = .ok (.if_icmp .gt 8, 3) := by decide +kernel
theorem dX1_step_47 : decode cX1_step 47 = .ok (.iload 4, 2) := by decide +kernel
theorem dX1_step_49 : decode cX1_step 49 = .ok (.ifCond .ne 5, 3) := by decide +kernel
theorem dX1_step_52 : decode cX1_step 52 = .ok (.iconst (-1), 1) := by decide +kernel
theorem dX1_step_53 : decode cX1_step 53 = .ok (.ireturn, 1) := by decide +kernel
theorem dX1_step_54 : decode cX1_step 54 = .ok (.aload_n 0, 1) := by decide +kernel
theorem dX1_step_55 : decode cX1_step 55 = .ok (.getfield 38, 3) := by decide +kernel
theorem dX1_step_58 : decode cX1_step 58 = .ok (.iconst 4, 1) := by decide +kernel
theorem dX1_step_59 : decode cX1_step 59 = .ok (.if_icmp .ne 6, 3) := by decide +kernel
theorem dX1_step_62 : decode cX1_step 62 = .ok (.bipush (-2), 2) := by decide +kernel
theorem dX1_step_64 : decode cX1_step 64 = .ok (.ireturn, 1) := by decide +kernel
theorem dX1_step_65 : decode cX1_step 65 = .ok (.aload_n 0, 1) := by decide +kernel
theorem dX1_step_66 : decode cX1_step 66 = .ok (.getfield 19, 3) := by decide +kernel
theorem dX1_step_69 : decode cX1_step 69 = .ok (.aload_n 0, 1) := by decide +kernel
theorem dX1_step_70 : decode cX1_step 70 = .ok (.getfield 38, 3) := by decide +kernel
theorem dX1_step_73 : decode cX1_step 73 = .ok (.iload_n 1, 1) := by decide +kernel
theorem dX1_step_74 : decode cX1_step 74 = .ok (.iastore, 1) := by decide +kernel
theorem dX1_step_75 : decode cX1_step 75 = .ok (.aload_n 0, 1) := by decide +kernel
theorem dX1_step_76 : decode cX1_step 76 = .ok (.getfield 22, 3) := by decide +kernel
theorem dX1_step_79 : decode cX1_step 79 = .ok (.aload_n 0, 1) := by decide +kernel
theorem dX1_step_80 : decode cX1_step 80 = .ok (.getfield 38, 3) := by decide +kernel
theorem dX1_step_83 : decode cX1_step 83 = .ok (.iload_n 2, 1) := by decide +kernel
theorem dX1_step_84 : decode cX1_step 84 = .ok (.iastore, 1) := by decide +kernel
theorem dX1_step_85 : decode cX1_step 85 = .ok (.aload_n 0, 1) := by decide +kernel
theorem dX1_step_86 : decode cX1_step 86 = .ok (.getfield 25, 3) := by decide +kernel
theorem dX1_step_89 : decode cX1_step 89 = .ok (.aload_n 0, 1) := by decide +kernel
theorem dX1_step_90 : decode cX1_step 90 = .ok (.getfield 38, 3) := by decide +kernel
theorem dX1_step_93 : decode cX1_step 93 = .ok (.iload_n 3, 1) := by decide +kernel
theorem dX1_step_94 : decode cX1_step 94 = .ok (.bipush 8, 2) := by decide +kernel
theorem dX1_step_96 : decode cX1_step 96 = .ok (.irem, 1) := by decide +kernel
theorem dX1_step_97 : decode cX1_step 97 = .ok (.iastore, 1) := by decide +kernel
theorem dX1_step_98 : decode cX1_step 98 = .ok (.aload_n 0, 1) := by decide +kernel
theorem dX1_step_99 : decode cX1_step 99 = .ok (.getfield 28, 3) := by decide +kernel
theorem dX1_step_102 : decode cX1_step 102 = .ok (.aload_n 0, 1) := by decide +kernel
theorem dX1_step_103 : decode cX1_step 103 = .ok (.getfield 38, 3) := by decide +kernel
theorem dX1_step_106 : decode cX1_step 106 = .ok (.iload_n 3, 1) := by decide +kernel
theorem dX1_step_107 : decode cX1_step 107 = .ok (.bipush 7, 2) := by decide +kernel
theorem dX1_step_109 : decode cX1_step 109 = .ok (.if_icmp .le 7, 3) := by decide +kernel
theorem dX1_step_112 : decode cX1_step 112 = .ok (.iconst 1, 1) := by decide +kernel
theorem dX1_step_113 : decode cX1_step 113 = .ok (.goto 4, 3) := by decide +kernel
theorem dX1_step_116 : decode cX1_step 116 = .ok (.iconst 0, 1) := by decide +kernel
theorem dX1_step_117 : decode cX1_step 117 = .ok (.bastore, 1) := by decide +kernel
theorem dX1_step_118 : decode cX1_step 118 = .ok (.aload_n 0, 1) := by decide +kernel
theorem dX1_step_119 : decode cX1_step 119 = .ok (.dup, 1) := by decide +kernel
theorem dX1_step_120 : decode cX1_step 120 = .ok (.getfield 38, 3) := by decide +kernel
theorem dX1_step_123 : decode cX1_step 123 = .ok (.iconst 1, 1) := by decide +kernel
theorem dX1_step_124 : decode cX1_step 124 = .ok (.iadd, 1) := by decide +kernel
theorem dX1_step_125 : decode cX1_step 125 = .ok (.putfield 38, 3) := by decide +kernel
theorem dX1_step_128 : decode cX1_step 128 = .ok (.aload_n 0, 1) := by decide +kernel
theorem dX1_step_129 : decode cX1_step 129 = .ok (.getfield 38, 3) := by decide +kernel
theorem dX1_step_132 : decode cX1_step 132 = .ok (.ireturn, 1) := by decide +kernel
theorem dX1_window_0 : decode cX1_window 0 = .ok (.iload_n 1, 1) := by decide +kernel
theorem dX1_window_1 : decode cX1_window 1 = .ok (.ifCond .lt 9, 3) := by decide +kernel
theorem dX1_window_4 : decode cX1_window 4 = .ok (.iload_n 1, 1) := by decide +kernel
theorem dX1_window_5 : decode cX1_window 5 = .ok (.bipush 40, 2) := by decide +kernel
theorem dX1_window_7 : decode cX1_window 7 = .ok (.if_icmp .le 5, 3) := by decide +kernel
theorem dX1_window_10 : decode cX1_window 10 = .ok (.iconst (-1), 1) := by decide +kernel
theorem dX1_window_11 : decode cX1_window 11 = .ok (.ireturn, 1) := by decide +kernel
theorem dX1_window_12 : decode cX1_window 12 = .ok (.aload_n 0, 1) := by decide +kernel
theorem dX1_window_13 : decode cX1_window 13 = .ok (.getfield 42, 3) := by decide +kernel
theorem dX1_window_16 : decode cX1_window 16 = .ok (.istore_n 2, 1) := by decide +kernel
theorem dX1_window_17 : decode cX1_window 17 = .ok (.aload_n 0, 1) := by decide +kernel
theorem dX1_window_18 : decode cX1_window 18 = .ok (.iload_n 1, 1) := by decide +kernel
theorem dX1_window_19 : decode cX1_window 19 = .ok (.putfield 42, 3) := by decide +kernel
theorem dX1_window_22 : decode cX1_window 22 = .ok (.iload_n 2, 1) := by decide +kernel
theorem dX1_window_23 : decode cX1_window 23 = .ok (.ireturn, 1) := by decide +kernel
theorem dX1_event_0 : decode cX1_event 0 = .ok (.iload_n 1, 1) := by decide +kernel
theorem dX1_event_1 : decode cX1_event 1 = .ok (.ifCond .lt 27, 3) := by decide +kernel
theorem dX1_event_4 : decode cX1_event 4 = .ok (.iload_n 1, 1) := by decide +kernel
theorem dX1_event_5 : decode cX1_event 5 = .ok (.iconst 3, 1) := by decide +kernel
theorem dX1_event_6 : decode cX1_event 6 = .ok (.if_icmp .gt 22, 3) := by decide +kernel
theorem dX1_event_9 : decode cX1_event 9 = .ok (.iload_n 2, 1) := by decide +kernel
theorem dX1_event_10 : decode cX1_event 10 = .ok (.ifCond .lt 18, 3) := by decide +kernel
theorem dX1_event_13 : decode cX1_event 13 = .ok (.iload_n 2, 1) := by decide +kernel
theorem dX1_event_14 : decode cX1_event 14 = .ok (.bipush 9, 2) := by decide +kernel
theorem dX1_event_16 : decode cX1_event 16 = .ok (.if_icmp .gt 12, 3) := by decide +kernel
theorem dX1_event_19 : decode cX1_event 19 = .ok (.iload_n 3, 1) := by decide +kernel
theorem dX1_event_20 : decode cX1_event 20 = .ok (.ifCond .lt 8, 3) := by decide +kernel
theorem dX1_event_23 : decode cX1_event 23 = .ok (.iload_n 3, 1) := by decide +kernel
theorem dX1_event_24 : decode cX1_event 24 = .ok (.iconst 5, 1) := by decide +kernel
theorem dX1_event_25 : decode cX1_event 25 = .ok (.if_icmp .le 5, 3) := by decide +kernel
theorem dX1_event_28 : decode cX1_event 28 = .ok (.iconst (-1), 1) := by decide +kernel
theorem dX1_event_29 : decode cX1_event 29 = .ok (.ireturn, 1) := by decide +kernel
theorem dX1_event_30 : decode cX1_event 30 = .ok (.aload_n 0, 1) := by decide +kernel
theorem dX1_event_31 : decode cX1_event 31 = .ok (.getfield 45, 3) := by decide +kernel
theorem dX1_event_34 : decode cX1_event 34 = .ok (.bipush 10, 2) := by decide +kernel
theorem dX1_event_36 : decode cX1_event 36 = .ok (.if_icmp .ne 6, 3) := by decide +kernel
theorem dX1_event_39 : decode cX1_event 39 = .ok (.bipush (-2), 2) := by decide +kernel
theorem dX1_event_41 : decode cX1_event 41 = .ok (.ireturn, 1) := by decide +kernel
theorem dX1_event_42 : decode cX1_event 42 = .ok (.aload_n 0, 1) := by decide +kernel
theorem dX1_event_43 : decode cX1_event 43 = .ok (.getfield 7, 3) := by decide +kernel
theorem dX1_event_46 : decode cX1_event 46 = .ok (.aload_n 0, 1) := by decide +kernel
theorem dX1_event_47 : decode cX1_event 47 = .ok (.getfield 45, 3) := by decide +kernel
theorem dX1_event_50 : decode cX1_event 50 = .ok (.iload_n 1, 1) := by decide +kernel
theorem dX1_event_51 : decode cX1_event 51 = .ok (.iastore, 1) := by decide +kernel
theorem dX1_event_52 : decode cX1_event 52 = .ok (.aload_n 0, 1) := by decide +kernel
theorem dX1_event_53 : decode cX1_event 53 = .ok (.getfield 13, 3) := by decide +kernel
theorem dX1_event_56 : decode cX1_event 56 = .ok (.aload_n 0, 1) := by decide +kernel
theorem dX1_event_57 : decode cX1_event 57 = .ok (.getfield 45, 3) := by decide +kernel
theorem dX1_event_60 : decode cX1_event 60 = .ok (.iload_n 2, 1) := by decide +kernel
theorem dX1_event_61 : decode cX1_event 61 = .ok (.iastore, 1) := by decide +kernel
theorem dX1_event_62 : decode cX1_event 62 = .ok (.aload_n 0, 1) := by decide +kernel
theorem dX1_event_63 : decode cX1_event 63 = .ok (.getfield 16, 3) := by decide +kernel
theorem dX1_event_66 : decode cX1_event 66 = .ok (.aload_n 0, 1) := by decide +kernel
theorem dX1_event_67 : decode cX1_event 67 = .ok (.getfield 45, 3) := by decide +kernel
theorem dX1_event_70 : decode cX1_event 70 = .ok (.aload_n 0, 1) := by decide +kernel
theorem dX1_event_71 : decode cX1_event 71 = .ok (.getfield 45, 3) := by decide +kernel
theorem dX1_event_74 : decode cX1_event 74 = .ok (.ifCond .ne 7, 3) := by decide +kernel
theorem dX1_event_77 : decode cX1_event 77 = .ok (.iconst 0, 1) := by decide +kernel
theorem dX1_event_78 : decode cX1_event 78 = .ok (.goto 14, 3) := by decide +kernel
theorem dX1_event_81 : decode cX1_event 81 = .ok (.aload_n 0, 1) := by decide +kernel
theorem dX1_event_82 : decode cX1_event 82 = .ok (.getfield 16, 3) := by decide +kernel
theorem dX1_event_85 : decode cX1_event 85 = .ok (.aload_n 0, 1) := by decide +kernel
theorem dX1_event_86 : decode cX1_event 86 = .ok (.getfield 45, 3) := by decide +kernel
theorem dX1_event_89 : decode cX1_event 89 = .ok (.iconst 1, 1) := by decide +kernel
theorem dX1_event_90 : decode cX1_event 90 = .ok (.isub, 1) := by decide +kernel
theorem dX1_event_91 : decode cX1_event 91 = .ok (.iaload, 1) := by decide +kernel
theorem dX1_event_92 : decode cX1_event 92 = .ok (.iload_n 3, 1) := by decide +kernel
theorem dX1_event_93 : decode cX1_event 93 = .ok (.iadd, 1) := by decide +kernel
theorem dX1_event_94 : decode cX1_event 94 = .ok (.iastore, 1) := by decide +kernel
theorem dX1_event_95 : decode cX1_event 95 = .ok (.aload_n 0, 1) := by decide +kernel
theorem dX1_event_96 : decode cX1_event 96 = .ok (.dup, 1) := by decide +kernel
theorem dX1_event_97 : decode cX1_event 97 = .ok (.getfield 45, 3) := by decide +kernel
theorem dX1_event_100 : decode cX1_event 100 = .ok (.iconst 1, 1) := by decide +kernel
theorem dX1_event_101 : decode cX1_event 101 = .ok (.iadd, 1) := by decide +kernel
theorem dX1_event_102 : decode cX1_event 102 = .ok (.putfield 45, 3) := by decide +kernel
theorem dX1_event_105 : decode cX1_event 105 = .ok (.aload_n 0, 1) := by decide +kernel
theorem dX1_event_106 : decode cX1_event 106 = .ok (.aload_n 0, 1) := by decide +kernel
theorem dX1_event_107 : decode cX1_event 107 = .ok (.getfield 45, 3) := by decide +kernel
theorem dX1_event_110 : decode cX1_event 110 = .ok (.iconst 1, 1) := by decide +kernel
theorem dX1_event_111 : decode cX1_event 111 = .ok (.isub, 1) := by decide +kernel
theorem dX1_event_112 : decode cX1_event 112 = .ok (.invokevirtual 48, 3) := by decide +kernel
theorem dX1_event_115 : decode cX1_event 115 = .ok (.ireturn, 1) := by decide +kernel
theorem dX1_endingAt_0 : decode cX1_endingAt 0 = .ok (.aload_n 0, 1) := by decide +kernel
theorem dX1_endingAt_1 : decode cX1_endingAt 1 = .ok (.iload_n 1, 1) := by decide +kernel
theorem dX1_endingAt_2 : decode cX1_endingAt 2 = .ok (.invokevirtual 66, 3) := by decide +kernel
theorem dX1_endingAt_5 : decode cX1_endingAt 5 = .ok (.ifCond .ne 6, 3) := by decide +kernel
theorem dX1_endingAt_8 : decode cX1_endingAt 8 = .ok (.bipush (-4), 2) := by decide +kernel
theorem dX1_endingAt_10 : decode cX1_endingAt 10 = .ok (.ireturn, 1) := by decide +kernel
theorem dX1_endingAt_11 : decode cX1_endingAt 11 = .ok (.iconst 0, 1) := by decide +kernel
theorem dX1_endingAt_12 : decode cX1_endingAt 12 = .ok (.istore_n 2, 1) := by decide +kernel
theorem dX1_endingAt_13 : decode cX1_endingAt 13 = .ok (.iconst 1, 1) := by decide +kernel
theorem dX1_endingAt_14 : decode cX1_endingAt 14 = .ok (.istore_n 3, 1) := by decide +kernel
theorem dX1_endingAt_15 : decode cX1_endingAt 15 = .ok (.iload_n 3, 1) := by decide +kernel
theorem dX1_endingAt_16 : decode cX1_endingAt 16 = .ok (.iconst 1, 1) := by decide +kernel
theorem dX1_endingAt_17 : decode cX1_endingAt 17 = .ok (.aload_n 0, 1) := by decide +kernel
theorem dX1_endingAt_18 : decode cX1_endingAt 18 = .ok (.getfield 45, 3) := by decide +kernel
theorem dX1_endingAt_21 : decode cX1_endingAt 21 = .ok (.ishl, 1) := by decide +kernel
theorem dX1_endingAt_22 : decode cX1_endingAt 22 = .ok (.if_icmp .ge 30, 3) := by decide +kernel
theorem dX1_endingAt_25 : decode cX1_endingAt 25 = .ok (.aload_n 0, 1) := by decide +kernel
theorem dX1_endingAt_26 : decode cX1_endingAt 26 = .ok (.iload_n 3, 1) := by decide +kernel
theorem dX1_endingAt_27 : decode cX1_endingAt 27 = .ok (.invokevirtual 70, 3) := by decide +kernel
theorem dX1_endingAt_30 : decode cX1_endingAt 30 = .ok (.iload_n 1, 1) := by decide +kernel
theorem dX1_endingAt_31 : decode cX1_endingAt 31 = .ok (.if_icmp .ne 13, 3) := by decide +kernel
theorem dX1_endingAt_34 : decode cX1_endingAt 34 = .ok (.iload_n 2, 1) := by decide +kernel
theorem dX1_endingAt_35 : decode cX1_endingAt 35 = .ok (.aload_n 0, 1) := by decide +kernel
theorem dX1_endingAt_36 : decode cX1_endingAt 36 = .ok (.iload_n 3, 1) := by decide +kernel
theorem dX1_endingAt_37 : decode cX1_endingAt 37 = .ok (.invokevirtual 63, 3) := by decide +kernel
theorem dX1_endingAt_40 : decode cX1_endingAt 40 = .ok (.iadd, 1) := by decide +kernel
theorem dX1_endingAt_41 : decode cX1_endingAt 41 = .ok (.goto 4, 3) := by decide +kernel
theorem dX1_endingAt_44 : decode cX1_endingAt 44 = .ok (.iload_n 2, 1) := by decide +kernel
theorem dX1_endingAt_45 : decode cX1_endingAt 45 = .ok (.istore_n 2, 1) := by decide +kernel
theorem dX1_endingAt_46 : decode cX1_endingAt 46 = .ok (.iinc 3 1, 3) := by decide +kernel
theorem dX1_endingAt_49 : decode cX1_endingAt 49 = .ok (.goto (-34), 3) := by decide +kernel
theorem dX1_endingAt_52 : decode cX1_endingAt 52 = .ok (.iload_n 2, 1) := by decide +kernel
theorem dX1_endingAt_53 : decode cX1_endingAt 53 = .ok (.ireturn, 1) := by decide +kernel
theorem dX1_isEvent_0 : decode cX1_isEvent 0 = .ok (.iload_n 1, 1) := by decide +kernel
theorem dX1_isEvent_1 : decode cX1_isEvent 1 = .ok (.ifCond .lt 15, 3) := by decide +kernel
theorem dX1_isEvent_4 : decode cX1_isEvent 4 = .ok (.iload_n 1, 1) := by decide +kernel
theorem dX1_isEvent_5 : decode cX1_isEvent 5 = .ok (.aload_n 0, 1) := by decide +kernel
theorem dX1_isEvent_6 : decode cX1_isEvent 6 = .ok (.getfield 45, 3) := by decide +kernel
theorem dX1_isEvent_9 : decode cX1_isEvent 9 = .ok (.if_icmp .ge 7, 3) := by decide +kernel
theorem dX1_isEvent_12 : decode cX1_isEvent 12 = .ok (.iconst 1, 1) := by decide +kernel
theorem dX1_isEvent_13 : decode cX1_isEvent 13 = .ok (.goto 4, 3) := by decide +kernel
theorem dX1_isEvent_16 : decode cX1_isEvent 16 = .ok (.iconst 0, 1) := by decide +kernel
theorem dX1_isEvent_17 : decode cX1_isEvent 17 = .ok (.ireturn, 1) := by decide +kernel
theorem dX1_lastOf_0 : decode cX1_lastOf 0 = .ok (.iconst 0, 1) := by decide +kernel
theorem dX1_lastOf_1 : decode cX1_lastOf 1 = .ok (.istore_n 2, 1) := by decide +kernel
theorem dX1_lastOf_2 : decode cX1_lastOf 2 = .ok (.iconst 0, 1) := by decide +kernel
theorem dX1_lastOf_3 : decode cX1_lastOf 3 = .ok (.istore_n 3, 1) := by decide +kernel
theorem dX1_lastOf_4 : decode cX1_lastOf 4 = .ok (.iload_n 3, 1) := by decide +kernel
theorem dX1_lastOf_5 : decode cX1_lastOf 5 = .ok (.bipush 10, 2) := by decide +kernel
theorem dX1_lastOf_7 : decode cX1_lastOf 7 = .ok (.if_icmp .ge 24, 3) := by decide +kernel
theorem dX1_lastOf_10 : decode cX1_lastOf 10 = .ok (.iload_n 1, 1) := by decide +kernel
theorem dX1_lastOf_11 : decode cX1_lastOf 11 = .ok (.iload_n 3, 1) := by decide +kernel
theorem dX1_lastOf_12 : decode cX1_lastOf 12 = .ok (.ishr, 1) := by decide +kernel
theorem dX1_lastOf_13 : decode cX1_lastOf 13 = .ok (.iconst 1, 1) := by decide +kernel
theorem dX1_lastOf_14 : decode cX1_lastOf 14 = .ok (.iand, 1) := by decide +kernel
theorem dX1_lastOf_15 : decode cX1_lastOf 15 = .ok (.iconst 1, 1) := by decide +kernel
theorem dX1_lastOf_16 : decode cX1_lastOf 16 = .ok (.if_icmp .ne 7, 3) := by decide +kernel
theorem dX1_lastOf_19 : decode cX1_lastOf 19 = .ok (.iload_n 3, 1) := by decide +kernel
theorem dX1_lastOf_20 : decode cX1_lastOf 20 = .ok (.goto 4, 3) := by decide +kernel
theorem dX1_lastOf_23 : decode cX1_lastOf 23 = .ok (.iload_n 2, 1) := by decide +kernel
theorem dX1_lastOf_24 : decode cX1_lastOf 24 = .ok (.istore_n 2, 1) := by decide +kernel
theorem dX1_lastOf_25 : decode cX1_lastOf 25 = .ok (.iinc 3 1, 3) := by decide +kernel
theorem dX1_lastOf_28 : decode cX1_lastOf 28 = .ok (.goto (-24), 3) := by decide +kernel
theorem dX1_lastOf_31 : decode cX1_lastOf 31 = .ok (.iload_n 2, 1) := by decide +kernel
theorem dX1_lastOf_32 : decode cX1_lastOf 32 = .ok (.ireturn, 1) := by decide +kernel
theorem dX1_findsOf_0 : decode cX1_findsOf 0 = .ok (.aload_n 0, 1) := by decide +kernel
theorem dX1_findsOf_1 : decode cX1_findsOf 1 = .ok (.iload_n 1, 1) := by decide +kernel
theorem dX1_findsOf_2 : decode cX1_findsOf 2 = .ok (.invokevirtual 56, 3) := by decide +kernel
theorem dX1_findsOf_5 : decode cX1_findsOf 5 = .ok (.istore_n 2, 1) := by decide +kernel
theorem dX1_findsOf_6 : decode cX1_findsOf 6 = .ok (.iconst (-1), 1) := by decide +kernel
theorem dX1_findsOf_7 : decode cX1_findsOf 7 = .ok (.istore_n 3, 1) := by decide +kernel
theorem dX1_findsOf_8 : decode cX1_findsOf 8 = .ok (.iconst 0, 1) := by decide +kernel
theorem dX1_findsOf_9 : decode cX1_findsOf 9 = .ok (.istore 4, 2) := by decide +kernel
theorem dX1_findsOf_11 : decode cX1_findsOf 11 = .ok (.iload 4, 2) := by decide +kernel
theorem dX1_findsOf_13 : decode cX1_findsOf 13 = .ok (.aload_n 0, 1) := by decide +kernel
theorem dX1_findsOf_14 : decode cX1_findsOf 14 = .ok (.getfield 45, 3) := by decide +kernel
theorem dX1_findsOf_17 : decode cX1_findsOf 17 = .ok (.if_icmp .ge 30, 3) := by decide +kernel
theorem dX1_findsOf_20 : decode cX1_findsOf 20 = .ok (.iload_n 1, 1) := by decide +kernel
theorem dX1_findsOf_21 : decode cX1_findsOf 21 = .ok (.iload 4, 2) := by decide +kernel
theorem dX1_findsOf_23 : decode cX1_findsOf 23 = .ok (.ishr, 1) := by decide +kernel
theorem dX1_findsOf_24 : decode cX1_findsOf 24 = .ok (.iconst 1, 1) := by decide +kernel
theorem dX1_findsOf_25 : decode cX1_findsOf 25 = .ok (.iand, 1) := by decide +kernel
theorem dX1_findsOf_26 : decode cX1_findsOf 26 = .ok (.iconst 1, 1) := by decide +kernel
theorem dX1_findsOf_27 : decode cX1_findsOf 27 = .ok (.if_icmp .ne 14, 3) := by decide +kernel
theorem dX1_findsOf_30 : decode cX1_findsOf 30 = .ok (.aload_n 0, 1) := by decide +kernel
theorem dX1_findsOf_31 : decode cX1_findsOf 31 = .ok (.iload 4, 2) := by decide +kernel
theorem dX1_findsOf_33 : decode cX1_findsOf 33 = .ok (.iload_n 3, 1) := by decide +kernel
theorem dX1_findsOf_34 : decode cX1_findsOf 34 = .ok (.iload_n 2, 1) := by decide +kernel
theorem dX1_findsOf_35 : decode cX1_findsOf 35 = .ok (.invokevirtual 59, 3) := by decide +kernel
theorem dX1_findsOf_38 : decode cX1_findsOf 38 = .ok (.iload 4, 2) := by decide +kernel
theorem dX1_findsOf_40 : decode cX1_findsOf 40 = .ok (.istore_n 3, 1) := by decide +kernel
theorem dX1_findsOf_41 : decode cX1_findsOf 41 = .ok (.iinc 4 1, 3) := by decide +kernel
theorem dX1_findsOf_44 : decode cX1_findsOf 44 = .ok (.goto (-33), 3) := by decide +kernel
theorem dX1_findsOf_47 : decode cX1_findsOf 47 = .ok (.iload_n 3, 1) := by decide +kernel
theorem dX1_findsOf_48 : decode cX1_findsOf 48 = .ok (.ifCond .lt 27, 3) := by decide +kernel
theorem dX1_findsOf_51 : decode cX1_findsOf 51 = .ok (.aload_n 0, 1) := by decide +kernel
theorem dX1_findsOf_52 : decode cX1_findsOf 52 = .ok (.getfield 16, 3) := by decide +kernel
theorem dX1_findsOf_55 : decode cX1_findsOf 55 = .ok (.iload_n 3, 1) := by decide +kernel
theorem dX1_findsOf_56 : decode cX1_findsOf 56 = .ok (.iaload, 1) := by decide +kernel
theorem dX1_findsOf_57 : decode cX1_findsOf 57 = .ok (.aload_n 0, 1) := by decide +kernel
theorem dX1_findsOf_58 : decode cX1_findsOf 58 = .ok (.getfield 16, 3) := by decide +kernel
theorem dX1_findsOf_61 : decode cX1_findsOf 61 = .ok (.iload_n 2, 1) := by decide +kernel
theorem dX1_findsOf_62 : decode cX1_findsOf 62 = .ok (.iaload, 1) := by decide +kernel
theorem dX1_findsOf_63 : decode cX1_findsOf 63 = .ok (.isub, 1) := by decide +kernel
theorem dX1_findsOf_64 : decode cX1_findsOf 64 = .ok (.aload_n 0, 1) := by decide +kernel
theorem dX1_findsOf_65 : decode cX1_findsOf 65 = .ok (.getfield 42, 3) := by decide +kernel
theorem dX1_findsOf_68 : decode cX1_findsOf 68 = .ok (.if_icmp .gt 7, 3) := by decide +kernel
theorem dX1_findsOf_71 : decode cX1_findsOf 71 = .ok (.iconst 1, 1) := by decide +kernel
theorem dX1_findsOf_72 : decode cX1_findsOf 72 = .ok (.goto 4, 3) := by decide +kernel
end
section
set_option maxRecDepth 100000
theorem dX1_findsOf_75 : decode cX1_findsOf 75 = .ok (.iconst 0, 1) := by decide +kernel
theorem dX1_findsOf_76 : decode cX1_findsOf 76 = .ok (.istore 4, 2) := by decide +kernel
theorem dX1_findsOf_78 : decode cX1_findsOf 78 = .ok (.iload 4, 2) := by decide +kernel
theorem dX1_findsOf_80 : decode cX1_findsOf 80 = .ok (.ifCond .eq 24, 3) := by decide +kernel
theorem dX1_findsOf_83 : decode cX1_findsOf 83 = .ok (.aload_n 0, 1) := by decide +kernel
theorem dX1_findsOf_84 : decode cX1_findsOf 84 = .ok (.getfield 38, 3) := by decide +kernel
theorem dX1_findsOf_87 : decode cX1_findsOf 87 = .ok (.ifCond .le 17, 3) := by decide +kernel
theorem dX1_findsOf_90 : decode cX1_findsOf 90 = .ok (.aload_n 0, 1) := by decide +kernel
theorem dX1_findsOf_91 : decode cX1_findsOf 91 = .ok (.getfield 32, 3) := by decide +kernel
theorem dX1_findsOf_94 : decode cX1_findsOf 94 = .ok (.aload_n 0, 1) := by decide +kernel
theorem dX1_findsOf_95 : decode cX1_findsOf 95 = .ok (.getfield 38, 3) := by decide +kernel
theorem dX1_findsOf_98 : decode cX1_findsOf 98 = .ok (.iconst 1, 1) := by decide +kernel
theorem dX1_findsOf_99 : decode cX1_findsOf 99 = .ok (.isub, 1) := by decide +kernel
theorem dX1_findsOf_100 : decode cX1_findsOf 100 = .ok (.iaload, 1) := by decide +kernel
theorem dX1_findsOf_101 : decode cX1_findsOf 101 = .ok (.goto 4, 3) := by decide +kernel
theorem dX1_findsOf_104 : decode cX1_findsOf 104 = .ok (.iconst 0, 1) := by decide +kernel
theorem dX1_findsOf_105 : decode cX1_findsOf 105 = .ok (.ireturn, 1) := by decide +kernel
theorem dX1_firstOf_0 : decode cX1_firstOf 0 = .ok (.bipush 9, 2) := by decide +kernel
theorem dX1_firstOf_2 : decode cX1_firstOf 2 = .ok (.istore_n 2, 1) := by decide +kernel
theorem dX1_firstOf_3 : decode cX1_firstOf 3 = .ok (.bipush 9, 2) := by decide +kernel
theorem dX1_firstOf_5 : decode cX1_firstOf 5 = .ok (.istore_n 3, 1) := by decide +kernel
theorem dX1_firstOf_6 : decode cX1_firstOf 6 = .ok (.iload_n 3, 1) := by decide +kernel
theorem dX1_firstOf_7 : decode cX1_firstOf 7 = .ok (.ifCond .lt 24, 3) := by decide +kernel
theorem dX1_firstOf_10 : decode cX1_firstOf 10 = .ok (.iload_n 1, 1) := by decide +kernel
theorem dX1_firstOf_11 : decode cX1_firstOf 11 = .ok (.iload_n 3, 1) := by decide +kernel
theorem dX1_firstOf_12 : decode cX1_firstOf 12 = .ok (.ishr, 1) := by decide +kernel
theorem dX1_firstOf_13 : decode cX1_firstOf 13 = .ok (.iconst 1, 1) := by decide +kernel
theorem dX1_firstOf_14 : decode cX1_firstOf 14 = .ok (.iand, 1) := by decide +kernel
theorem dX1_firstOf_15 : decode cX1_firstOf 15 = .ok (.iconst 1, 1) := by decide +kernel
theorem dX1_firstOf_16 : decode cX1_firstOf 16 = .ok (.if_icmp .ne 7, 3) := by decide +kernel
theorem dX1_firstOf_19 : decode cX1_firstOf 19 = .ok (.iload_n 3, 1) := by decide +kernel
theorem dX1_firstOf_20 : decode cX1_firstOf 20 = .ok (.goto 4, 3) := by decide +kernel
theorem dX1_firstOf_23 : decode cX1_firstOf 23 = .ok (.iload_n 2, 1) := by decide +kernel
theorem dX1_firstOf_24 : decode cX1_firstOf 24 = .ok (.istore_n 2, 1) := by decide +kernel
theorem dX1_firstOf_25 : decode cX1_firstOf 25 = .ok (.iinc 3 (-1), 3) := by decide +kernel
theorem dX1_firstOf_28 : decode cX1_firstOf 28 = .ok (.goto (-22), 3) := by decide +kernel
theorem dX1_firstOf_31 : decode cX1_firstOf 31 = .ok (.iload_n 2, 1) := by decide +kernel
theorem dX1_firstOf_32 : decode cX1_firstOf 32 = .ok (.ireturn, 1) := by decide +kernel
theorem dX1_take_0 : decode cX1_take 0 = .ok (.iconst 0, 1) := by decide +kernel
theorem dX1_take_1 : decode cX1_take 1 = .ok (.istore 4, 2) := by decide +kernel
theorem dX1_take_3 : decode cX1_take 3 = .ok (.iload 4, 2) := by decide +kernel
theorem dX1_take_5 : decode cX1_take 5 = .ok (.aload_n 0, 1) := by decide +kernel
theorem dX1_take_6 : decode cX1_take 6 = .ok (.getfield 38, 3) := by decide +kernel
theorem dX1_take_9 : decode cX1_take 9 = .ok (.if_icmp .ge 23, 3) := by decide +kernel
theorem dX1_take_12 : decode cX1_take 12 = .ok (.aload_n 0, 1) := by decide +kernel
theorem dX1_take_13 : decode cX1_take 13 = .ok (.getfield 35, 3) := by decide +kernel
theorem dX1_take_16 : decode cX1_take 16 = .ok (.iload 4, 2) := by decide +kernel
theorem dX1_take_18 : decode cX1_take 18 = .ok (.aload_n 0, 1) := by decide +kernel
theorem dX1_take_19 : decode cX1_take 19 = .ok (.getfield 32, 3) := by decide +kernel
theorem dX1_take_22 : decode cX1_take 22 = .ok (.iload 4, 2) := by decide +kernel
theorem dX1_take_24 : decode cX1_take 24 = .ok (.iaload, 1) := by decide +kernel
theorem dX1_take_25 : decode cX1_take 25 = .ok (.iastore, 1) := by decide +kernel
theorem dX1_take_26 : decode cX1_take 26 = .ok (.iinc 4 1, 3) := by decide +kernel
theorem dX1_take_29 : decode cX1_take 29 = .ok (.goto (-26), 3) := by decide +kernel
theorem dX1_take_32 : decode cX1_take 32 = .ok (.iconst 0, 1) := by decide +kernel
theorem dX1_take_33 : decode cX1_take 33 = .ok (.istore 4, 2) := by decide +kernel
theorem dX1_take_35 : decode cX1_take 35 = .ok (.iload 4, 2) := by decide +kernel
theorem dX1_take_37 : decode cX1_take 37 = .ok (.aload_n 0, 1) := by decide +kernel
theorem dX1_take_38 : decode cX1_take 38 = .ok (.getfield 38, 3) := by decide +kernel
theorem dX1_take_41 : decode cX1_take 41 = .ok (.if_icmp .ge 102, 3) := by decide +kernel
theorem dX1_take_44 : decode cX1_take 44 = .ok (.aload_n 0, 1) := by decide +kernel
theorem dX1_take_45 : decode cX1_take 45 = .ok (.getfield 28, 3) := by decide +kernel
theorem dX1_take_48 : decode cX1_take 48 = .ok (.iload 4, 2) := by decide +kernel
theorem dX1_take_50 : decode cX1_take 50 = .ok (.baload, 1) := by decide +kernel
theorem dX1_take_51 : decode cX1_take 51 = .ok (.ifCond .eq 13, 3) := by decide +kernel
theorem dX1_take_54 : decode cX1_take 54 = .ok (.aload_n 0, 1) := by decide +kernel
theorem dX1_take_55 : decode cX1_take 55 = .ok (.getfield 35, 3) := by decide +kernel
theorem dX1_take_58 : decode cX1_take 58 = .ok (.iload 4, 2) := by decide +kernel
theorem dX1_take_60 : decode cX1_take 60 = .ok (.iaload, 1) := by decide +kernel
theorem dX1_take_61 : decode cX1_take 61 = .ok (.goto 4, 3) := by decide +kernel
theorem dX1_take_64 : decode cX1_take 64 = .ok (.iconst 0, 1) := by decide +kernel
theorem dX1_take_65 : decode cX1_take 65 = .ok (.istore 5, 2) := by decide +kernel
theorem dX1_take_67 : decode cX1_take 67 = .ok (.iload 4, 2) := by decide +kernel
theorem dX1_take_69 : decode cX1_take 69 = .ok (.ifCond .le 18, 3) := by decide +kernel
theorem dX1_take_72 : decode cX1_take 72 = .ok (.iload 5, 2) := by decide +kernel
theorem dX1_take_74 : decode cX1_take 74 = .ok (.aload_n 0, 1) := by decide +kernel
theorem dX1_take_75 : decode cX1_take 75 = .ok (.getfield 35, 3) := by decide +kernel
theorem dX1_take_78 : decode cX1_take 78 = .ok (.iload 4, 2) := by decide +kernel
theorem dX1_take_80 : decode cX1_take 80 = .ok (.iconst 1, 1) := by decide +kernel
theorem dX1_take_81 : decode cX1_take 81 = .ok (.isub, 1) := by decide +kernel
theorem dX1_take_82 : decode cX1_take 82 = .ok (.iaload, 1) := by decide +kernel
theorem dX1_take_83 : decode cX1_take 83 = .ok (.iadd, 1) := by decide +kernel
theorem dX1_take_84 : decode cX1_take 84 = .ok (.goto 5, 3) := by decide +kernel
theorem dX1_take_87 : decode cX1_take 87 = .ok (.iload 5, 2) := by decide +kernel
theorem dX1_take_89 : decode cX1_take 89 = .ok (.istore 5, 2) := by decide +kernel
theorem dX1_take_91 : decode cX1_take 91 = .ok (.iload_n 2, 1) := by decide +kernel
theorem dX1_take_92 : decode cX1_take 92 = .ok (.ifCond .ge 16, 3) := by decide +kernel
theorem dX1_take_95 : decode cX1_take 95 = .ok (.iload 4, 2) := by decide +kernel
theorem dX1_take_97 : decode cX1_take 97 = .ok (.ifCond .ne 7, 3) := by decide +kernel
theorem dX1_take_100 : decode cX1_take 100 = .ok (.iconst 1, 1) := by decide +kernel
theorem dX1_take_101 : decode cX1_take 101 = .ok (.goto 9, 3) := by decide +kernel
theorem dX1_take_104 : decode cX1_take 104 = .ok (.iconst 0, 1) := by decide +kernel
theorem dX1_take_105 : decode cX1_take 105 = .ok (.goto 5, 3) := by decide +kernel
theorem dX1_take_108 : decode cX1_take 108 = .ok (.iload 5, 2) := by decide +kernel
theorem dX1_take_110 : decode cX1_take 110 = .ok (.istore 5, 2) := by decide +kernel
theorem dX1_take_112 : decode cX1_take 112 = .ok (.aload_n 0, 1) := by decide +kernel
theorem dX1_take_113 : decode cX1_take 113 = .ok (.getfield 32, 3) := by decide +kernel
theorem dX1_take_116 : decode cX1_take 116 = .ok (.iload 4, 2) := by decide +kernel
theorem dX1_take_118 : decode cX1_take 118 = .ok (.aload_n 0, 1) := by decide +kernel
theorem dX1_take_119 : decode cX1_take 119 = .ok (.iload_n 1, 1) := by decide +kernel
theorem dX1_take_120 : decode cX1_take 120 = .ok (.iload 4, 2) := by decide +kernel
theorem dX1_take_122 : decode cX1_take 122 = .ok (.iload_n 2, 1) := by decide +kernel
theorem dX1_take_123 : decode cX1_take 123 = .ok (.iload_n 3, 1) := by decide +kernel
theorem dX1_take_124 : decode cX1_take 124 = .ok (.invokevirtual 52, 3) := by decide +kernel
theorem dX1_take_127 : decode cX1_take 127 = .ok (.ifCond .eq 8, 3) := by decide +kernel
theorem dX1_take_130 : decode cX1_take 130 = .ok (.iload 5, 2) := by decide +kernel
theorem dX1_take_132 : decode cX1_take 132 = .ok (.goto 4, 3) := by decide +kernel
theorem dX1_take_135 : decode cX1_take 135 = .ok (.iconst 0, 1) := by decide +kernel
theorem dX1_take_136 : decode cX1_take 136 = .ok (.iastore, 1) := by decide +kernel
theorem dX1_take_137 : decode cX1_take 137 = .ok (.iinc 4 1, 3) := by decide +kernel
theorem dX1_take_140 : decode cX1_take 140 = .ok (.goto (-105), 3) := by decide +kernel
theorem dX1_take_143 : decode cX1_take 143 = .ok (.return_, 1) := by decide +kernel
theorem dX1_meets_0 : decode cX1_meets 0 = .ok (.aload_n 0, 1) := by decide +kernel
theorem dX1_meets_1 : decode cX1_meets 1 = .ok (.getfield 19, 3) := by decide +kernel
theorem dX1_meets_4 : decode cX1_meets 4 = .ok (.iload_n 2, 1) := by decide +kernel
theorem dX1_meets_5 : decode cX1_meets 5 = .ok (.iaload, 1) := by decide +kernel
theorem dX1_meets_6 : decode cX1_meets 6 = .ok (.iconst 4, 1) := by decide +kernel
theorem dX1_meets_7 : decode cX1_meets 7 = .ok (.if_icmp .eq 20, 3) := by decide +kernel
theorem dX1_meets_10 : decode cX1_meets 10 = .ok (.aload_n 0, 1) := by decide +kernel
theorem dX1_meets_11 : decode cX1_meets 11 = .ok (.getfield 7, 3) := by decide +kernel
theorem dX1_meets_14 : decode cX1_meets 14 = .ok (.iload_n 1, 1) := by decide +kernel
theorem dX1_meets_15 : decode cX1_meets 15 = .ok (.iaload, 1) := by decide +kernel
theorem dX1_meets_16 : decode cX1_meets 16 = .ok (.aload_n 0, 1) := by decide +kernel
theorem dX1_meets_17 : decode cX1_meets 17 = .ok (.getfield 19, 3) := by decide +kernel
theorem dX1_meets_20 : decode cX1_meets 20 = .ok (.iload_n 2, 1) := by decide +kernel
theorem dX1_meets_21 : decode cX1_meets 21 = .ok (.iaload, 1) := by decide +kernel
theorem dX1_meets_22 : decode cX1_meets 22 = .ok (.if_icmp .eq 5, 3) := by decide +kernel
theorem dX1_meets_25 : decode cX1_meets 25 = .ok (.iconst 0, 1) := by decide +kernel
theorem dX1_meets_26 : decode cX1_meets 26 = .ok (.ireturn, 1) := by decide +kernel
theorem dX1_meets_27 : decode cX1_meets 27 = .ok (.aload_n 0, 1) := by decide +kernel
theorem dX1_meets_28 : decode cX1_meets 28 = .ok (.getfield 25, 3) := by decide +kernel
theorem dX1_meets_31 : decode cX1_meets 31 = .ok (.iload_n 2, 1) := by decide +kernel
theorem dX1_meets_32 : decode cX1_meets 32 = .ok (.iaload, 1) := by decide +kernel
theorem dX1_meets_33 : decode cX1_meets 33 = .ok (.iconst 1, 1) := by decide +kernel
theorem dX1_meets_34 : decode cX1_meets 34 = .ok (.if_icmp .ne 28, 3) := by decide +kernel
theorem dX1_meets_37 : decode cX1_meets 37 = .ok (.iload_n 3, 1) := by decide +kernel
theorem dX1_meets_38 : decode cX1_meets 38 = .ok (.ifCond .lt 18, 3) := by decide +kernel
theorem dX1_meets_41 : decode cX1_meets 41 = .ok (.aload_n 0, 1) := by decide +kernel
theorem dX1_meets_42 : decode cX1_meets 42 = .ok (.getfield 13, 3) := by decide +kernel
theorem dX1_meets_45 : decode cX1_meets 45 = .ok (.iload_n 1, 1) := by decide +kernel
theorem dX1_meets_46 : decode cX1_meets 46 = .ok (.iaload, 1) := by decide +kernel
theorem dX1_meets_47 : decode cX1_meets 47 = .ok (.aload_n 0, 1) := by decide +kernel
theorem dX1_meets_48 : decode cX1_meets 48 = .ok (.getfield 13, 3) := by decide +kernel
theorem dX1_meets_51 : decode cX1_meets 51 = .ok (.iload_n 3, 1) := by decide +kernel
theorem dX1_meets_52 : decode cX1_meets 52 = .ok (.iaload, 1) := by decide +kernel
theorem dX1_meets_53 : decode cX1_meets 53 = .ok (.if_icmp .le 7, 3) := by decide +kernel
theorem dX1_meets_56 : decode cX1_meets 56 = .ok (.iconst 1, 1) := by decide +kernel
theorem dX1_meets_57 : decode cX1_meets 57 = .ok (.goto 4, 3) := by decide +kernel
theorem dX1_meets_60 : decode cX1_meets 60 = .ok (.iconst 0, 1) := by decide +kernel
theorem dX1_meets_61 : decode cX1_meets 61 = .ok (.ireturn, 1) := by decide +kernel
theorem dX1_meets_62 : decode cX1_meets 62 = .ok (.aload_n 0, 1) := by decide +kernel
theorem dX1_meets_63 : decode cX1_meets 63 = .ok (.getfield 25, 3) := by decide +kernel
theorem dX1_meets_66 : decode cX1_meets 66 = .ok (.iload_n 2, 1) := by decide +kernel
theorem dX1_meets_67 : decode cX1_meets 67 = .ok (.iaload, 1) := by decide +kernel
theorem dX1_meets_68 : decode cX1_meets 68 = .ok (.iconst 2, 1) := by decide +kernel
theorem dX1_meets_69 : decode cX1_meets 69 = .ok (.if_icmp .ne 28, 3) := by decide +kernel
theorem dX1_meets_72 : decode cX1_meets 72 = .ok (.iload_n 3, 1) := by decide +kernel
theorem dX1_meets_73 : decode cX1_meets 73 = .ok (.ifCond .lt 18, 3) := by decide +kernel
theorem dX1_meets_76 : decode cX1_meets 76 = .ok (.aload_n 0, 1) := by decide +kernel
theorem dX1_meets_77 : decode cX1_meets 77 = .ok (.getfield 13, 3) := by decide +kernel
theorem dX1_meets_80 : decode cX1_meets 80 = .ok (.iload_n 1, 1) := by decide +kernel
theorem dX1_meets_81 : decode cX1_meets 81 = .ok (.iaload, 1) := by decide +kernel
theorem dX1_meets_82 : decode cX1_meets 82 = .ok (.aload_n 0, 1) := by decide +kernel
theorem dX1_meets_83 : decode cX1_meets 83 = .ok (.getfield 13, 3) := by decide +kernel
theorem dX1_meets_86 : decode cX1_meets 86 = .ok (.iload_n 3, 1) := by decide +kernel
theorem dX1_meets_87 : decode cX1_meets 87 = .ok (.iaload, 1) := by decide +kernel
theorem dX1_meets_88 : decode cX1_meets 88 = .ok (.if_icmp .ge 7, 3) := by decide +kernel
theorem dX1_meets_91 : decode cX1_meets 91 = .ok (.iconst 1, 1) := by decide +kernel
theorem dX1_meets_92 : decode cX1_meets 92 = .ok (.goto 4, 3) := by decide +kernel
theorem dX1_meets_95 : decode cX1_meets 95 = .ok (.iconst 0, 1) := by decide +kernel
theorem dX1_meets_96 : decode cX1_meets 96 = .ok (.ireturn, 1) := by decide +kernel
theorem dX1_meets_97 : decode cX1_meets 97 = .ok (.aload_n 0, 1) := by decide +kernel
theorem dX1_meets_98 : decode cX1_meets 98 = .ok (.getfield 25, 3) := by decide +kernel
theorem dX1_meets_101 : decode cX1_meets 101 = .ok (.iload_n 2, 1) := by decide +kernel
theorem dX1_meets_102 : decode cX1_meets 102 = .ok (.iaload, 1) := by decide +kernel
theorem dX1_meets_103 : decode cX1_meets 103 = .ok (.iconst 3, 1) := by decide +kernel
theorem dX1_meets_104 : decode cX1_meets 104 = .ok (.if_icmp .ne 24, 3) := by decide +kernel
theorem dX1_meets_107 : decode cX1_meets 107 = .ok (.aload_n 0, 1) := by decide +kernel
theorem dX1_meets_108 : decode cX1_meets 108 = .ok (.getfield 13, 3) := by decide +kernel
theorem dX1_meets_111 : decode cX1_meets 111 = .ok (.iload_n 1, 1) := by decide +kernel
theorem dX1_meets_112 : decode cX1_meets 112 = .ok (.iaload, 1) := by decide +kernel
theorem dX1_meets_113 : decode cX1_meets 113 = .ok (.aload_n 0, 1) := by decide +kernel
theorem dX1_meets_114 : decode cX1_meets 114 = .ok (.getfield 22, 3) := by decide +kernel
theorem dX1_meets_117 : decode cX1_meets 117 = .ok (.iload_n 2, 1) := by decide +kernel
theorem dX1_meets_118 : decode cX1_meets 118 = .ok (.iaload, 1) := by decide +kernel
theorem dX1_meets_119 : decode cX1_meets 119 = .ok (.if_icmp .ne 7, 3) := by decide +kernel
theorem dX1_meets_122 : decode cX1_meets 122 = .ok (.iconst 1, 1) := by decide +kernel
theorem dX1_meets_123 : decode cX1_meets 123 = .ok (.goto 4, 3) := by decide +kernel
theorem dX1_meets_126 : decode cX1_meets 126 = .ok (.iconst 0, 1) := by decide +kernel
theorem dX1_meets_127 : decode cX1_meets 127 = .ok (.ireturn, 1) := by decide +kernel
theorem dX1_meets_128 : decode cX1_meets 128 = .ok (.aload_n 0, 1) := by decide +kernel
theorem dX1_meets_129 : decode cX1_meets 129 = .ok (.getfield 25, 3) := by decide +kernel
theorem dX1_meets_132 : decode cX1_meets 132 = .ok (.iload_n 2, 1) := by decide +kernel
theorem dX1_meets_133 : decode cX1_meets 133 = .ok (.iaload, 1) := by decide +kernel
theorem dX1_meets_134 : decode cX1_meets 134 = .ok (.ifCond .eq 19, 3) := by decide +kernel
theorem dX1_meets_137 : decode cX1_meets 137 = .ok (.aload_n 0, 1) := by decide +kernel
theorem dX1_meets_138 : decode cX1_meets 138 = .ok (.getfield 13, 3) := by decide +kernel
theorem dX1_meets_141 : decode cX1_meets 141 = .ok (.iload_n 1, 1) := by decide +kernel
theorem dX1_meets_142 : decode cX1_meets 142 = .ok (.iaload, 1) := by decide +kernel
theorem dX1_meets_143 : decode cX1_meets 143 = .ok (.aload_n 0, 1) := by decide +kernel
theorem dX1_meets_144 : decode cX1_meets 144 = .ok (.getfield 13, 3) := by decide +kernel
theorem dX1_meets_147 : decode cX1_meets 147 = .ok (.iload 4, 2) := by decide +kernel
theorem dX1_meets_149 : decode cX1_meets 149 = .ok (.iaload, 1) := by decide +kernel
theorem dX1_meets_150 : decode cX1_meets 150 = .ok (.if_icmp .ne 7, 3) := by decide +kernel
theorem dX1_meets_153 : decode cX1_meets 153 = .ok (.iconst 1, 1) := by decide +kernel
theorem dX1_meets_154 : decode cX1_meets 154 = .ok (.goto 4, 3) := by decide +kernel
theorem dX1_meets_157 : decode cX1_meets 157 = .ok (.iconst 0, 1) := by decide +kernel
theorem dX1_meets_158 : decode cX1_meets 158 = .ok (.ireturn, 1) := by decide +kernel
theorem dX1_restart_0 : decode cX1_restart 0 = .ok (.aload_n 0, 1) := by decide +kernel
theorem dX1_restart_1 : decode cX1_restart 1 = .ok (.iconst 0, 1) := by decide +kernel
theorem dX1_restart_2 : decode cX1_restart 2 = .ok (.putfield 45, 3) := by decide +kernel
theorem dX1_restart_5 : decode cX1_restart 5 = .ok (.return_, 1) := by decide +kernel
theorem dX1_events_0 : decode cX1_events 0 = .ok (.aload_n 0, 1) := by decide +kernel
theorem dX1_events_1 : decode cX1_events 1 = .ok (.getfield 45, 3) := by decide +kernel
theorem dX1_events_4 : decode cX1_events 4 = .ok (.ireturn, 1) := by decide +kernel
theorem dX1_finds_0 : decode cX1_finds 0 = .ok (.iconst 0, 1) := by decide +kernel
theorem dX1_finds_1 : decode cX1_finds 1 = .ok (.istore_n 1, 1) := by decide +kernel
theorem dX1_finds_2 : decode cX1_finds 2 = .ok (.iconst 1, 1) := by decide +kernel
theorem dX1_finds_3 : decode cX1_finds 3 = .ok (.istore_n 2, 1) := by decide +kernel
theorem dX1_finds_4 : decode cX1_finds 4 = .ok (.iload_n 2, 1) := by decide +kernel
theorem dX1_finds_5 : decode cX1_finds 5 = .ok (.iconst 1, 1) := by decide +kernel
theorem dX1_finds_6 : decode cX1_finds 6 = .ok (.aload_n 0, 1) := by decide +kernel
theorem dX1_finds_7 : decode cX1_finds 7 = .ok (.getfield 45, 3) := by decide +kernel
theorem dX1_finds_10 : decode cX1_finds 10 = .ok (.ishl, 1) := by decide +kernel
theorem dX1_finds_11 : decode cX1_finds 11 = .ok (.if_icmp .ge 17, 3) := by decide +kernel
theorem dX1_finds_14 : decode cX1_finds 14 = .ok (.iload_n 1, 1) := by decide +kernel
theorem dX1_finds_15 : decode cX1_finds 15 = .ok (.aload_n 0, 1) := by decide +kernel
theorem dX1_finds_16 : decode cX1_finds 16 = .ok (.iload_n 2, 1) := by decide +kernel
theorem dX1_finds_17 : decode cX1_finds 17 = .ok (.invokevirtual 63, 3) := by decide +kernel
theorem dX1_finds_20 : decode cX1_finds 20 = .ok (.iadd, 1) := by decide +kernel
theorem dX1_finds_21 : decode cX1_finds 21 = .ok (.istore_n 1, 1) := by decide +kernel
theorem dX1_finds_22 : decode cX1_finds 22 = .ok (.iinc 2 1, 3) := by decide +kernel
theorem dX1_finds_25 : decode cX1_finds 25 = .ok (.goto (-21), 3) := by decide +kernel
theorem dX1_finds_28 : decode cX1_finds 28 = .ok (.iload_n 1, 1) := by decide +kernel
theorem dX1_finds_29 : decode cX1_finds 29 = .ok (.ireturn, 1) := by decide +kernel
theorem dX1_beginningAt_0 : decode cX1_beginningAt 0 = .ok (.aload_n 0, 1) := by decide +kernel
theorem dX1_beginningAt_1 : decode cX1_beginningAt 1 = .ok (.iload_n 1, 1) := by decide +kernel
theorem dX1_beginningAt_2 : decode cX1_beginningAt 2 = .ok (.invokevirtual 66, 3) := by decide +kernel
theorem dX1_beginningAt_5 : decode cX1_beginningAt 5 = .ok (.ifCond .ne 6, 3) := by decide +kernel
theorem dX1_beginningAt_8 : decode cX1_beginningAt 8 = .ok (.bipush (-4), 2) := by decide +kernel
theorem dX1_beginningAt_10 : decode cX1_beginningAt 10 = .ok (.ireturn, 1) := by decide +kernel
theorem dX1_beginningAt_11 : decode cX1_beginningAt 11 = .ok (.iconst 0, 1) := by decide +kernel
theorem dX1_beginningAt_12 : decode cX1_beginningAt 12 = .ok (.istore_n 2, 1) := by decide +kernel
theorem dX1_beginningAt_13 : decode cX1_beginningAt 13 = .ok (.iconst 1, 1) := by decide +kernel
theorem dX1_beginningAt_14 : decode cX1_beginningAt 14 = .ok (.istore_n 3, 1) := by decide +kernel
theorem dX1_beginningAt_15 : decode cX1_beginningAt 15 = .ok (.iload_n 3, 1) := by decide +kernel
theorem dX1_beginningAt_16 : decode cX1_beginningAt 16 = .ok (.iconst 1, 1) := by decide +kernel
theorem dX1_beginningAt_17 : decode cX1_beginningAt 17 = .ok (.aload_n 0, 1) := by decide +kernel
theorem dX1_beginningAt_18 : decode cX1_beginningAt 18 = .ok (.getfield 45, 3) := by decide +kernel
theorem dX1_beginningAt_21 : decode cX1_beginningAt 21 = .ok (.ishl, 1) := by decide +kernel
theorem dX1_beginningAt_22 : decode cX1_beginningAt 22 = .ok (.if_icmp .ge 30, 3) := by decide +kernel
theorem dX1_beginningAt_25 : decode cX1_beginningAt 25 = .ok (.aload_n 0, 1) := by decide +kernel
theorem dX1_beginningAt_26 : decode cX1_beginningAt 26 = .ok (.iload_n 3, 1) := by decide +kernel
theorem dX1_beginningAt_27 : decode cX1_beginningAt 27 = .ok (.invokevirtual 56, 3) := by decide +kernel
theorem dX1_beginningAt_30 : decode cX1_beginningAt 30 = .ok (.iload_n 1, 1) := by decide +kernel
theorem dX1_beginningAt_31 : decode cX1_beginningAt 31 = .ok (.if_icmp .ne 13, 3) := by decide +kernel
theorem dX1_beginningAt_34 : decode cX1_beginningAt 34 = .ok (.iload_n 2, 1) := by decide +kernel
theorem dX1_beginningAt_35 : decode cX1_beginningAt 35 = .ok (.aload_n 0, 1) := by decide +kernel
theorem dX1_beginningAt_36 : decode cX1_beginningAt 36 = .ok (.iload_n 3, 1) := by decide +kernel
theorem dX1_beginningAt_37 : decode cX1_beginningAt 37 = .ok (.invokevirtual 63, 3) := by decide +kernel
theorem dX1_beginningAt_40 : decode cX1_beginningAt 40 = .ok (.iadd, 1) := by decide +kernel
theorem dX1_beginningAt_41 : decode cX1_beginningAt 41 = .ok (.goto 4, 3) := by decide +kernel
theorem dX1_beginningAt_44 : decode cX1_beginningAt 44 = .ok (.iload_n 2, 1) := by decide +kernel
theorem dX1_beginningAt_45 : decode cX1_beginningAt 45 = .ok (.istore_n 2, 1) := by decide +kernel
theorem dX1_beginningAt_46 : decode cX1_beginningAt 46 = .ok (.iinc 3 1, 3) := by decide +kernel
theorem dX1_beginningAt_49 : decode cX1_beginningAt 49 = .ok (.goto (-34), 3) := by decide +kernel
theorem dX1_beginningAt_52 : decode cX1_beginningAt 52 = .ok (.iload_n 2, 1) := by decide +kernel
theorem dX1_beginningAt_53 : decode cX1_beginningAt 53 = .ok (.ireturn, 1) := by decide +kernel
theorem dX1_using_0 : decode cX1_using 0 = .ok (.aload_n 0, 1) := by decide +kernel
theorem dX1_using_1 : decode cX1_using 1 = .ok (.iload_n 1, 1) := by decide +kernel
theorem dX1_using_2 : decode cX1_using 2 = .ok (.invokevirtual 66, 3) := by decide +kernel
theorem dX1_using_5 : decode cX1_using 5 = .ok (.ifCond .ne 6, 3) := by decide +kernel
theorem dX1_using_8 : decode cX1_using 8 = .ok (.bipush (-4), 2) := by decide +kernel
theorem dX1_using_10 : decode cX1_using 10 = .ok (.ireturn, 1) := by decide +kernel
theorem dX1_using_11 : decode cX1_using 11 = .ok (.iconst 0, 1) := by decide +kernel
theorem dX1_using_12 : decode cX1_using 12 = .ok (.istore_n 2, 1) := by decide +kernel
theorem dX1_using_13 : decode cX1_using 13 = .ok (.iconst 1, 1) := by decide +kernel
theorem dX1_using_14 : decode cX1_using 14 = .ok (.istore_n 3, 1) := by decide +kernel
theorem dX1_using_15 : decode cX1_using 15 = .ok (.iload_n 3, 1) := by decide +kernel
theorem dX1_using_16 : decode cX1_using 16 = .ok (.iconst 1, 1) := by decide +kernel
theorem dX1_using_17 : decode cX1_using 17 = .ok (.aload_n 0, 1) := by decide +kernel
theorem dX1_using_18 : decode cX1_using 18 = .ok (.getfield 45, 3) := by decide +kernel
theorem dX1_using_21 : decode cX1_using 21 = .ok (.ishl, 1) := by decide +kernel
theorem dX1_using_22 : decode cX1_using 22 = .ok (.if_icmp .ge 30, 3) := by decide +kernel
theorem dX1_using_25 : decode cX1_using 25 = .ok (.iload_n 3, 1) := by decide +kernel
theorem dX1_using_26 : decode cX1_using 26 = .ok (.iload_n 1, 1) := by decide +kernel
theorem dX1_using_27 : decode cX1_using 27 = .ok (.ishr, 1) := by decide +kernel
theorem dX1_using_28 : decode cX1_using 28 = .ok (.iconst 1, 1) := by decide +kernel
theorem dX1_using_29 : decode cX1_using 29 = .ok (.iand, 1) := by decide +kernel
theorem dX1_using_30 : decode cX1_using 30 = .ok (.iconst 1, 1) := by decide +kernel
theorem dX1_using_31 : decode cX1_using 31 = .ok (.if_icmp .ne 13, 3) := by decide +kernel
theorem dX1_using_34 : decode cX1_using 34 = .ok (.iload_n 2, 1) := by decide +kernel
theorem dX1_using_35 : decode cX1_using 35 = .ok (.aload_n 0, 1) := by decide +kernel
theorem dX1_using_36 : decode cX1_using 36 = .ok (.iload_n 3, 1) := by decide +kernel
theorem dX1_using_37 : decode cX1_using 37 = .ok (.invokevirtual 63, 3) := by decide +kernel
theorem dX1_using_40 : decode cX1_using 40 = .ok (.iadd, 1) := by decide +kernel
theorem dX1_using_41 : decode cX1_using 41 = .ok (.goto 4, 3) := by decide +kernel
theorem dX1_using_44 : decode cX1_using 44 = .ok (.iload_n 2, 1) := by decide +kernel
theorem dX1_using_45 : decode cX1_using 45 = .ok (.istore_n 2, 1) := by decide +kernel
theorem dX1_using_46 : decode cX1_using 46 = .ok (.iinc 3 1, 3) := by decide +kernel
theorem dX1_using_49 : decode cX1_using 49 = .ok (.goto (-34), 3) := by decide +kernel
theorem dX1_using_52 : decode cX1_using 52 = .ok (.iload_n 2, 1) := by decide +kernel
theorem dX1_using_53 : decode cX1_using 53 = .ok (.ireturn, 1) := by decide +kernel
theorem dX1_longest_0 : decode cX1_longest 0 = .ok (.bipush (-4), 2) := by decide +kernel
theorem dX1_longest_2 : decode cX1_longest 2 = .ok (.istore_n 1, 1) := by decide +kernel
theorem dX1_longest_3 : decode cX1_longest 3 = .ok (.iconst 1, 1) := by decide +kernel
theorem dX1_longest_4 : decode cX1_longest 4 = .ok (.istore_n 2, 1) := by decide +kernel
theorem dX1_longest_5 : decode cX1_longest 5 = .ok (.iload_n 2, 1) := by decide +kernel
theorem dX1_longest_6 : decode cX1_longest 6 = .ok (.iconst 1, 1) := by decide +kernel
theorem dX1_longest_7 : decode cX1_longest 7 = .ok (.aload_n 0, 1) := by decide +kernel
theorem dX1_longest_8 : decode cX1_longest 8 = .ok (.getfield 45, 3) := by decide +kernel
theorem dX1_longest_11 : decode cX1_longest 11 = .ok (.ishl, 1) := by decide +kernel
theorem dX1_longest_12 : decode cX1_longest 12 = .ok (.if_icmp .ge 34, 3) := by decide +kernel
theorem dX1_longest_15 : decode cX1_longest 15 = .ok (.aload_n 0, 1) := by decide +kernel
theorem dX1_longest_16 : decode cX1_longest 16 = .ok (.iload_n 2, 1) := by decide +kernel
theorem dX1_longest_17 : decode cX1_longest 17 = .ok (.invokevirtual 73, 3) := by decide +kernel
theorem dX1_longest_20 : decode cX1_longest 20 = .ok (.istore_n 3, 1) := by decide +kernel
theorem dX1_longest_21 : decode cX1_longest 21 = .ok (.iload_n 3, 1) := by decide +kernel
theorem dX1_longest_22 : decode cX1_longest 22 = .ok (.iload_n 1, 1) := by decide +kernel
theorem dX1_longest_23 : decode cX1_longest 23 = .ok (.if_icmp .le 15, 3) := by decide +kernel
end
section
set_option maxRecDepth 100000
theorem dX1_longest_26 : decode cX1_longest 26 = .ok (.aload_n 0, 1) := by decide +kernel
theorem dX1_longest_27 : decode cX1_longest 27 = .ok (.iload_n 2, 1) := by decide +kernel
theorem dX1_longest_28 : decode cX1_longest 28 = .ok (.invokevirtual 63, 3) := by decide +kernel
theorem dX1_longest_31 : decode cX1_longest 31 = .ok (.ifCond .le 7, 3) := by decide +kernel
theorem dX1_longest_34 : decode cX1_longest 34 = .ok (.iload_n 3, 1) := by decide +kernel
theorem dX1_longest_35 : decode cX1_longest 35 = .ok (.goto 4, 3) := by decide +kernel
theorem dX1_longest_38 : decode cX1_longest 38 = .ok (.iload_n 1, 1) := by decide +kernel
theorem dX1_longest_39 : decode cX1_longest 39 = .ok (.istore_n 1, 1) := by decide +kernel
theorem dX1_longest_40 : decode cX1_longest 40 = .ok (.iinc 2 1, 3) := by decide +kernel
theorem dX1_longest_43 : decode cX1_longest 43 = .ok (.goto (-38), 3) := by decide +kernel
theorem dX1_longest_46 : decode cX1_longest 46 = .ok (.iload_n 1, 1) := by decide +kernel
theorem dX1_longest_47 : decode cX1_longest 47 = .ok (.ireturn, 1) := by decide +kernel
theorem dX1_sizeOf_0 : decode cX1_sizeOf 0 = .ok (.iconst 0, 1) := by decide +kernel
theorem dX1_sizeOf_1 : decode cX1_sizeOf 1 = .ok (.istore_n 2, 1) := by decide +kernel
theorem dX1_sizeOf_2 : decode cX1_sizeOf 2 = .ok (.iconst 0, 1) := by decide +kernel
theorem dX1_sizeOf_3 : decode cX1_sizeOf 3 = .ok (.istore_n 3, 1) := by decide +kernel
theorem dX1_sizeOf_4 : decode cX1_sizeOf 4 = .ok (.iload_n 3, 1) := by decide +kernel
theorem dX1_sizeOf_5 : decode cX1_sizeOf 5 = .ok (.bipush 10, 2) := by decide +kernel
theorem dX1_sizeOf_7 : decode cX1_sizeOf 7 = .ok (.if_icmp .ge 17, 3) := by decide +kernel
theorem dX1_sizeOf_10 : decode cX1_sizeOf 10 = .ok (.iload_n 2, 1) := by decide +kernel
theorem dX1_sizeOf_11 : decode cX1_sizeOf 11 = .ok (.iload_n 1, 1) := by decide +kernel
theorem dX1_sizeOf_12 : decode cX1_sizeOf 12 = .ok (.iload_n 3, 1) := by decide +kernel
theorem dX1_sizeOf_13 : decode cX1_sizeOf 13 = .ok (.ishr, 1) := by decide +kernel
theorem dX1_sizeOf_14 : decode cX1_sizeOf 14 = .ok (.iconst 1, 1) := by decide +kernel
theorem dX1_sizeOf_15 : decode cX1_sizeOf 15 = .ok (.iand, 1) := by decide +kernel
theorem dX1_sizeOf_16 : decode cX1_sizeOf 16 = .ok (.iadd, 1) := by decide +kernel
theorem dX1_sizeOf_17 : decode cX1_sizeOf 17 = .ok (.istore_n 2, 1) := by decide +kernel
theorem dX1_sizeOf_18 : decode cX1_sizeOf 18 = .ok (.iinc 3 1, 3) := by decide +kernel
theorem dX1_sizeOf_21 : decode cX1_sizeOf 21 = .ok (.goto (-17), 3) := by decide +kernel
theorem dX1_sizeOf_24 : decode cX1_sizeOf 24 = .ok (.iload_n 2, 1) := by decide +kernel
theorem dX1_sizeOf_25 : decode cX1_sizeOf 25 = .ok (.ireturn, 1) := by decide +kernel
theorem dX1_tightest_0 : decode cX1_tightest 0 = .ok (.bipush (-4), 2) := by decide +kernel
theorem dX1_tightest_2 : decode cX1_tightest 2 = .ok (.istore_n 1, 1) := by decide +kernel
theorem dX1_tightest_3 : decode cX1_tightest 3 = .ok (.iconst 1, 1) := by decide +kernel
theorem dX1_tightest_4 : decode cX1_tightest 4 = .ok (.istore_n 2, 1) := by decide +kernel
theorem dX1_tightest_5 : decode cX1_tightest 5 = .ok (.iload_n 2, 1) := by decide +kernel
theorem dX1_tightest_6 : decode cX1_tightest 6 = .ok (.iconst 1, 1) := by decide +kernel
theorem dX1_tightest_7 : decode cX1_tightest 7 = .ok (.aload_n 0, 1) := by decide +kernel
theorem dX1_tightest_8 : decode cX1_tightest 8 = .ok (.getfield 45, 3) := by decide +kernel
theorem dX1_tightest_11 : decode cX1_tightest 11 = .ok (.ishl, 1) := by decide +kernel
theorem dX1_tightest_12 : decode cX1_tightest 12 = .ok (.if_icmp .ge 65, 3) := by decide +kernel
theorem dX1_tightest_15 : decode cX1_tightest 15 = .ok (.aload_n 0, 1) := by decide +kernel
theorem dX1_tightest_16 : decode cX1_tightest 16 = .ok (.iload_n 2, 1) := by decide +kernel
theorem dX1_tightest_17 : decode cX1_tightest 17 = .ok (.invokevirtual 56, 3) := by decide +kernel
theorem dX1_tightest_20 : decode cX1_tightest 20 = .ok (.istore_n 3, 1) := by decide +kernel
theorem dX1_tightest_21 : decode cX1_tightest 21 = .ok (.aload_n 0, 1) := by decide +kernel
theorem dX1_tightest_22 : decode cX1_tightest 22 = .ok (.iload_n 2, 1) := by decide +kernel
theorem dX1_tightest_23 : decode cX1_tightest 23 = .ok (.invokevirtual 70, 3) := by decide +kernel
theorem dX1_tightest_26 : decode cX1_tightest 26 = .ok (.istore 4, 2) := by decide +kernel
theorem dX1_tightest_28 : decode cX1_tightest 28 = .ok (.aload_n 0, 1) := by decide +kernel
theorem dX1_tightest_29 : decode cX1_tightest 29 = .ok (.getfield 16, 3) := by decide +kernel
theorem dX1_tightest_32 : decode cX1_tightest 32 = .ok (.iload 4, 2) := by decide +kernel
theorem dX1_tightest_34 : decode cX1_tightest 34 = .ok (.iaload, 1) := by decide +kernel
theorem dX1_tightest_35 : decode cX1_tightest 35 = .ok (.aload_n 0, 1) := by decide +kernel
theorem dX1_tightest_36 : decode cX1_tightest 36 = .ok (.getfield 16, 3) := by decide +kernel
theorem dX1_tightest_39 : decode cX1_tightest 39 = .ok (.iload_n 3, 1) := by decide +kernel
theorem dX1_tightest_40 : decode cX1_tightest 40 = .ok (.iaload, 1) := by decide +kernel
theorem dX1_tightest_41 : decode cX1_tightest 41 = .ok (.isub, 1) := by decide +kernel
theorem dX1_tightest_42 : decode cX1_tightest 42 = .ok (.istore 5, 2) := by decide +kernel
theorem dX1_tightest_44 : decode cX1_tightest 44 = .ok (.iload_n 1, 1) := by decide +kernel
theorem dX1_tightest_45 : decode cX1_tightest 45 = .ok (.bipush (-4), 2) := by decide +kernel
theorem dX1_tightest_47 : decode cX1_tightest 47 = .ok (.if_icmp .eq 9, 3) := by decide +kernel
theorem dX1_tightest_50 : decode cX1_tightest 50 = .ok (.iload 5, 2) := by decide +kernel
theorem dX1_tightest_52 : decode cX1_tightest 52 = .ok (.iload_n 1, 1) := by decide +kernel
theorem dX1_tightest_53 : decode cX1_tightest 53 = .ok (.if_icmp .ge 16, 3) := by decide +kernel
theorem dX1_tightest_56 : decode cX1_tightest 56 = .ok (.aload_n 0, 1) := by decide +kernel
theorem dX1_tightest_57 : decode cX1_tightest 57 = .ok (.iload_n 2, 1) := by decide +kernel
theorem dX1_tightest_58 : decode cX1_tightest 58 = .ok (.invokevirtual 63, 3) := by decide +kernel
theorem dX1_tightest_61 : decode cX1_tightest 61 = .ok (.ifCond .le 8, 3) := by decide +kernel
theorem dX1_tightest_64 : decode cX1_tightest 64 = .ok (.iload 5, 2) := by decide +kernel
theorem dX1_tightest_66 : decode cX1_tightest 66 = .ok (.goto 4, 3) := by decide +kernel
theorem dX1_tightest_69 : decode cX1_tightest 69 = .ok (.iload_n 1, 1) := by decide +kernel
theorem dX1_tightest_70 : decode cX1_tightest 70 = .ok (.istore_n 1, 1) := by decide +kernel
theorem dX1_tightest_71 : decode cX1_tightest 71 = .ok (.iinc 2 1, 3) := by decide +kernel
theorem dX1_tightest_74 : decode cX1_tightest 74 = .ok (.goto (-69), 3) := by decide +kernel
theorem dX1_tightest_77 : decode cX1_tightest 77 = .ok (.iload_n 1, 1) := by decide +kernel
theorem dX1_tightest_78 : decode cX1_tightest 78 = .ok (.ireturn, 1) := by decide +kernel
theorem dX1_lastValues_0 : decode cX1_lastValues 0 = .ok (.iconst 0, 1) := by decide +kernel
theorem dX1_lastValues_1 : decode cX1_lastValues 1 = .ok (.istore_n 1, 1) := by decide +kernel
theorem dX1_lastValues_2 : decode cX1_lastValues 2 = .ok (.iconst 1, 1) := by decide +kernel
theorem dX1_lastValues_3 : decode cX1_lastValues 3 = .ok (.istore_n 2, 1) := by decide +kernel
theorem dX1_lastValues_4 : decode cX1_lastValues 4 = .ok (.iload_n 2, 1) := by decide +kernel
theorem dX1_lastValues_5 : decode cX1_lastValues 5 = .ok (.iconst 1, 1) := by decide +kernel
theorem dX1_lastValues_6 : decode cX1_lastValues 6 = .ok (.aload_n 0, 1) := by decide +kernel
theorem dX1_lastValues_7 : decode cX1_lastValues 7 = .ok (.getfield 45, 3) := by decide +kernel
theorem dX1_lastValues_10 : decode cX1_lastValues 10 = .ok (.ishl, 1) := by decide +kernel
theorem dX1_lastValues_11 : decode cX1_lastValues 11 = .ok (.if_icmp .ge 30, 3) := by decide +kernel
theorem dX1_lastValues_14 : decode cX1_lastValues 14 = .ok (.aload_n 0, 1) := by decide +kernel
theorem dX1_lastValues_15 : decode cX1_lastValues 15 = .ok (.iload_n 2, 1) := by decide +kernel
theorem dX1_lastValues_16 : decode cX1_lastValues 16 = .ok (.invokevirtual 70, 3) := by decide +kernel
theorem dX1_lastValues_19 : decode cX1_lastValues 19 = .ok (.istore_n 3, 1) := by decide +kernel
theorem dX1_lastValues_20 : decode cX1_lastValues 20 = .ok (.iload_n 1, 1) := by decide +kernel
theorem dX1_lastValues_21 : decode cX1_lastValues 21 = .ok (.aload_n 0, 1) := by decide +kernel
theorem dX1_lastValues_22 : decode cX1_lastValues 22 = .ok (.getfield 13, 3) := by decide +kernel
theorem dX1_lastValues_25 : decode cX1_lastValues 25 = .ok (.iload_n 3, 1) := by decide +kernel
theorem dX1_lastValues_26 : decode cX1_lastValues 26 = .ok (.iaload, 1) := by decide +kernel
theorem dX1_lastValues_27 : decode cX1_lastValues 27 = .ok (.aload_n 0, 1) := by decide +kernel
theorem dX1_lastValues_28 : decode cX1_lastValues 28 = .ok (.iload_n 2, 1) := by decide +kernel
theorem dX1_lastValues_29 : decode cX1_lastValues 29 = .ok (.invokevirtual 63, 3) := by decide +kernel
theorem dX1_lastValues_32 : decode cX1_lastValues 32 = .ok (.imul, 1) := by decide +kernel
theorem dX1_lastValues_33 : decode cX1_lastValues 33 = .ok (.iadd, 1) := by decide +kernel
theorem dX1_lastValues_34 : decode cX1_lastValues 34 = .ok (.istore_n 1, 1) := by decide +kernel
theorem dX1_lastValues_35 : decode cX1_lastValues 35 = .ok (.iinc 2 1, 3) := by decide +kernel
theorem dX1_lastValues_38 : decode cX1_lastValues 38 = .ok (.goto (-34), 3) := by decide +kernel
theorem dX1_lastValues_41 : decode cX1_lastValues 41 = .ok (.iload_n 1, 1) := by decide +kernel
theorem dX1_lastValues_42 : decode cX1_lastValues 42 = .ok (.ireturn, 1) := by decide +kernel
theorem dX1_without_0 : decode cX1_without 0 = .ok (.aload_n 0, 1) := by decide +kernel
theorem dX1_without_1 : decode cX1_without 1 = .ok (.iload_n 1, 1) := by decide +kernel
theorem dX1_without_2 : decode cX1_without 2 = .ok (.invokevirtual 66, 3) := by decide +kernel
theorem dX1_without_5 : decode cX1_without 5 = .ok (.ifCond .ne 6, 3) := by decide +kernel
theorem dX1_without_8 : decode cX1_without 8 = .ok (.bipush (-4), 2) := by decide +kernel
theorem dX1_without_10 : decode cX1_without 10 = .ok (.ireturn, 1) := by decide +kernel
theorem dX1_without_11 : decode cX1_without 11 = .ok (.iconst 0, 1) := by decide +kernel
theorem dX1_without_12 : decode cX1_without 12 = .ok (.istore_n 2, 1) := by decide +kernel
theorem dX1_without_13 : decode cX1_without 13 = .ok (.iconst 1, 1) := by decide +kernel
theorem dX1_without_14 : decode cX1_without 14 = .ok (.istore_n 3, 1) := by decide +kernel
theorem dX1_without_15 : decode cX1_without 15 = .ok (.iload_n 3, 1) := by decide +kernel
theorem dX1_without_16 : decode cX1_without 16 = .ok (.iconst 1, 1) := by decide +kernel
theorem dX1_without_17 : decode cX1_without 17 = .ok (.aload_n 0, 1) := by decide +kernel
theorem dX1_without_18 : decode cX1_without 18 = .ok (.getfield 45, 3) := by decide +kernel
theorem dX1_without_21 : decode cX1_without 21 = .ok (.ishl, 1) := by decide +kernel
theorem dX1_without_22 : decode cX1_without 22 = .ok (.if_icmp .ge 29, 3) := by decide +kernel
theorem dX1_without_25 : decode cX1_without 25 = .ok (.iload_n 3, 1) := by decide +kernel
theorem dX1_without_26 : decode cX1_without 26 = .ok (.iload_n 1, 1) := by decide +kernel
theorem dX1_without_27 : decode cX1_without 27 = .ok (.ishr, 1) := by decide +kernel
theorem dX1_without_28 : decode cX1_without 28 = .ok (.iconst 1, 1) := by decide +kernel
theorem dX1_without_29 : decode cX1_without 29 = .ok (.iand, 1) := by decide +kernel
theorem dX1_without_30 : decode cX1_without 30 = .ok (.ifCond .ne 13, 3) := by decide +kernel
theorem dX1_without_33 : decode cX1_without 33 = .ok (.iload_n 2, 1) := by decide +kernel
theorem dX1_without_34 : decode cX1_without 34 = .ok (.aload_n 0, 1) := by decide +kernel
theorem dX1_without_35 : decode cX1_without 35 = .ok (.iload_n 3, 1) := by decide +kernel
theorem dX1_without_36 : decode cX1_without 36 = .ok (.invokevirtual 63, 3) := by decide +kernel
theorem dX1_without_39 : decode cX1_without 39 = .ok (.iadd, 1) := by decide +kernel
theorem dX1_without_40 : decode cX1_without 40 = .ok (.goto 4, 3) := by decide +kernel
theorem dX1_without_43 : decode cX1_without 43 = .ok (.iload_n 2, 1) := by decide +kernel
theorem dX1_without_44 : decode cX1_without 44 = .ok (.istore_n 2, 1) := by decide +kernel
theorem dX1_without_45 : decode cX1_without 45 = .ok (.iinc 3 1, 3) := by decide +kernel
theorem dX1_without_48 : decode cX1_without 48 = .ok (.goto (-33), 3) := by decide +kernel
theorem dX1_without_51 : decode cX1_without 51 = .ok (.iload_n 2, 1) := by decide +kernel
theorem dX1_without_52 : decode cX1_without 52 = .ok (.ireturn, 1) := by decide +kernel
end
section
/-! the law's own entry -/
set_option maxRecDepth 100000
abbrev cL_law : ByteArray := code

theorem dL_law_0 : decode cL_law 0 = .ok (.new 7, 3) := by decide +kernel
theorem dL_law_3 : decode cL_law 3 = .ok (.dup, 1) := by decide +kernel
theorem dL_law_4 : decode cL_law 4 = .ok (.invokespecial 9, 3) := by decide +kernel
theorem dL_law_7 : decode cL_law 7 = .ok (.astore_n 1, 1) := by decide +kernel
theorem dL_law_8 : decode cL_law 8 = .ok (.new 10, 3) := by decide +kernel
theorem dL_law_11 : decode cL_law 11 = .ok (.dup, 1) := by decide +kernel
theorem dL_law_12 : decode cL_law 12 = .ok (.invokespecial 12, 3) := by decide +kernel
theorem dL_law_15 : decode cL_law 15 = .ok (.astore_n 2, 1) := by decide +kernel
theorem dL_law_16 : decode cL_law 16 = .ok (.iconst 0, 1) := by decide +kernel
theorem dL_law_17 : decode cL_law 17 = .ok (.istore_n 3, 1) := by decide +kernel
theorem dL_law_18 : decode cL_law 18 = .ok (.iload_n 3, 1) := by decide +kernel
theorem dL_law_19 : decode cL_law 19 = .ok (.aload_n 0, 1) := by decide +kernel
theorem dL_law_20 : decode cL_law 20 = .ok (.arraylength, 1) := by decide +kernel
theorem dL_law_21 : decode cL_law 21 = .ok (.iconst 4, 1) := by decide +kernel
theorem dL_law_22 : decode cL_law 22 = .ok (.isub, 1) := by decide +kernel
theorem dL_law_23 : decode cL_law 23 = .ok (.if_icmp .gt 375, 3) := by decide +kernel
theorem dL_law_26 : decode cL_law 26 = .ok (.aload_n 0, 1) := by decide +kernel
theorem dL_law_27 : decode cL_law 27 = .ok (.iload_n 3, 1) := by decide +kernel
theorem dL_law_28 : decode cL_law 28 = .ok (.iaload, 1) := by decide +kernel
theorem dL_law_29 : decode cL_law 29 = .ok (.bipush 15, 2) := by decide +kernel
theorem dL_law_31 : decode cL_law 31 = .ok (.iand, 1) := by decide +kernel
theorem dL_law_32 : decode cL_law 32 = .ok (.tableswitch 360 0 13 #[72, 83, 126, 149, 192, 203, 216, 229, 252, 275, 298, 311, 324, 337], 72) := by decide +kernel
theorem dL_law_104 : decode cL_law 104 = .ok (.aload_n 1, 1) := by decide +kernel
theorem dL_law_105 : decode cL_law 105 = .ok (.invokevirtual 13, 3) := by decide +kernel
theorem dL_law_108 : decode cL_law 108 = .ok (.aload_n 2, 1) := by decide +kernel
theorem dL_law_109 : decode cL_law 109 = .ok (.invokevirtual 16, 3) := by decide +kernel
theorem dL_law_112 : decode cL_law 112 = .ok (.goto 280, 3) := by decide +kernel
theorem dL_law_115 : decode cL_law 115 = .ok (.aload_n 1, 1) := by decide +kernel
theorem dL_law_116 : decode cL_law 116 = .ok (.aload_n 0, 1) := by decide +kernel
theorem dL_law_117 : decode cL_law 117 = .ok (.iload_n 3, 1) := by decide +kernel
theorem dL_law_118 : decode cL_law 118 = .ok (.iconst 1, 1) := by decide +kernel
theorem dL_law_119 : decode cL_law 119 = .ok (.iadd, 1) := by decide +kernel
theorem dL_law_120 : decode cL_law 120 = .ok (.iaload, 1) := by decide +kernel
theorem dL_law_121 : decode cL_law 121 = .ok (.aload_n 0, 1) := by decide +kernel
theorem dL_law_122 : decode cL_law 122 = .ok (.iload_n 3, 1) := by decide +kernel
theorem dL_law_123 : decode cL_law 123 = .ok (.iconst 2, 1) := by decide +kernel
theorem dL_law_124 : decode cL_law 124 = .ok (.iadd, 1) := by decide +kernel
theorem dL_law_125 : decode cL_law 125 = .ok (.iaload, 1) := by decide +kernel
theorem dL_law_126 : decode cL_law 126 = .ok (.aload_n 0, 1) := by decide +kernel
theorem dL_law_127 : decode cL_law 127 = .ok (.iload_n 3, 1) := by decide +kernel
theorem dL_law_128 : decode cL_law 128 = .ok (.iconst 3, 1) := by decide +kernel
theorem dL_law_129 : decode cL_law 129 = .ok (.iadd, 1) := by decide +kernel
theorem dL_law_130 : decode cL_law 130 = .ok (.iaload, 1) := by decide +kernel
theorem dL_law_131 : decode cL_law 131 = .ok (.invokevirtual 17, 3) := by decide +kernel
theorem dL_law_134 : decode cL_law 134 = .ok (.aload_n 2, 1) := by decide +kernel
theorem dL_law_135 : decode cL_law 135 = .ok (.aload_n 0, 1) := by decide +kernel
theorem dL_law_136 : decode cL_law 136 = .ok (.iload_n 3, 1) := by decide +kernel
theorem dL_law_137 : decode cL_law 137 = .ok (.iconst 1, 1) := by decide +kernel
theorem dL_law_138 : decode cL_law 138 = .ok (.iadd, 1) := by decide +kernel
theorem dL_law_139 : decode cL_law 139 = .ok (.iaload, 1) := by decide +kernel
theorem dL_law_140 : decode cL_law 140 = .ok (.aload_n 0, 1) := by decide +kernel
theorem dL_law_141 : decode cL_law 141 = .ok (.iload_n 3, 1) := by decide +kernel
theorem dL_law_142 : decode cL_law 142 = .ok (.iconst 2, 1) := by decide +kernel
theorem dL_law_143 : decode cL_law 143 = .ok (.iadd, 1) := by decide +kernel
theorem dL_law_144 : decode cL_law 144 = .ok (.iaload, 1) := by decide +kernel
theorem dL_law_145 : decode cL_law 145 = .ok (.aload_n 0, 1) := by decide +kernel
theorem dL_law_146 : decode cL_law 146 = .ok (.iload_n 3, 1) := by decide +kernel
theorem dL_law_147 : decode cL_law 147 = .ok (.iconst 3, 1) := by decide +kernel
theorem dL_law_148 : decode cL_law 148 = .ok (.iadd, 1) := by decide +kernel
theorem dL_law_149 : decode cL_law 149 = .ok (.iaload, 1) := by decide +kernel
theorem dL_law_150 : decode cL_law 150 = .ok (.invokevirtual 21, 3) := by decide +kernel
theorem dL_law_153 : decode cL_law 153 = .ok (.if_icmp .eq 239, 3) := by decide +kernel
theorem dL_law_156 : decode cL_law 156 = .ok (.iconst 0, 1) := by decide +kernel
theorem dL_law_157 : decode cL_law 157 = .ok (.ireturn, 1) := by decide +kernel
theorem dL_law_158 : decode cL_law 158 = .ok (.aload_n 1, 1) := by decide +kernel
theorem dL_law_159 : decode cL_law 159 = .ok (.aload_n 0, 1) := by decide +kernel
theorem dL_law_160 : decode cL_law 160 = .ok (.iload_n 3, 1) := by decide +kernel
theorem dL_law_161 : decode cL_law 161 = .ok (.iconst 1, 1) := by decide +kernel
theorem dL_law_162 : decode cL_law 162 = .ok (.iadd, 1) := by decide +kernel
theorem dL_law_163 : decode cL_law 163 = .ok (.iaload, 1) := by decide +kernel
theorem dL_law_164 : decode cL_law 164 = .ok (.invokevirtual 22, 3) := by decide +kernel
theorem dL_law_167 : decode cL_law 167 = .ok (.aload_n 2, 1) := by decide +kernel
theorem dL_law_168 : decode cL_law 168 = .ok (.aload_n 0, 1) := by decide +kernel
theorem dL_law_169 : decode cL_law 169 = .ok (.iload_n 3, 1) := by decide +kernel
theorem dL_law_170 : decode cL_law 170 = .ok (.iconst 1, 1) := by decide +kernel
theorem dL_law_171 : decode cL_law 171 = .ok (.iadd, 1) := by decide +kernel
theorem dL_law_172 : decode cL_law 172 = .ok (.iaload, 1) := by decide +kernel
theorem dL_law_173 : decode cL_law 173 = .ok (.invokevirtual 26, 3) := by decide +kernel
theorem dL_law_176 : decode cL_law 176 = .ok (.if_icmp .eq 216, 3) := by decide +kernel
theorem dL_law_179 : decode cL_law 179 = .ok (.iconst 0, 1) := by decide +kernel
theorem dL_law_180 : decode cL_law 180 = .ok (.ireturn, 1) := by decide +kernel
theorem dL_law_181 : decode cL_law 181 = .ok (.aload_n 1, 1) := by decide +kernel
theorem dL_law_182 : decode cL_law 182 = .ok (.aload_n 0, 1) := by decide +kernel
theorem dL_law_183 : decode cL_law 183 = .ok (.iload_n 3, 1) := by decide +kernel
theorem dL_law_184 : decode cL_law 184 = .ok (.iconst 1, 1) := by decide +kernel
theorem dL_law_185 : decode cL_law 185 = .ok (.iadd, 1) := by decide +kernel
theorem dL_law_186 : decode cL_law 186 = .ok (.iaload, 1) := by decide +kernel
theorem dL_law_187 : decode cL_law 187 = .ok (.aload_n 0, 1) := by decide +kernel
theorem dL_law_188 : decode cL_law 188 = .ok (.iload_n 3, 1) := by decide +kernel
theorem dL_law_189 : decode cL_law 189 = .ok (.iconst 2, 1) := by decide +kernel
theorem dL_law_190 : decode cL_law 190 = .ok (.iadd, 1) := by decide +kernel
theorem dL_law_191 : decode cL_law 191 = .ok (.iaload, 1) := by decide +kernel
theorem dL_law_192 : decode cL_law 192 = .ok (.aload_n 0, 1) := by decide +kernel
theorem dL_law_193 : decode cL_law 193 = .ok (.iload_n 3, 1) := by decide +kernel
theorem dL_law_194 : decode cL_law 194 = .ok (.iconst 3, 1) := by decide +kernel
theorem dL_law_195 : decode cL_law 195 = .ok (.iadd, 1) := by decide +kernel
theorem dL_law_196 : decode cL_law 196 = .ok (.iaload, 1) := by decide +kernel
theorem dL_law_197 : decode cL_law 197 = .ok (.invokevirtual 27, 3) := by decide +kernel
theorem dL_law_200 : decode cL_law 200 = .ok (.aload_n 2, 1) := by decide +kernel
theorem dL_law_201 : decode cL_law 201 = .ok (.aload_n 0, 1) := by decide +kernel
theorem dL_law_202 : decode cL_law 202 = .ok (.iload_n 3, 1) := by decide +kernel
theorem dL_law_203 : decode cL_law 203 = .ok (.iconst 1, 1) := by decide +kernel
theorem dL_law_204 : decode cL_law 204 = .ok (.iadd, 1) := by decide +kernel
theorem dL_law_205 : decode cL_law 205 = .ok (.iaload, 1) := by decide +kernel
theorem dL_law_206 : decode cL_law 206 = .ok (.aload_n 0, 1) := by decide +kernel
theorem dL_law_207 : decode cL_law 207 = .ok (.iload_n 3, 1) := by decide +kernel
theorem dL_law_208 : decode cL_law 208 = .ok (.iconst 2, 1) := by decide +kernel
theorem dL_law_209 : decode cL_law 209 = .ok (.iadd, 1) := by decide +kernel
theorem dL_law_210 : decode cL_law 210 = .ok (.iaload, 1) := by decide +kernel
theorem dL_law_211 : decode cL_law 211 = .ok (.aload_n 0, 1) := by decide +kernel
theorem dL_law_212 : decode cL_law 212 = .ok (.iload_n 3, 1) := by decide +kernel
theorem dL_law_213 : decode cL_law 213 = .ok (.iconst 3, 1) := by decide +kernel
theorem dL_law_214 : decode cL_law 214 = .ok (.iadd, 1) := by decide +kernel
theorem dL_law_215 : decode cL_law 215 = .ok (.iaload, 1) := by decide +kernel
theorem dL_law_216 : decode cL_law 216 = .ok (.invokevirtual 30, 3) := by decide +kernel
theorem dL_law_219 : decode cL_law 219 = .ok (.if_icmp .eq 173, 3) := by decide +kernel
theorem dL_law_222 : decode cL_law 222 = .ok (.iconst 0, 1) := by decide +kernel
theorem dL_law_223 : decode cL_law 223 = .ok (.ireturn, 1) := by decide +kernel
theorem dL_law_224 : decode cL_law 224 = .ok (.aload_n 1, 1) := by decide +kernel
theorem dL_law_225 : decode cL_law 225 = .ok (.invokevirtual 31, 3) := by decide +kernel
theorem dL_law_228 : decode cL_law 228 = .ok (.aload_n 2, 1) := by decide +kernel
theorem dL_law_229 : decode cL_law 229 = .ok (.invokevirtual 34, 3) := by decide +kernel
theorem dL_law_232 : decode cL_law 232 = .ok (.goto 160, 3) := by decide +kernel
theorem dL_law_235 : decode cL_law 235 = .ok (.aload_n 1, 1) := by decide +kernel
theorem dL_law_236 : decode cL_law 236 = .ok (.invokevirtual 35, 3) := by decide +kernel
theorem dL_law_239 : decode cL_law 239 = .ok (.aload_n 2, 1) := by decide +kernel
theorem dL_law_240 : decode cL_law 240 = .ok (.invokevirtual 39, 3) := by decide +kernel
theorem dL_law_243 : decode cL_law 243 = .ok (.if_icmp .eq 149, 3) := by decide +kernel
theorem dL_law_246 : decode cL_law 246 = .ok (.iconst 0, 1) := by decide +kernel
theorem dL_law_247 : decode cL_law 247 = .ok (.ireturn, 1) := by decide +kernel
theorem dL_law_248 : decode cL_law 248 = .ok (.aload_n 1, 1) := by decide +kernel
theorem dL_law_249 : decode cL_law 249 = .ok (.invokevirtual 40, 3) := by decide +kernel
theorem dL_law_252 : decode cL_law 252 = .ok (.aload_n 2, 1) := by decide +kernel
theorem dL_law_253 : decode cL_law 253 = .ok (.invokevirtual 43, 3) := by decide +kernel
theorem dL_law_256 : decode cL_law 256 = .ok (.if_icmp .eq 136, 3) := by decide +kernel
theorem dL_law_259 : decode cL_law 259 = .ok (.iconst 0, 1) := by decide +kernel
theorem dL_law_260 : decode cL_law 260 = .ok (.ireturn, 1) := by decide +kernel
theorem dL_law_261 : decode cL_law 261 = .ok (.aload_n 1, 1) := by decide +kernel
theorem dL_law_262 : decode cL_law 262 = .ok (.aload_n 0, 1) := by decide +kernel
theorem dL_law_263 : decode cL_law 263 = .ok (.iload_n 3, 1) := by decide +kernel
theorem dL_law_264 : decode cL_law 264 = .ok (.iconst 1, 1) := by decide +kernel
theorem dL_law_265 : decode cL_law 265 = .ok (.iadd, 1) := by decide +kernel
theorem dL_law_266 : decode cL_law 266 = .ok (.iaload, 1) := by decide +kernel
theorem dL_law_267 : decode cL_law 267 = .ok (.invokevirtual 44, 3) := by decide +kernel
theorem dL_law_270 : decode cL_law 270 = .ok (.aload_n 2, 1) := by decide +kernel
theorem dL_law_271 : decode cL_law 271 = .ok (.aload_n 0, 1) := by decide +kernel
theorem dL_law_272 : decode cL_law 272 = .ok (.iload_n 3, 1) := by decide +kernel
theorem dL_law_273 : decode cL_law 273 = .ok (.iconst 1, 1) := by decide +kernel
theorem dL_law_274 : decode cL_law 274 = .ok (.iadd, 1) := by decide +kernel
theorem dL_law_275 : decode cL_law 275 = .ok (.iaload, 1) := by decide +kernel
theorem dL_law_276 : decode cL_law 276 = .ok (.invokevirtual 47, 3) := by decide +kernel
theorem dL_law_279 : decode cL_law 279 = .ok (.if_icmp .eq 113, 3) := by decide +kernel
theorem dL_law_282 : decode cL_law 282 = .ok (.iconst 0, 1) := by decide +kernel
theorem dL_law_283 : decode cL_law 283 = .ok (.ireturn, 1) := by decide +kernel
theorem dL_law_284 : decode cL_law 284 = .ok (.aload_n 1, 1) := by decide +kernel
theorem dL_law_285 : decode cL_law 285 = .ok (.aload_n 0, 1) := by decide +kernel
theorem dL_law_286 : decode cL_law 286 = .ok (.iload_n 3, 1) := by decide +kernel
theorem dL_law_287 : decode cL_law 287 = .ok (.iconst 1, 1) := by decide +kernel
theorem dL_law_288 : decode cL_law 288 = .ok (.iadd, 1) := by decide +kernel
theorem dL_law_289 : decode cL_law 289 = .ok (.iaload, 1) := by decide +kernel
theorem dL_law_290 : decode cL_law 290 = .ok (.invokevirtual 48, 3) := by decide +kernel
theorem dL_law_293 : decode cL_law 293 = .ok (.aload_n 2, 1) := by decide +kernel
theorem dL_law_294 : decode cL_law 294 = .ok (.aload_n 0, 1) := by decide +kernel
theorem dL_law_295 : decode cL_law 295 = .ok (.iload_n 3, 1) := by decide +kernel
theorem dL_law_296 : decode cL_law 296 = .ok (.iconst 1, 1) := by decide +kernel
theorem dL_law_297 : decode cL_law 297 = .ok (.iadd, 1) := by decide +kernel
theorem dL_law_298 : decode cL_law 298 = .ok (.iaload, 1) := by decide +kernel
theorem dL_law_299 : decode cL_law 299 = .ok (.invokevirtual 51, 3) := by decide +kernel
theorem dL_law_302 : decode cL_law 302 = .ok (.if_icmp .eq 90, 3) := by decide +kernel
theorem dL_law_305 : decode cL_law 305 = .ok (.iconst 0, 1) := by decide +kernel
theorem dL_law_306 : decode cL_law 306 = .ok (.ireturn, 1) := by decide +kernel
theorem dL_law_307 : decode cL_law 307 = .ok (.aload_n 1, 1) := by decide +kernel
theorem dL_law_308 : decode cL_law 308 = .ok (.aload_n 0, 1) := by decide +kernel
theorem dL_law_309 : decode cL_law 309 = .ok (.iload_n 3, 1) := by decide +kernel
theorem dL_law_310 : decode cL_law 310 = .ok (.iconst 1, 1) := by decide +kernel
theorem dL_law_311 : decode cL_law 311 = .ok (.iadd, 1) := by decide +kernel
theorem dL_law_312 : decode cL_law 312 = .ok (.iaload, 1) := by decide +kernel
theorem dL_law_313 : decode cL_law 313 = .ok (.invokevirtual 52, 3) := by decide +kernel
theorem dL_law_316 : decode cL_law 316 = .ok (.aload_n 2, 1) := by decide +kernel
theorem dL_law_317 : decode cL_law 317 = .ok (.aload_n 0, 1) := by decide +kernel
theorem dL_law_318 : decode cL_law 318 = .ok (.iload_n 3, 1) := by decide +kernel
theorem dL_law_319 : decode cL_law 319 = .ok (.iconst 1, 1) := by decide +kernel
theorem dL_law_320 : decode cL_law 320 = .ok (.iadd, 1) := by decide +kernel
theorem dL_law_321 : decode cL_law 321 = .ok (.iaload, 1) := by decide +kernel
theorem dL_law_322 : decode cL_law 322 = .ok (.invokevirtual 55, 3) := by decide +kernel
theorem dL_law_325 : decode cL_law 325 = .ok (.if_icmp .eq 67, 3) := by decide +kernel
theorem dL_law_328 : decode cL_law 328 = .ok (.iconst 0, 1) := by decide +kernel
theorem dL_law_329 : decode cL_law 329 = .ok (.ireturn, 1) := by decide +kernel
theorem dL_law_330 : decode cL_law 330 = .ok (.aload_n 1, 1) := by decide +kernel
theorem dL_law_331 : decode cL_law 331 = .ok (.invokevirtual 56, 3) := by decide +kernel
theorem dL_law_334 : decode cL_law 334 = .ok (.aload_n 2, 1) := by decide +kernel
theorem dL_law_335 : decode cL_law 335 = .ok (.invokevirtual 59, 3) := by decide +kernel
theorem dL_law_338 : decode cL_law 338 = .ok (.if_icmp .eq 54, 3) := by decide +kernel
theorem dL_law_341 : decode cL_law 341 = .ok (.iconst 0, 1) := by decide +kernel
theorem dL_law_342 : decode cL_law 342 = .ok (.ireturn, 1) := by decide +kernel
theorem dL_law_343 : decode cL_law 343 = .ok (.aload_n 1, 1) := by decide +kernel
theorem dL_law_344 : decode cL_law 344 = .ok (.invokevirtual 60, 3) := by decide +kernel
theorem dL_law_347 : decode cL_law 347 = .ok (.aload_n 2, 1) := by decide +kernel
theorem dL_law_348 : decode cL_law 348 = .ok (.invokevirtual 63, 3) := by decide +kernel
theorem dL_law_351 : decode cL_law 351 = .ok (.if_icmp .eq 41, 3) := by decide +kernel
theorem dL_law_354 : decode cL_law 354 = .ok (.iconst 0, 1) := by decide +kernel
theorem dL_law_355 : decode cL_law 355 = .ok (.ireturn, 1) := by decide +kernel
theorem dL_law_356 : decode cL_law 356 = .ok (.aload_n 1, 1) := by decide +kernel
theorem dL_law_357 : decode cL_law 357 = .ok (.invokevirtual 64, 3) := by decide +kernel
theorem dL_law_360 : decode cL_law 360 = .ok (.aload_n 2, 1) := by decide +kernel
theorem dL_law_361 : decode cL_law 361 = .ok (.invokevirtual 67, 3) := by decide +kernel
theorem dL_law_364 : decode cL_law 364 = .ok (.if_icmp .eq 28, 3) := by decide +kernel
theorem dL_law_367 : decode cL_law 367 = .ok (.iconst 0, 1) := by decide +kernel
theorem dL_law_368 : decode cL_law 368 = .ok (.ireturn, 1) := by decide +kernel
theorem dL_law_369 : decode cL_law 369 = .ok (.aload_n 1, 1) := by decide +kernel
theorem dL_law_370 : decode cL_law 370 = .ok (.aload_n 0, 1) := by decide +kernel
theorem dL_law_371 : decode cL_law 371 = .ok (.iload_n 3, 1) := by decide +kernel
theorem dL_law_372 : decode cL_law 372 = .ok (.iconst 1, 1) := by decide +kernel
theorem dL_law_373 : decode cL_law 373 = .ok (.iadd, 1) := by decide +kernel
theorem dL_law_374 : decode cL_law 374 = .ok (.iaload, 1) := by decide +kernel
theorem dL_law_375 : decode cL_law 375 = .ok (.invokevirtual 68, 3) := by decide +kernel
theorem dL_law_378 : decode cL_law 378 = .ok (.aload_n 2, 1) := by decide +kernel
theorem dL_law_379 : decode cL_law 379 = .ok (.aload_n 0, 1) := by decide +kernel
theorem dL_law_380 : decode cL_law 380 = .ok (.iload_n 3, 1) := by decide +kernel
theorem dL_law_381 : decode cL_law 381 = .ok (.iconst 1, 1) := by decide +kernel
theorem dL_law_382 : decode cL_law 382 = .ok (.iadd, 1) := by decide +kernel
theorem dL_law_383 : decode cL_law 383 = .ok (.iaload, 1) := by decide +kernel
theorem dL_law_384 : decode cL_law 384 = .ok (.invokevirtual 71, 3) := by decide +kernel
theorem dL_law_387 : decode cL_law 387 = .ok (.if_icmp .eq 5, 3) := by decide +kernel
theorem dL_law_390 : decode cL_law 390 = .ok (.iconst 0, 1) := by decide +kernel
theorem dL_law_391 : decode cL_law 391 = .ok (.ireturn, 1) := by decide +kernel
theorem dL_law_392 : decode cL_law 392 = .ok (.iinc 3 4, 3) := by decide +kernel
theorem dL_law_395 : decode cL_law 395 = .ok (.goto (-377), 3) := by decide +kernel
theorem dL_law_398 : decode cL_law 398 = .ok (.iconst 1, 1) := by decide +kernel
theorem dL_law_399 : decode cL_law 399 = .ok (.ireturn, 1) := by decide +kernel
/-! java/lang/Object -/
set_option maxRecDepth 100000
def RJ0 : String := "java/lang/Object"
abbrev cJ0_init : ByteArray := object_method_1_code
def yJ0_init : MethodName := ⟨RJ0, "<init>", "()V"⟩
theorem dJ0_init_0 : decode cJ0_init 0 = .ok (.return_, 1) := by decide +kernel
theorem q26 : (Jvm.Cond.instanceMethod ({ cls := "java/lang/Object", name := "<init>", desc := "()V" } : Jvm.MethodName)) ∈ lw_all := lw_g (lw_at lw_m1 9 rfl) rfl
theorem q27 : (Jvm.Cond.code ({ cls := "java/lang/Object", name := "<init>", desc := "()V" } : Jvm.MethodName) object_method_1_code (1 : Nat) (Option.none : Option Jvm.ClassFile.FieldType)) ∈ lw_all := lw_g (lw_at lw_m1 10 rfl) rfl

theorem q71 : (Jvm.Cond.arrayClass Jvm.ClassFile.FieldType.int) ∈ lw_all := lw_g (lw_at lw_m1 54 rfl) rfl
set_option maxRecDepth 100000
theorem q72 : (Jvm.Cond.arrayClass Jvm.ClassFile.FieldType.boolean) ∈ lw_all := lw_g (lw_at lw_m1 55 rfl) rfl

theorem q17 : (Jvm.Cond.initialized "SequencePatternsLaw") ∈ lw_all := lw_g (lw_at lw_m1 0 rfl) rfl
set_option maxRecDepth 100000
theorem q20 : (Jvm.Cond.classLink "SequencePatternsLaw" (7 : Nat) "SequencePatterns") ∈ lw_all := lw_g (lw_at lw_m1 3 rfl) rfl
theorem q22 : (Jvm.Cond.methodLink "SequencePatternsLaw" (9 : Nat) ({ cls := "SequencePatterns", name := "<init>", desc := "()V" } : Jvm.MethodName)) ∈ lw_all := lw_g (lw_at lw_m1 5 rfl) rfl
theorem q73 : (Jvm.Cond.methodLink "SequencePatternsLaw" (13 : Nat) ({ cls := "SequencePatterns", name := "begin", desc := "()V" } : Jvm.MethodName)) ∈ lw_all := lw_g (lw_at lw_m1 56 rfl) rfl
theorem q77 : (Jvm.Cond.methodLink "SequencePatternsLaw" (17 : Nat) ({ cls := "SequencePatterns", name := "step", desc := "(III)I" } : Jvm.MethodName)) ∈ lw_all := lw_g (lw_at lw_m1 60 rfl) rfl
theorem q81 : (Jvm.Cond.methodLink "SequencePatternsLaw" (22 : Nat) ({ cls := "SequencePatterns", name := "window", desc := "(I)I" } : Jvm.MethodName)) ∈ lw_all := lw_g (lw_at lw_m1 64 rfl) rfl
theorem q85 : (Jvm.Cond.methodLink "SequencePatternsLaw" (27 : Nat) ({ cls := "SequencePatterns", name := "event", desc := "(III)I" } : Jvm.MethodName)) ∈ lw_all := lw_g (lw_at lw_m1 68 rfl) rfl
theorem q125 : (Jvm.Cond.methodLink "SequencePatternsLaw" (31 : Nat) ({ cls := "SequencePatterns", name := "restart", desc := "()V" } : Jvm.MethodName)) ∈ lw_all := lw_g (lw_at lw_m1 108 rfl) rfl
theorem q129 : (Jvm.Cond.methodLink "SequencePatternsLaw" (35 : Nat) ({ cls := "SequencePatterns", name := "events", desc := "()I" } : Jvm.MethodName)) ∈ lw_all := lw_g (lw_at lw_m1 112 rfl) rfl
theorem q133 : (Jvm.Cond.methodLink "SequencePatternsLaw" (40 : Nat) ({ cls := "SequencePatterns", name := "finds", desc := "()I" } : Jvm.MethodName)) ∈ lw_all := lw_g (lw_at lw_m1 116 rfl) rfl
theorem q141 : (Jvm.Cond.methodLink "SequencePatternsLaw" (44 : Nat) ({ cls := "SequencePatterns", name := "endingAt", desc := "(I)I" } : Jvm.MethodName)) ∈ lw_all := lw_g (lw_at lw_m1 124 rfl) rfl
theorem q142 : (Jvm.Cond.methodLink "SequencePatternsLaw" (48 : Nat) ({ cls := "SequencePatterns", name := "beginningAt", desc := "(I)I" } : Jvm.MethodName)) ∈ lw_all := lw_g (lw_at lw_m1 125 rfl) rfl
theorem q143 : (Jvm.Cond.methodLink "SequencePatternsLaw" (52 : Nat) ({ cls := "SequencePatterns", name := "using", desc := "(I)I" } : Jvm.MethodName)) ∈ lw_all := lw_g (lw_at lw_m1 126 rfl) rfl
theorem q155 : (Jvm.Cond.methodLink "SequencePatternsLaw" (56 : Nat) ({ cls := "SequencePatterns", name := "longest", desc := "()I" } : Jvm.MethodName)) ∈ lw_all := lw_g (lw_at lw_m1 138 rfl) rfl
theorem q159 : (Jvm.Cond.methodLink "SequencePatternsLaw" (60 : Nat) ({ cls := "SequencePatterns", name := "tightest", desc := "()I" } : Jvm.MethodName)) ∈ lw_all := lw_g (lw_at lw_m1 142 rfl) rfl
theorem q163 : (Jvm.Cond.methodLink "SequencePatternsLaw" (64 : Nat) ({ cls := "SequencePatterns", name := "lastValues", desc := "()I" } : Jvm.MethodName)) ∈ lw_all := lw_g (lw_at lw_m1 146 rfl) rfl
theorem q167 : (Jvm.Cond.methodLink "SequencePatternsLaw" (68 : Nat) ({ cls := "SequencePatterns", name := "without", desc := "(I)I" } : Jvm.MethodName)) ∈ lw_all := lw_g (lw_at lw_m1 150 rfl) rfl
theorem q173 : (Jvm.Cond.classLink "SequencePatternsLaw" (10 : Nat) "SequencePatternsModel") ∈ lw_all := lw_g (lw_at lw_m1 156 rfl) rfl
theorem q175 : (Jvm.Cond.methodLink "SequencePatternsLaw" (12 : Nat) ({ cls := "SequencePatternsModel", name := "<init>", desc := "()V" } : Jvm.MethodName)) ∈ lw_all := lw_g (lw_at lw_m1 158 rfl) rfl
theorem q216 : (Jvm.Cond.methodLink "SequencePatternsLaw" (16 : Nat) ({ cls := "SequencePatternsModel", name := "begin", desc := "()V" } : Jvm.MethodName)) ∈ lw_all := lw_g (lw_at lw_m1 199 rfl) rfl
theorem q220 : (Jvm.Cond.methodLink "SequencePatternsLaw" (21 : Nat) ({ cls := "SequencePatternsModel", name := "step", desc := "(III)I" } : Jvm.MethodName)) ∈ lw_all := lw_g (lw_at lw_m1 203 rfl) rfl
theorem q224 : (Jvm.Cond.methodLink "SequencePatternsLaw" (26 : Nat) ({ cls := "SequencePatternsModel", name := "window", desc := "(I)I" } : Jvm.MethodName)) ∈ lw_all := lw_g (lw_at lw_m1 207 rfl) rfl
theorem q228 : (Jvm.Cond.methodLink "SequencePatternsLaw" (30 : Nat) ({ cls := "SequencePatternsModel", name := "event", desc := "(III)I" } : Jvm.MethodName)) ∈ lw_all := lw_g (lw_at lw_m1 211 rfl) rfl
theorem q260 : (Jvm.Cond.methodLink "SequencePatternsLaw" (34 : Nat) ({ cls := "SequencePatternsModel", name := "restart", desc := "()V" } : Jvm.MethodName)) ∈ lw_all := lw_g (lw_at lw_m2 3 rfl) rfl
theorem q264 : (Jvm.Cond.methodLink "SequencePatternsLaw" (39 : Nat) ({ cls := "SequencePatternsModel", name := "events", desc := "()I" } : Jvm.MethodName)) ∈ lw_all := lw_g (lw_at lw_m2 7 rfl) rfl
theorem q268 : (Jvm.Cond.methodLink "SequencePatternsLaw" (43 : Nat) ({ cls := "SequencePatternsModel", name := "finds", desc := "()I" } : Jvm.MethodName)) ∈ lw_all := lw_g (lw_at lw_m2 11 rfl) rfl
theorem q272 : (Jvm.Cond.methodLink "SequencePatternsLaw" (47 : Nat) ({ cls := "SequencePatternsModel", name := "endingAt", desc := "(I)I" } : Jvm.MethodName)) ∈ lw_all := lw_g (lw_at lw_m2 15 rfl) rfl
theorem q273 : (Jvm.Cond.methodLink "SequencePatternsLaw" (51 : Nat) ({ cls := "SequencePatternsModel", name := "beginningAt", desc := "(I)I" } : Jvm.MethodName)) ∈ lw_all := lw_g (lw_at lw_m2 16 rfl) rfl
theorem q277 : (Jvm.Cond.methodLink "SequencePatternsLaw" (55 : Nat) ({ cls := "SequencePatternsModel", name := "using", desc := "(I)I" } : Jvm.MethodName)) ∈ lw_all := lw_g (lw_at lw_m2 20 rfl) rfl
theorem q281 : (Jvm.Cond.methodLink "SequencePatternsLaw" (59 : Nat) ({ cls := "SequencePatternsModel", name := "longest", desc := "()I" } : Jvm.MethodName)) ∈ lw_all := lw_g (lw_at lw_m2 24 rfl) rfl
theorem q289 : (Jvm.Cond.methodLink "SequencePatternsLaw" (63 : Nat) ({ cls := "SequencePatternsModel", name := "tightest", desc := "()I" } : Jvm.MethodName)) ∈ lw_all := lw_g (lw_at lw_m2 32 rfl) rfl
theorem q293 : (Jvm.Cond.methodLink "SequencePatternsLaw" (67 : Nat) ({ cls := "SequencePatternsModel", name := "lastValues", desc := "()I" } : Jvm.MethodName)) ∈ lw_all := lw_g (lw_at lw_m2 36 rfl) rfl
theorem q297 : (Jvm.Cond.methodLink "SequencePatternsLaw" (71 : Nat) ({ cls := "SequencePatternsModel", name := "without", desc := "(I)I" } : Jvm.MethodName)) ∈ lw_all := lw_g (lw_at lw_m2 40 rfl) rfl
end
section
/-! A WALK WITH THE HEAP HIDDEN: kw_W g pc lv st w: from pc, with locals lv, operand stack st, and any heap that holds the world w, the walk g comes to its end. -/
abbrev vwCl : List vw_C := [(RX0, TX0, 14), (RX1, TX1, 12)]
/-- what stays the same all through one walk -/
abbrev kw_C := Program × Launch × Env × Room × State × MethodId × Array Value × List Frame × Method × Code × va_G × (Nat → Prop) × Nat × Nat × Nat × (State → Prop)
def kw_W (g : kw_C) (pc : Nat) (lv : List (Nat × Value)) (st : List Value) (w : va_W) : Prop := match g with
  | (p, l, e, R, s, m, args, below, meth, c, D, A, nL, cells, slots, Q) => ∀ (H : Heap) (locs : List Loc) (ls : Array Slot), va_P D vwCl w H → va_D A w → va_S A s.heap H locs → lv_has ls nL lv → W p l e R s m args below meth c H locs cells slots Q (F0 m pc ls st)
/-- what is known all through it: the machine, the code, the tables' words, the array classes, the room -/
def kw_O (g : kw_C) (cc : ByteArray) (own : String) (tys : List (ClassId × FieldType)) (nl fr lo : Nat) : Prop := match g with
  | (p, l, e, R, s, m, args, below, meth, c, D, A, nL, cells, slots, Q) => nL = nl ∧ CallFix p m c cc nl s args lw_all own ∧ va_K D vwCl tys s ∧ (∀ q : Nat, s.heap.size ≤ q → A q) ∧ fr ≤ R.frames ∧ lo ≤ R.locals ∧ cells ≤ R.cells ∧ slots ≤ R.slots
theorem kw_iload_n {g : kw_C} {cc : ByteArray} {own : String} {tys : List (ClassId × FieldType)} {nl fr lo : Nat} (hg : kw_O g cc own tys nl fr lo) {pc : Nat} {lv : List (Nat × Value)} {st : List Value} {w : va_W} (k : Nat) {i : Fin 4} {j : Nat} {x : Int32} (hd : decode cc pc = .ok (.iload_n i, 1)) (hi : (i : Nat) = j) (hk : lv[k]? = some (j, .int x)) (kk : kw_W g (pc + 1) lv (.int x :: st) w) : kw_W g pc lv st w := by
  obtain ⟨p, l, e, R, s, m, args, below, meth, c, D, A, nL, cells, slots, Q⟩ := g
  obtain ⟨rfl, ⟨hx, hb, hml, hown, hts⟩, hK, hA, hfr, hlo, hce, hsl⟩ := hg
  intro H locs ls hP hD hS hl
  exact lv_iload_n hx hb hd hi (lv_at hl k hk) (kk H locs ls hP hD hS hl)
theorem kw_iload {g : kw_C} {cc : ByteArray} {own : String} {tys : List (ClassId × FieldType)} {nl fr lo : Nat} (hg : kw_O g cc own tys nl fr lo) {pc : Nat} {lv : List (Nat × Value)} {st : List Value} {w : va_W} (k : Nat) {j : Nat} {x : Int32} (hd : decode cc pc = .ok (.iload j, 2)) (hk : lv[k]? = some (j, .int x)) (kk : kw_W g (pc + 2) lv (.int x :: st) w) : kw_W g pc lv st w := by
  obtain ⟨p, l, e, R, s, m, args, below, meth, c, D, A, nL, cells, slots, Q⟩ := g
  obtain ⟨rfl, ⟨hx, hb, hml, hown, hts⟩, hK, hA, hfr, hlo, hce, hsl⟩ := hg
  intro H locs ls hP hD hS hl
  exact lv_iload hx hb hd (lv_at hl k hk) (kk H locs ls hP hD hS hl)
theorem kw_aload_n {g : kw_C} {cc : ByteArray} {own : String} {tys : List (ClassId × FieldType)} {nl fr lo : Nat} (hg : kw_O g cc own tys nl fr lo) {pc : Nat} {lv : List (Nat × Value)} {st : List Value} {w : va_W} (k : Nat) {i : Fin 4} {j : Nat} {x : Nat} (hd : decode cc pc = .ok (.aload_n i, 1)) (hi : (i : Nat) = j) (hk : lv[k]? = some (j, .ref x)) (kk : kw_W g (pc + 1) lv (.ref x :: st) w) : kw_W g pc lv st w := by
  obtain ⟨p, l, e, R, s, m, args, below, meth, c, D, A, nL, cells, slots, Q⟩ := g
  obtain ⟨rfl, ⟨hx, hb, hml, hown, hts⟩, hK, hA, hfr, hlo, hce, hsl⟩ := hg
  intro H locs ls hP hD hS hl
  exact lv_aload_n hx hb hd hi (lv_at hl k hk) (kk H locs ls hP hD hS hl)
theorem kw_iconst {g : kw_C} {cc : ByteArray} {own : String} {tys : List (ClassId × FieldType)} {nl fr lo : Nat} (hg : kw_O g cc own tys nl fr lo) {pc : Nat} {lv : List (Nat × Value)} {st : List Value} {w : va_W} {n : Int} {v : Int32} (hd : decode cc pc = .ok (.iconst n, 1)) (hv : Int32.ofInt n = v) (kk : kw_W g (pc + 1) lv (.int v :: st) w) : kw_W g pc lv st w := by
  obtain ⟨p, l, e, R, s, m, args, below, meth, c, D, A, nL, cells, slots, Q⟩ := g
  obtain ⟨rfl, ⟨hx, hb, hml, hown, hts⟩, hK, hA, hfr, hlo, hce, hsl⟩ := hg
  intro H locs ls hP hD hS hl
  exact lv_iconst hx hb hd hv (kk H locs ls hP hD hS hl)
theorem kw_bipush {g : kw_C} {cc : ByteArray} {own : String} {tys : List (ClassId × FieldType)} {nl fr lo : Nat} (hg : kw_O g cc own tys nl fr lo) {pc : Nat} {lv : List (Nat × Value)} {st : List Value} {w : va_W} {n : Int} {v : Int32} (hd : decode cc pc = .ok (.bipush n, 2)) (hv : (Int8.ofInt n).toInt32 = v) (kk : kw_W g (pc + 2) lv (.int v :: st) w) : kw_W g pc lv st w := by
  obtain ⟨p, l, e, R, s, m, args, below, meth, c, D, A, nL, cells, slots, Q⟩ := g
  obtain ⟨rfl, ⟨hx, hb, hml, hown, hts⟩, hK, hA, hfr, hlo, hce, hsl⟩ := hg
  intro H locs ls hP hD hS hl
  exact lv_bipush hx hb hd hv (kk H locs ls hP hD hS hl)
theorem kw_dupr {g : kw_C} {cc : ByteArray} {own : String} {tys : List (ClassId × FieldType)} {nl fr lo : Nat} (hg : kw_O g cc own tys nl fr lo) {pc : Nat} {lv : List (Nat × Value)} {st : List Value} {w : va_W} {x : Nat} (hd : decode cc pc = .ok (.dup, 1)) (kk : kw_W g (pc + 1) lv (.ref x :: .ref x :: st) w) : kw_W g pc lv (.ref x :: st) w := by
  obtain ⟨p, l, e, R, s, m, args, below, meth, c, D, A, nL, cells, slots, Q⟩ := g
  obtain ⟨rfl, ⟨hx, hb, hml, hown, hts⟩, hK, hA, hfr, hlo, hce, hsl⟩ := hg
  intro H locs ls hP hD hS hl
  exact lv_dup hx hb hd rfl (kk H locs ls hP hD hS hl)
theorem kw_iadd {g : kw_C} {cc : ByteArray} {own : String} {tys : List (ClassId × FieldType)} {nl fr lo : Nat} (hg : kw_O g cc own tys nl fr lo) {pc : Nat} {lv : List (Nat × Value)} {st : List Value} {w : va_W} {x y : Int32} (hd : decode cc pc = .ok (.iadd, 1)) (kk : kw_W g (pc + 1) lv (.int (x + y) :: st) w) : kw_W g pc lv (.int y :: .int x :: st) w := by
  obtain ⟨p, l, e, R, s, m, args, below, meth, c, D, A, nL, cells, slots, Q⟩ := g
  obtain ⟨rfl, ⟨hx, hb, hml, hown, hts⟩, hK, hA, hfr, hlo, hce, hsl⟩ := hg
  intro H locs ls hP hD hS hl
  exact lv_iadd hx hb hd (kk H locs ls hP hD hS hl)
theorem kw_isub {g : kw_C} {cc : ByteArray} {own : String} {tys : List (ClassId × FieldType)} {nl fr lo : Nat} (hg : kw_O g cc own tys nl fr lo) {pc : Nat} {lv : List (Nat × Value)} {st : List Value} {w : va_W} {x y : Int32} (hd : decode cc pc = .ok (.isub, 1)) (kk : kw_W g (pc + 1) lv (.int (x - y) :: st) w) : kw_W g pc lv (.int y :: .int x :: st) w := by
  obtain ⟨p, l, e, R, s, m, args, below, meth, c, D, A, nL, cells, slots, Q⟩ := g
  obtain ⟨rfl, ⟨hx, hb, hml, hown, hts⟩, hK, hA, hfr, hlo, hce, hsl⟩ := hg
  intro H locs ls hP hD hS hl
  exact lv_isub hx hb hd (kk H locs ls hP hD hS hl)
theorem kw_imul {g : kw_C} {cc : ByteArray} {own : String} {tys : List (ClassId × FieldType)} {nl fr lo : Nat} (hg : kw_O g cc own tys nl fr lo) {pc : Nat} {lv : List (Nat × Value)} {st : List Value} {w : va_W} {x y : Int32} (hd : decode cc pc = .ok (.imul, 1)) (kk : kw_W g (pc + 1) lv (.int (x * y) :: st) w) : kw_W g pc lv (.int y :: .int x :: st) w := by
  obtain ⟨p, l, e, R, s, m, args, below, meth, c, D, A, nL, cells, slots, Q⟩ := g
  obtain ⟨rfl, ⟨hx, hb, hml, hown, hts⟩, hK, hA, hfr, hlo, hce, hsl⟩ := hg
  intro H locs ls hP hD hS hl
  exact lv_imul hx hb hd (kk H locs ls hP hD hS hl)
theorem kw_iand {g : kw_C} {cc : ByteArray} {own : String} {tys : List (ClassId × FieldType)} {nl fr lo : Nat} (hg : kw_O g cc own tys nl fr lo) {pc : Nat} {lv : List (Nat × Value)} {st : List Value} {w : va_W} {x y : Int32} (hd : decode cc pc = .ok (.iand, 1)) (kk : kw_W g (pc + 1) lv (.int (x &&& y) :: st) w) : kw_W g pc lv (.int y :: .int x :: st) w := by
  obtain ⟨p, l, e, R, s, m, args, below, meth, c, D, A, nL, cells, slots, Q⟩ := g
  obtain ⟨rfl, ⟨hx, hb, hml, hown, hts⟩, hK, hA, hfr, hlo, hce, hsl⟩ := hg
  intro H locs ls hP hD hS hl
  exact lv_iand hx hb hd (kk H locs ls hP hD hS hl)
theorem kw_ishl {g : kw_C} {cc : ByteArray} {own : String} {tys : List (ClassId × FieldType)} {nl fr lo : Nat} (hg : kw_O g cc own tys nl fr lo) {pc : Nat} {lv : List (Nat × Value)} {st : List Value} {w : va_W} {x y : Int32} (hd : decode cc pc = .ok (.ishl, 1)) (kk : kw_W g (pc + 1) lv (.int (x <<< (y &&& 31)) :: st) w) : kw_W g pc lv (.int y :: .int x :: st) w := by
  obtain ⟨p, l, e, R, s, m, args, below, meth, c, D, A, nL, cells, slots, Q⟩ := g
  obtain ⟨rfl, ⟨hx, hb, hml, hown, hts⟩, hK, hA, hfr, hlo, hce, hsl⟩ := hg
  intro H locs ls hP hD hS hl
  exact lv_ishl hx hb hd (kk H locs ls hP hD hS hl)
theorem kw_ishr {g : kw_C} {cc : ByteArray} {own : String} {tys : List (ClassId × FieldType)} {nl fr lo : Nat} (hg : kw_O g cc own tys nl fr lo) {pc : Nat} {lv : List (Nat × Value)} {st : List Value} {w : va_W} {x y : Int32} (hd : decode cc pc = .ok (.ishr, 1)) (kk : kw_W g (pc + 1) lv (.int (x >>> (y &&& 31)) :: st) w) : kw_W g pc lv (.int y :: .int x :: st) w := by
  obtain ⟨p, l, e, R, s, m, args, below, meth, c, D, A, nL, cells, slots, Q⟩ := g
  obtain ⟨rfl, ⟨hx, hb, hml, hown, hts⟩, hK, hA, hfr, hlo, hce, hsl⟩ := hg
  intro H locs ls hP hD hS hl
  exact lv_ishr hx hb hd (kk H locs ls hP hD hS hl)
theorem kw_irem {g : kw_C} {cc : ByteArray} {own : String} {tys : List (ClassId × FieldType)} {nl fr lo : Nat} (hg : kw_O g cc own tys nl fr lo) {pc : Nat} {lv : List (Nat × Value)} {st : List Value} {w : va_W} {x y : Int32} (hd : decode cc pc = .ok (.irem, 1)) (hy : ¬ y = 0) (kk : kw_W g (pc + 1) lv (.int (x - x / y * y) :: st) w) : kw_W g pc lv (.int y :: .int x :: st) w := by
  obtain ⟨p, l, e, R, s, m, args, below, meth, c, D, A, nL, cells, slots, Q⟩ := g
  obtain ⟨rfl, ⟨hx, hb, hml, hown, hts⟩, hK, hA, hfr, hlo, hce, hsl⟩ := hg
  intro H locs ls hP hD hS hl
  exact lv_irem hx hb hd hy (kk H locs ls hP hD hS hl)
theorem kw_icmp_eq {g : kw_C} {cc : ByteArray} {own : String} {tys : List (ClassId × FieldType)} {nl fr lo : Nat} (hg : kw_O g cc own tys nl fr lo) {pc : Nat} {lv : List (Nat × Value)} {st : List Value} {w : va_W} {x y : Int32} {off : Int} (tgt : Nat) (hd : decode cc pc = .ok (.if_icmp .eq off, 3)) (ht : (pc : Int) + off = (tgt : Int)) (kt : x = y → kw_W g tgt lv st w) (kf : ¬ x = y → kw_W g (pc + 3) lv st w) : kw_W g pc lv (.int y :: .int x :: st) w := by
  obtain ⟨p, l, e, R, s, m, args, below, meth, c, D, A, nL, cells, slots, Q⟩ := g
  obtain ⟨rfl, ⟨hx, hb, hml, hown, hts⟩, hK, hA, hfr, hlo, hce, hsl⟩ := hg
  intro H locs ls hP hD hS hl
  exact lv_icmp_eq hx hb hd ht (fun h => kt h H locs ls hP hD hS hl) (fun h => kf h H locs ls hP hD hS hl)
theorem kw_if_eq {g : kw_C} {cc : ByteArray} {own : String} {tys : List (ClassId × FieldType)} {nl fr lo : Nat} (hg : kw_O g cc own tys nl fr lo) {pc : Nat} {lv : List (Nat × Value)} {st : List Value} {w : va_W} {x : Int32} {off : Int} (tgt : Nat) (hd : decode cc pc = .ok (.ifCond .eq off, 3)) (ht : (pc : Int) + off = (tgt : Int)) (kt : x = 0 → kw_W g tgt lv st w) (kf : ¬ x = 0 → kw_W g (pc + 3) lv st w) : kw_W g pc lv (.int x :: st) w := by
  obtain ⟨p, l, e, R, s, m, args, below, meth, c, D, A, nL, cells, slots, Q⟩ := g
  obtain ⟨rfl, ⟨hx, hb, hml, hown, hts⟩, hK, hA, hfr, hlo, hce, hsl⟩ := hg
  intro H locs ls hP hD hS hl
  exact lv_if_eq hx hb hd ht (fun h => kt h H locs ls hP hD hS hl) (fun h => kf h H locs ls hP hD hS hl)
theorem kw_icmp_ne {g : kw_C} {cc : ByteArray} {own : String} {tys : List (ClassId × FieldType)} {nl fr lo : Nat} (hg : kw_O g cc own tys nl fr lo) {pc : Nat} {lv : List (Nat × Value)} {st : List Value} {w : va_W} {x y : Int32} {off : Int} (tgt : Nat) (hd : decode cc pc = .ok (.if_icmp .ne off, 3)) (ht : (pc : Int) + off = (tgt : Int)) (kt : ¬ x = y → kw_W g tgt lv st w) (kf : x = y → kw_W g (pc + 3) lv st w) : kw_W g pc lv (.int y :: .int x :: st) w := by
  obtain ⟨p, l, e, R, s, m, args, below, meth, c, D, A, nL, cells, slots, Q⟩ := g
  obtain ⟨rfl, ⟨hx, hb, hml, hown, hts⟩, hK, hA, hfr, hlo, hce, hsl⟩ := hg
  intro H locs ls hP hD hS hl
  exact lv_icmp_ne hx hb hd ht (fun h => kt h H locs ls hP hD hS hl) (fun h => kf h H locs ls hP hD hS hl)
theorem kw_if_ne {g : kw_C} {cc : ByteArray} {own : String} {tys : List (ClassId × FieldType)} {nl fr lo : Nat} (hg : kw_O g cc own tys nl fr lo) {pc : Nat} {lv : List (Nat × Value)} {st : List Value} {w : va_W} {x : Int32} {off : Int} (tgt : Nat) (hd : decode cc pc = .ok (.ifCond .ne off, 3)) (ht : (pc : Int) + off = (tgt : Int)) (kt : ¬ x = 0 → kw_W g tgt lv st w) (kf : x = 0 → kw_W g (pc + 3) lv st w) : kw_W g pc lv (.int x :: st) w := by
  obtain ⟨p, l, e, R, s, m, args, below, meth, c, D, A, nL, cells, slots, Q⟩ := g
  obtain ⟨rfl, ⟨hx, hb, hml, hown, hts⟩, hK, hA, hfr, hlo, hce, hsl⟩ := hg
  intro H locs ls hP hD hS hl
  exact lv_if_ne hx hb hd ht (fun h => kt h H locs ls hP hD hS hl) (fun h => kf h H locs ls hP hD hS hl)
theorem kw_icmp_lt {g : kw_C} {cc : ByteArray} {own : String} {tys : List (ClassId × FieldType)} {nl fr lo : Nat} (hg : kw_O g cc own tys nl fr lo) {pc : Nat} {lv : List (Nat × Value)} {st : List Value} {w : va_W} {x y : Int32} {off : Int} (tgt : Nat) (hd : decode cc pc = .ok (.if_icmp .lt off, 3)) (ht : (pc : Int) + off = (tgt : Int)) (kt : x < y → kw_W g tgt lv st w) (kf : ¬ x < y → kw_W g (pc + 3) lv st w) : kw_W g pc lv (.int y :: .int x :: st) w := by
  obtain ⟨p, l, e, R, s, m, args, below, meth, c, D, A, nL, cells, slots, Q⟩ := g
  obtain ⟨rfl, ⟨hx, hb, hml, hown, hts⟩, hK, hA, hfr, hlo, hce, hsl⟩ := hg
  intro H locs ls hP hD hS hl
  exact lv_icmp_lt hx hb hd ht (fun h => kt h H locs ls hP hD hS hl) (fun h => kf h H locs ls hP hD hS hl)
theorem kw_if_lt {g : kw_C} {cc : ByteArray} {own : String} {tys : List (ClassId × FieldType)} {nl fr lo : Nat} (hg : kw_O g cc own tys nl fr lo) {pc : Nat} {lv : List (Nat × Value)} {st : List Value} {w : va_W} {x : Int32} {off : Int} (tgt : Nat) (hd : decode cc pc = .ok (.ifCond .lt off, 3)) (ht : (pc : Int) + off = (tgt : Int)) (kt : x < 0 → kw_W g tgt lv st w) (kf : ¬ x < 0 → kw_W g (pc + 3) lv st w) : kw_W g pc lv (.int x :: st) w := by
  obtain ⟨p, l, e, R, s, m, args, below, meth, c, D, A, nL, cells, slots, Q⟩ := g
  obtain ⟨rfl, ⟨hx, hb, hml, hown, hts⟩, hK, hA, hfr, hlo, hce, hsl⟩ := hg
  intro H locs ls hP hD hS hl
  exact lv_if_lt hx hb hd ht (fun h => kt h H locs ls hP hD hS hl) (fun h => kf h H locs ls hP hD hS hl)
theorem kw_icmp_ge {g : kw_C} {cc : ByteArray} {own : String} {tys : List (ClassId × FieldType)} {nl fr lo : Nat} (hg : kw_O g cc own tys nl fr lo) {pc : Nat} {lv : List (Nat × Value)} {st : List Value} {w : va_W} {x y : Int32} {off : Int} (tgt : Nat) (hd : decode cc pc = .ok (.if_icmp .ge off, 3)) (ht : (pc : Int) + off = (tgt : Int)) (kt : y ≤ x → kw_W g tgt lv st w) (kf : ¬ y ≤ x → kw_W g (pc + 3) lv st w) : kw_W g pc lv (.int y :: .int x :: st) w := by
  obtain ⟨p, l, e, R, s, m, args, below, meth, c, D, A, nL, cells, slots, Q⟩ := g
  obtain ⟨rfl, ⟨hx, hb, hml, hown, hts⟩, hK, hA, hfr, hlo, hce, hsl⟩ := hg
  intro H locs ls hP hD hS hl
  exact lv_icmp_ge hx hb hd ht (fun h => kt h H locs ls hP hD hS hl) (fun h => kf h H locs ls hP hD hS hl)
theorem kw_if_ge {g : kw_C} {cc : ByteArray} {own : String} {tys : List (ClassId × FieldType)} {nl fr lo : Nat} (hg : kw_O g cc own tys nl fr lo) {pc : Nat} {lv : List (Nat × Value)} {st : List Value} {w : va_W} {x : Int32} {off : Int} (tgt : Nat) (hd : decode cc pc = .ok (.ifCond .ge off, 3)) (ht : (pc : Int) + off = (tgt : Int)) (kt : 0 ≤ x → kw_W g tgt lv st w) (kf : ¬ 0 ≤ x → kw_W g (pc + 3) lv st w) : kw_W g pc lv (.int x :: st) w := by
  obtain ⟨p, l, e, R, s, m, args, below, meth, c, D, A, nL, cells, slots, Q⟩ := g
  obtain ⟨rfl, ⟨hx, hb, hml, hown, hts⟩, hK, hA, hfr, hlo, hce, hsl⟩ := hg
  intro H locs ls hP hD hS hl
  exact lv_if_ge hx hb hd ht (fun h => kt h H locs ls hP hD hS hl) (fun h => kf h H locs ls hP hD hS hl)
theorem kw_icmp_gt {g : kw_C} {cc : ByteArray} {own : String} {tys : List (ClassId × FieldType)} {nl fr lo : Nat} (hg : kw_O g cc own tys nl fr lo) {pc : Nat} {lv : List (Nat × Value)} {st : List Value} {w : va_W} {x y : Int32} {off : Int} (tgt : Nat) (hd : decode cc pc = .ok (.if_icmp .gt off, 3)) (ht : (pc : Int) + off = (tgt : Int)) (kt : y < x → kw_W g tgt lv st w) (kf : ¬ y < x → kw_W g (pc + 3) lv st w) : kw_W g pc lv (.int y :: .int x :: st) w := by
  obtain ⟨p, l, e, R, s, m, args, below, meth, c, D, A, nL, cells, slots, Q⟩ := g
  obtain ⟨rfl, ⟨hx, hb, hml, hown, hts⟩, hK, hA, hfr, hlo, hce, hsl⟩ := hg
  intro H locs ls hP hD hS hl
  exact lv_icmp_gt hx hb hd ht (fun h => kt h H locs ls hP hD hS hl) (fun h => kf h H locs ls hP hD hS hl)
theorem kw_if_gt {g : kw_C} {cc : ByteArray} {own : String} {tys : List (ClassId × FieldType)} {nl fr lo : Nat} (hg : kw_O g cc own tys nl fr lo) {pc : Nat} {lv : List (Nat × Value)} {st : List Value} {w : va_W} {x : Int32} {off : Int} (tgt : Nat) (hd : decode cc pc = .ok (.ifCond .gt off, 3)) (ht : (pc : Int) + off = (tgt : Int)) (kt : 0 < x → kw_W g tgt lv st w) (kf : ¬ 0 < x → kw_W g (pc + 3) lv st w) : kw_W g pc lv (.int x :: st) w := by
  obtain ⟨p, l, e, R, s, m, args, below, meth, c, D, A, nL, cells, slots, Q⟩ := g
  obtain ⟨rfl, ⟨hx, hb, hml, hown, hts⟩, hK, hA, hfr, hlo, hce, hsl⟩ := hg
  intro H locs ls hP hD hS hl
  exact lv_if_gt hx hb hd ht (fun h => kt h H locs ls hP hD hS hl) (fun h => kf h H locs ls hP hD hS hl)
theorem kw_icmp_le {g : kw_C} {cc : ByteArray} {own : String} {tys : List (ClassId × FieldType)} {nl fr lo : Nat} (hg : kw_O g cc own tys nl fr lo) {pc : Nat} {lv : List (Nat × Value)} {st : List Value} {w : va_W} {x y : Int32} {off : Int} (tgt : Nat) (hd : decode cc pc = .ok (.if_icmp .le off, 3)) (ht : (pc : Int) + off = (tgt : Int)) (kt : x ≤ y → kw_W g tgt lv st w) (kf : ¬ x ≤ y → kw_W g (pc + 3) lv st w) : kw_W g pc lv (.int y :: .int x :: st) w := by
  obtain ⟨p, l, e, R, s, m, args, below, meth, c, D, A, nL, cells, slots, Q⟩ := g
  obtain ⟨rfl, ⟨hx, hb, hml, hown, hts⟩, hK, hA, hfr, hlo, hce, hsl⟩ := hg
  intro H locs ls hP hD hS hl
  exact lv_icmp_le hx hb hd ht (fun h => kt h H locs ls hP hD hS hl) (fun h => kf h H locs ls hP hD hS hl)
theorem kw_if_le {g : kw_C} {cc : ByteArray} {own : String} {tys : List (ClassId × FieldType)} {nl fr lo : Nat} (hg : kw_O g cc own tys nl fr lo) {pc : Nat} {lv : List (Nat × Value)} {st : List Value} {w : va_W} {x : Int32} {off : Int} (tgt : Nat) (hd : decode cc pc = .ok (.ifCond .le off, 3)) (ht : (pc : Int) + off = (tgt : Int)) (kt : x ≤ 0 → kw_W g tgt lv st w) (kf : ¬ x ≤ 0 → kw_W g (pc + 3) lv st w) : kw_W g pc lv (.int x :: st) w := by
  obtain ⟨p, l, e, R, s, m, args, below, meth, c, D, A, nL, cells, slots, Q⟩ := g
  obtain ⟨rfl, ⟨hx, hb, hml, hown, hts⟩, hK, hA, hfr, hlo, hce, hsl⟩ := hg
  intro H locs ls hP hD hS hl
  exact lv_if_le hx hb hd ht (fun h => kt h H locs ls hP hD hS hl) (fun h => kf h H locs ls hP hD hS hl)
theorem kw_goto {g : kw_C} {cc : ByteArray} {own : String} {tys : List (ClassId × FieldType)} {nl fr lo : Nat} (hg : kw_O g cc own tys nl fr lo) {pc : Nat} {lv : List (Nat × Value)} {st : List Value} {w : va_W} {off : Int} (tgt : Nat) (hd : decode cc pc = .ok (.goto off, 3)) (ht : (pc : Int) + off = (tgt : Int)) (kk : kw_W g tgt lv st w) : kw_W g pc lv st w := by
  obtain ⟨p, l, e, R, s, m, args, below, meth, c, D, A, nL, cells, slots, Q⟩ := g
  obtain ⟨rfl, ⟨hx, hb, hml, hown, hts⟩, hK, hA, hfr, hlo, hce, hsl⟩ := hg
  intro H locs ls hP hD hS hl
  exact lv_goto hx hb hd ht (kk H locs ls hP hD hS hl)
theorem kw_less {g : kw_C} {pc : Nat} {lv lv' : List (Nat × Value)} {st : List Value} {w : va_W} (ks : List Nat) (h : lv_pick lv ks = lv') (kk : kw_W g pc lv' st w) : kw_W g pc lv st w := by
  obtain ⟨p, l, e, R, s, m, args, below, meth, c, D, A, nL, cells, slots, Q⟩ := g
  intro H locs ls hP hD hS hl
  exact kk H locs ls hP hD hS (lv_sub hl ks h)
theorem kw_top {g : kw_C} {pc : Nat} {lv : List (Nat × Value)} {st : List Value} {w : va_W} {x : Int32} (y : Int32) (h : x = y) (kk : kw_W g pc lv (.int y :: st) w) : kw_W g pc lv (.int x :: st) w := by
  subst h
  exact kk
theorem kw_eq {g : kw_C} {pc : Nat} {lv : List (Nat × Value)} {st : List Value} {w w' : va_W} (h : w = w') (kk : kw_W g pc lv st w') : kw_W g pc lv st w := by
  subst h
  exact kk
/-- locals of one slot each -/
def kw_one (lv : List (Nat × Value)) : Bool := lv.all (fun q => Nat.beq q.2.category 1)
theorem kw_keep {lv : List (Nat × Value)} {i : Nat} {q : Nat × Value} (h1 : kw_one lv = true) (hq : q ∈ lv) (hi : q.1 ≠ i) : q ∈ lv.filter (fun q => !(q.1 == i) && !(q.1 + 1 == i && q.2.category == 2)) := by
  refine List.mem_filter.mpr ⟨hq, ?_⟩
  have h2 := List.all_eq_true.mp h1 q hq
  have h3 : q.2.category = 1 := Nat.eq_of_beq_eq_true h2
  rw [h3]
  simp [hi]
/-- a store: the list as it is behind it; its other entries are of other numbers -/
theorem kw_stored {ls : Array Slot} {nL i : Nat} {v : Value} {lv lv' : List (Nat × Value)} (h : lv_has ls nL ((i, v) :: lv.filter (fun q => !(q.1 == i) && !(q.1 + 1 == i && q.2.category == 2)))) (h1 : kw_one lv = true) (hs : ∀ q ∈ lv', q = (i, v) ∨ (q ∈ lv ∧ q.1 ≠ i)) : lv_has ls nL lv' := by
  refine ⟨h.1, h.2.1, fun q hq => ?_⟩
  rcases hs q hq with e | ⟨e1, e2⟩
  · rw [e]
    exact h.2.2 _ List.mem_cons_self
  · exact h.2.2 _ (List.mem_cons_of_mem _ (kw_keep h1 e1 e2))
/-- the new list, entry by entry: place k of it is the stored one (none), or place j of the old list -/
def kw_from (lv : List (Nat × Value)) (i : Nat) (v : Value) : List (Option Nat) → List (Nat × Value)
  | [] => []
  | none :: t => (i, v) :: kw_from lv i v t
  | some j :: t => match lv[j]? with
    | some q => cond (Nat.beq q.1 i) (kw_from lv i v t) (q :: kw_from lv i v t)
    | none => kw_from lv i v t
theorem kw_from_in {lv : List (Nat × Value)} {i : Nat} {v : Value} : ∀ (ks : List (Option Nat)), ∀ q ∈ kw_from lv i v ks, q = (i, v) ∨ (q ∈ lv ∧ q.1 ≠ i) := by
  intro ks
  induction ks with
  | nil =>
    intro q h
    simp [kw_from] at h
  | cons a t ih =>
    intro q h
    cases a with
    | none =>
      simp only [kw_from, List.mem_cons] at h
      rcases h with h | h
      · exact Or.inl h
      · exact ih q h
    | some j =>
      simp only [kw_from] at h
      cases hj : lv[j]? with
      | none =>
        rw [hj] at h
        exact ih q h
      | some r =>
        rw [hj] at h
        simp only at h
        cases hb : Nat.beq r.1 i with
        | true =>
          rw [hb] at h
          exact ih q h
        | false =>
          rw [hb] at h
          simp only [cond_false, List.mem_cons] at h
          rcases h with h | h
          · refine Or.inr ⟨by rw [h]; exact List.mem_of_getElem? hj, ?_⟩
            rw [h]
            intro he
            rw [he] at hb
            simp at hb
          · exact ih q h
theorem kw_istore_n {g : kw_C} {cc : ByteArray} {own : String} {tys : List (ClassId × FieldType)} {nl fr lo : Nat} (hg : kw_O g cc own tys nl fr lo) {pc : Nat} {lv : List (Nat × Value)} {st : List Value} {w : va_W} (ks : List (Option Nat)) {i : Fin 4} {j : Nat} {x : Int32} {lv2 : List (Nat × Value)} (hd : decode cc pc = .ok (.istore_n i, 1)) (hi : (i : Nat) = j) (hn : j < nl) (h1 : kw_one lv = true) (h2 : kw_from lv j (.int x) ks = lv2) (kk : kw_W g (pc + 1) lv2 st w) : kw_W g pc lv (.int x :: st) w := by
  obtain ⟨p, l, e, R, s, m, args, below, meth, c, D, A, nL, cells, slots, Q⟩ := g
  obtain ⟨rfl, ⟨hx, hb, hml, hown, hts⟩, hK, hA, hfr, hlo, hce, hsl⟩ := hg
  intro H locs ls hP hD hS hl
  exact lv_istore_n hx hb hd hi hl hn rfl (fun ls hl => kk H locs ls hP hD hS (kw_stored hl h1 (h2 ▸ kw_from_in ks)))
theorem kw_istore {g : kw_C} {cc : ByteArray} {own : String} {tys : List (ClassId × FieldType)} {nl fr lo : Nat} (hg : kw_O g cc own tys nl fr lo) {pc : Nat} {lv : List (Nat × Value)} {st : List Value} {w : va_W} (ks : List (Option Nat)) {j : Nat} {x : Int32} {lv2 : List (Nat × Value)} (hd : decode cc pc = .ok (.istore j, 2)) (hn : j < nl) (h1 : kw_one lv = true) (h2 : kw_from lv j (.int x) ks = lv2) (kk : kw_W g (pc + 2) lv2 st w) : kw_W g pc lv (.int x :: st) w := by
  obtain ⟨p, l, e, R, s, m, args, below, meth, c, D, A, nL, cells, slots, Q⟩ := g
  obtain ⟨rfl, ⟨hx, hb, hml, hown, hts⟩, hK, hA, hfr, hlo, hce, hsl⟩ := hg
  intro H locs ls hP hD hS hl
  exact lv_istore hx hb hd hl hn rfl (fun ls hl => kk H locs ls hP hD hS (kw_stored hl h1 (h2 ▸ kw_from_in ks)))
theorem kw_iinc {g : kw_C} {cc : ByteArray} {own : String} {tys : List (ClassId × FieldType)} {nl fr lo : Nat} (hg : kw_O g cc own tys nl fr lo) {pc : Nat} {lv : List (Nat × Value)} {st : List Value} {w : va_W} (k : Nat) (ks : List (Option Nat)) {j : Nat} {n : Int} {x v : Int32} {lv2 : List (Nat × Value)} (hd : decode cc pc = .ok (.iinc j n, 3)) (hk : lv[k]? = some (j, .int x)) (hv : x + Int32.ofInt n = v) (hn : j < nl) (h1 : kw_one lv = true) (h2 : kw_from lv j (.int v) ks = lv2) (kk : kw_W g (pc + 3) lv2 st w) : kw_W g pc lv st w := by
  obtain ⟨p, l, e, R, s, m, args, below, meth, c, D, A, nL, cells, slots, Q⟩ := g
  obtain ⟨rfl, ⟨hx, hb, hml, hown, hts⟩, hK, hA, hfr, hlo, hce, hsl⟩ := hg
  intro H locs ls hP hD hS hl
  exact lv_iinc hx hb hd hl hk hv hn rfl (fun ls hl => kk H locs ls hP hD hS (kw_stored hl h1 (h2 ▸ kw_from_in ks)))
theorem kw_get {g : kw_C} {cc : ByteArray} {own : String} {tys : List (ClassId × FieldType)} {nl fr lo : Nat} (hg : kw_O g cc own tys nl fr lo) {pc : Nat} {lv : List (Nat × Value)} {st : List Value} {w : va_W} (ci : Nat) {C : String} {T : u_T} {N : Nat} (hin : ∀ w ∈ u_ws C T N, w ∈ lw_all) (hc : vwCl[ci]? = some (C, T, N)) (q0 : Nat) {a : Nat} {fs : List Value} (he : w[q0]? = some (a, .inr (ci, fs))) (k : Nat) (hk : k < N) {index : Nat} (hq : Cond.fieldLink own index (T k).1 (T k).2.1 (T k).2.2.1 ∈ lw_all) {v : Value} (hv : fs[k]? = some v) (hd : decode cc pc = .ok (.getfield index, 3)) (kk : kw_W g (pc + 3) lv (v :: st) w) : kw_W g pc lv (.ref a :: st) w := by
  obtain ⟨p, l, e, R, s, m, args, below, meth, c, D, A, nL, cells, slots, Q⟩ := g
  obtain ⟨rfl, ⟨hx, hb, hml, hown, hts⟩, hK, hA, hfr, hlo, hce, hsl⟩ := hg
  intro H locs ls hP hD hS hl
  exact va_get (D := D) (C := C) (T := T) (N := N) hx hb hts hin hown hK hP q0 he hc k hk (hts _ hq) (fun _ h9 => h9) hv hd (kk H locs ls hP hD hS hl)
theorem kw_put {g : kw_C} {cc : ByteArray} {own : String} {tys : List (ClassId × FieldType)} {nl fr lo : Nat} (hg : kw_O g cc own tys nl fr lo) {pc : Nat} {lv : List (Nat × Value)} {st : List Value} {w : va_W} (ci : Nat) {C : String} {T : u_T} {N : Nat} (hin : ∀ w ∈ u_ws C T N, w ∈ lw_all) (ty0 : Nat → FieldType) (hty : ∀ k, k < N → parseFieldDescriptor (T k).2.2.1 = some (ty0 k)) (hnm : ∀ a, a < N → ∀ b, b < N → a ≠ b → (T a).2.1 ≠ (T b).2.1) (hc : vwCl[ci]? = some (C, T, N)) (q0 : Nat) {a : Nat} {fs : List Value} (he : w[q0]? = some (a, .inr (ci, fs))) (k : Nat) (hk : k < N) {index : Nat} (hq : Cond.fieldLink own index (T k).1 (T k).2.1 (T k).2.2.1 ∈ lw_all) (hfin : (T k).2.2.2 = false) {x : Int32} (hpd : parseFieldDescriptor (T k).2.2.1 = some .int) (hkl : k < fs.length) (hd : decode cc pc = .ok (.putfield index, 3)) (kk : kw_W g (pc + 3) lv st (w.set q0 (a, .inr (ci, fs.set k (.int x))))) : kw_W g pc lv (.int x :: .ref a :: st) w := by
  obtain ⟨p, l, e, R, s, m, args, below, meth, c, D, A, nL, cells, slots, Q⟩ := g
  obtain ⟨rfl, ⟨hx, hb, hml, hown, hts⟩, hK, hA, hfr, hlo, hce, hsl⟩ := hg
  intro H locs ls hP hD hS hl
  exact va_put (D := D) (C := C) (T := T) (N := N) (ty := .int) (v := .int x) hx hb hts hin ty0 hty hnm hown hK hP hD hS q0 he hc k hk (hts _ hq) (fun _ h9 => h9) hfin hpd rfl rfl hkl hd (fun H locs hP hD hS => kk H locs ls hP hD hS hl)
theorem kw_iald {g : kw_C} {cc : ByteArray} {own : String} {tys : List (ClassId × FieldType)} {nl fr lo : Nat} (hg : kw_O g cc own tys nl fr lo) {pc : Nat} {lv : List (Nat × Value)} {st : List Value} {w : va_W} (q0 t0 j : Nat) {a : Nat} {cA : ClassId} {n : Nat} {f : Nat → Int32} (he : w[q0]? = some (a, .inl (cA, n, .inl f))) (ht : tys[t0]? = some (cA, .int)) (hn : n < 2 ^ 31) (hj : j < n) (hd : decode cc pc = .ok (.iaload, 1)) (kk : kw_W g (pc + 1) lv (.int (f j) :: st) w) : kw_W g pc lv (.int (nI j) :: .ref a :: st) w := by
  obtain ⟨p, l, e, R, s, m, args, below, meth, c, D, A, nL, cells, slots, Q⟩ := g
  obtain ⟨rfl, ⟨hx, hb, hml, hown, hts⟩, hK, hA, hfr, hlo, hce, hsl⟩ := hg
  intro H locs ls hP hD hS hl
  have hc : (nI j).toNatClampNeg = j := nI_clamp (by omega)
  refine va_iald hx hb hK hP q0 t0 he ht (vp_in_nI hj hn) hd ?_
  rw [hc]
  exact kk H locs ls hP hD hS hl
theorem kw_zald {g : kw_C} {cc : ByteArray} {own : String} {tys : List (ClassId × FieldType)} {nl fr lo : Nat} (hg : kw_O g cc own tys nl fr lo) {pc : Nat} {lv : List (Nat × Value)} {st : List Value} {w : va_W} (q0 t0 j : Nat) {a : Nat} {cA : ClassId} {n : Nat} {f : Nat → Int32} (he : w[q0]? = some (a, .inl (cA, n, .inl f))) (ht : tys[t0]? = some (cA, .boolean)) (hn : n < 2 ^ 31) (hj : j < n) (hd : decode cc pc = .ok (.baload, 1)) (kk : kw_W g (pc + 1) lv (.int (f j) :: st) w) : kw_W g pc lv (.int (nI j) :: .ref a :: st) w := by
  obtain ⟨p, l, e, R, s, m, args, below, meth, c, D, A, nL, cells, slots, Q⟩ := g
  obtain ⟨rfl, ⟨hx, hb, hml, hown, hts⟩, hK, hA, hfr, hlo, hce, hsl⟩ := hg
  intro H locs ls hP hD hS hl
  have hc : (nI j).toNatClampNeg = j := nI_clamp (by omega)
  refine va_zald hx hb hK hP q0 t0 he ht (vp_in_nI hj hn) hd ?_
  rw [hc]
  exact kk H locs ls hP hD hS hl
theorem kw_iast {g : kw_C} {cc : ByteArray} {own : String} {tys : List (ClassId × FieldType)} {nl fr lo : Nat} (hg : kw_O g cc own tys nl fr lo) {pc : Nat} {lv : List (Nat × Value)} {st : List Value} {w : va_W} (q0 t0 j : Nat) {a : Nat} {cA : ClassId} {n : Nat} {f : Nat → Int32} {x : Int32} (he : w[q0]? = some (a, .inl (cA, n, .inl f))) (ht : tys[t0]? = some (cA, .int)) (hn : n < 2 ^ 31) (hj : j < n) (hd : decode cc pc = .ok (.iastore, 1)) (kk : kw_W g (pc + 1) lv st (w.set q0 (a, .inl (cA, n, .inl (upd f j x))))) : kw_W g pc lv (.int x :: .int (nI j) :: .ref a :: st) w := by
  obtain ⟨p, l, e, R, s, m, args, below, meth, c, D, A, nL, cells, slots, Q⟩ := g
  obtain ⟨rfl, ⟨hx, hb, hml, hown, hts⟩, hK, hA, hfr, hlo, hce, hsl⟩ := hg
  intro H locs ls hP hD hS hl
  have hc : (nI j).toNatClampNeg = j := nI_clamp (by omega)
  refine va_iast hx hb hK hP hD hS q0 t0 he ht (vp_in_nI hj hn) hd ?_
  rw [hc]
  exact fun H locs hP hD hS => kk H locs ls hP hD hS hl
theorem kw_zast {g : kw_C} {cc : ByteArray} {own : String} {tys : List (ClassId × FieldType)} {nl fr lo : Nat} (hg : kw_O g cc own tys nl fr lo) {pc : Nat} {lv : List (Nat × Value)} {st : List Value} {w : va_W} (q0 t0 j : Nat) {a : Nat} {cA : ClassId} {n : Nat} {f : Nat → Int32} {x : Int32} (he : w[q0]? = some (a, .inl (cA, n, .inl f))) (ht : tys[t0]? = some (cA, .boolean)) (hn : n < 2 ^ 31) (hj : j < n) (hx1 : vp_nar .boolean x = x) (hd : decode cc pc = .ok (.bastore, 1)) (kk : kw_W g (pc + 1) lv st (w.set q0 (a, .inl (cA, n, .inl (upd f j x))))) : kw_W g pc lv (.int x :: .int (nI j) :: .ref a :: st) w := by
  obtain ⟨p, l, e, R, s, m, args, below, meth, c, D, A, nL, cells, slots, Q⟩ := g
  obtain ⟨rfl, ⟨hx, hb, hml, hown, hts⟩, hK, hA, hfr, hlo, hce, hsl⟩ := hg
  intro H locs ls hP hD hS hl
  have hc : (nI j).toNatClampNeg = j := nI_clamp (by omega)
  refine va_zast hx hb hK hP hD hS q0 t0 he ht (vp_in_nI hj hn) hd ?_
  rw [hc, hx1]
  exact fun H locs hP hD hS => kk H locs ls hP hD hS hl
/-- a contract with one answer r and one world w2 behind it: an int (or boolean) method -/
def kw_I (y : MethodName) (b : ByteArray) (L : Nat) (ty : FieldType) (fr lo : Nat) (tys : List (ClassId × FieldType)) (av : List Value) (w w2 : va_W) (r : Int32) : Prop := ∀ (l : Launch) (D : va_G) (sz : Nat), Met l y (ws_ y b L (some ty)) ({ frames := fr, cells := 0, slots := 0, locals := lo }) (va_Pc av (fun U => U.heap.size = sz ∧ va_P D vwCl w U.heap ∧ va_K D vwCl tys U ∧ va_D (fun _ => True) w)) (va_Qi (fun (v : Int32) (_ : Unit) => v = r) (fun _ t => va_P D vwCl w2 t.heap ∧ va_K D vwCl tys t ∧ va_D (va_A w sz) w2) (va_A w sz)) 0 0 (va_A w sz)
/-- the same for a void method -/
def kw_V (y : MethodName) (b : ByteArray) (L : Nat) (fr lo : Nat) (tys : List (ClassId × FieldType)) (av : List Value) (w w2 : va_W) : Prop := ∀ (l : Launch) (D : va_G) (sz : Nat), Met l y (ws_ y b L none) ({ frames := fr, cells := 0, slots := 0, locals := lo }) (va_Pc av (fun U => U.heap.size = sz ∧ va_P D vwCl w U.heap ∧ va_K D vwCl tys U ∧ va_D (fun _ => True) w)) (va_Qv (fun (_ : Unit) => True) (fun _ t => va_P D vwCl w2 t.heap ∧ va_K D vwCl tys t ∧ va_D (va_A w sz) w2) (va_A w sz)) 0 0 (va_A w sz)
theorem kw_ofI {y : MethodName} {b : ByteArray} {L : Nat} {ty : FieldType} {fr lo : Nat} {tys : List (ClassId × FieldType)} {av : List Value} {w w2 : va_W} {r : Int32} (own : String) (hy : plainName y.cls = true) (ho : y.cls = own) (hn : narrow ty (.int r) = .int r) (hlen : (lg_sl av).length ≤ L) {lv : List (Nat × Value)} (hlv : lv_args 0 av = lv)
    (body : ∀ g : kw_C, kw_O g b own tys L fr lo → (∀ (pc : Nat) (lv : List (Nat × Value)) (v : Int32) (w' : va_W), decode b pc = .ok (.ireturn, 1) → v = r → w' = w2 → kw_W g pc lv [.int v] w') → kw_W g 0 lv [] w) : kw_I y b L ty fr lo tys av w w2 r := by
  intro l D sz
  refine Met.ofW (cc := b) (maxL := L) (ret := some ty) hy rfl ?_
  intro p e s m args below meth c s₁ B hml hv
  obtain ⟨rfl, hsz, hP, hK, hD0⟩ := hv
  have hts := atoms_spec (ws := ws_ y b L (some ty)) B.pre
  have hts : ∀ w ∈ lw_all, w.before _ s = true := fun w h => hts w (List.mem_cons_of_mem _ h)
  have hown : s.vm.findClass own = some m.cls := by rw [← ho]; exact findClass_of_methodNamed B.named
  have hlocks := B.notSynchronized
  subst hsz
  subst hlv
  have hD := hD0.self (sz := s.heap.size)
  have hS : va_S (va_A w s.heap.size) s.heap s.heap [] := va_S.rf
  have hl := lv_entry av (n := L) hlen
  rw [lg_entry_eq]
  generalize (lg_sl av ++ List.replicate (L - (lg_sl av).length) Slot.unset).toArray = ls at hl ⊢
  refine body (p, l, e, (headSpec (ws_ y b L (some ty)) ({ frames := fr, cells := 0, slots := 0, locals := lo })).room, s, m, av.toArray, below, meth, c, D, va_A w s.heap.size, L, 0, 0, _) ⟨rfl, ⟨B.exec, B.bytes, hml, hown, hts⟩, hK, fun q h => Or.inr h, Nat.le_refl _, Nat.le_refl _, Nat.zero_le _, Nat.zero_le _⟩ ?_ s.heap [] ls hP hD hS hl
  intro pc lv v w' hd hv hw H locs ls hP hD hS hl
  subst hv; subst hw
  exact W.zret (v := v) B.exec B.bytes B.returns hn (fun t ht hW => ⟨⟨v, (), rfl, rfl, by rw [ht]; exact hP, va_K.moved hW.alike hK, hD⟩, hS.F ht⟩) hS.2.2 hd
theorem kw_ofV {y : MethodName} {b : ByteArray} {L : Nat} {fr lo : Nat} {tys : List (ClassId × FieldType)} {av : List Value} {w w2 : va_W} (own : String) (hy : plainName y.cls = true) (ho : y.cls = own) (hlen : (lg_sl av).length ≤ L) {lv : List (Nat × Value)} (hlv : lv_args 0 av = lv)
    (body : ∀ g : kw_C, kw_O g b own tys L fr lo → (∀ (pc : Nat) (lv : List (Nat × Value)) (w' : va_W), decode b pc = .ok (.return_, 1) → w' = w2 → kw_W g pc lv [] w') → kw_W g 0 lv [] w) : kw_V y b L fr lo tys av w w2 := by
  intro l D sz
  refine Met.ofW (cc := b) (maxL := L) (ret := none) hy rfl ?_
  intro p e s m args below meth c s₁ B hml hv
  obtain ⟨rfl, hsz, hP, hK, hD0⟩ := hv
  have hts := atoms_spec (ws := ws_ y b L none) B.pre
  have hts : ∀ w ∈ lw_all, w.before _ s = true := fun w h => hts w (List.mem_cons_of_mem _ h)
  have hown : s.vm.findClass own = some m.cls := by rw [← ho]; exact findClass_of_methodNamed B.named
  have hlocks := B.notSynchronized
  subst hsz
  subst hlv
  have hD := hD0.self (sz := s.heap.size)
  have hS : va_S (va_A w s.heap.size) s.heap s.heap [] := va_S.rf
  have hl := lv_entry av (n := L) hlen
  rw [lg_entry_eq]
  generalize (lg_sl av ++ List.replicate (L - (lg_sl av).length) Slot.unset).toArray = ls at hl ⊢
  refine body (p, l, e, (headSpec (ws_ y b L none) ({ frames := fr, cells := 0, slots := 0, locals := lo })).room, s, m, av.toArray, below, meth, c, D, va_A w s.heap.size, L, 0, 0, _) ⟨rfl, ⟨B.exec, B.bytes, hml, hown, hts⟩, hK, fun q h => Or.inr h, Nat.le_refl _, Nat.le_refl _, Nat.zero_le _, Nat.zero_le _⟩ ?_ s.heap [] ls hP hD hS hl
  intro pc lv w' hd hw H locs ls hP hD hS hl
  subst hw
  exact W.vret B.exec B.bytes B.returns (fun t ht hW => ⟨⟨(), rfl, trivial, by rw [ht]; exact hP, va_K.moved hW.alike hK, hD⟩, hS.F ht⟩) hS.2.2 hd
/-- the callee's cells w stand among ws; what comes back, w2, stands among ws2, the rest of ws beside it unchanged -/
def kw_J (w w2 ws ws2 : va_W) : Prop := (∀ q ∈ w, q ∈ ws) ∧ (∀ A : Nat → Prop, va_D A ws → va_D A w) ∧ ∀ (D : va_G) (A : Nat → Prop) (H H1 : Heap), va_P D vwCl ws H → va_D A ws → (∀ q : Nat, q < H.size → ¬ va_A w H.size q → H1[q]? = H[q]?) → (∀ q, va_A w H.size q → A q) → va_P D vwCl w2 H1 → va_D (va_A w H.size) w2 → va_P D vwCl ws2 H1 ∧ va_D A ws2
theorem kw_J.self {w w2 : va_W} : kw_J w w2 w w2 := ⟨fun _ h => h, fun _ h => h, fun D A H H1 hP hD hk hF hP1 hD1 => ⟨hP1, hD1.weaken (fun _ q _ h => hF _ h)⟩⟩
theorem kw_mem {w : va_W} {q : Nat × va_E} (h : q ∈ w) : ∃ k : Nat, w[k]? = some q := List.getElem?_of_mem h
theorem kw_Pmem {D : va_G} {w : va_W} {H : Heap} : va_P D vwCl w H ↔ ∀ q ∈ w, va_at D vwCl q H := by
  constructor
  · intro h q hq
    obtain ⟨k, hk⟩ := List.getElem?_of_mem hq
    exact h k q hk
  · intro h k q hk
    exact h q (List.mem_of_getElem? hk)
/-- two lists of cells beside each other are apart, part by part -/
theorem kw_Dsplit {A : Nat → Prop} {a b : va_W} (h : va_D A (a ++ b)) : va_D A a ∧ va_D A b ∧ ∀ p ∈ a, ∀ q ∈ b, p.1 ≠ q.1 := by
  have ha : ∀ (i : Nat) (p : Nat × va_E), a[i]? = some p → (a ++ b)[i]? = some p := by
    intro i p hi
    have := (List.getElem?_eq_some_iff.mp hi).1
    rw [List.getElem?_append_left this]; exact hi
  have hb : ∀ (i : Nat) (p : Nat × va_E), b[i]? = some p → (a ++ b)[a.length + i]? = some p := by
    intro i p hi
    rw [List.getElem?_append_right (Nat.le_add_right _ _), Nat.add_sub_cancel_left]; exact hi
  refine ⟨⟨fun i j p q hi hj e => h.1 i j p q (ha i p hi) (ha j q hj) e, fun k q hk => h.2 k q (ha k q hk)⟩, ⟨fun i j p q hi hj e => ?_, fun k q hk => h.2 _ q (hb k q hk)⟩, ?_⟩
  · have := h.1 _ _ p q (hb i p hi) (hb j q hj) e
    omega
  · intro p hp q hq e
    obtain ⟨i, hi⟩ := List.getElem?_of_mem hp
    obtain ⟨j, hj⟩ := List.getElem?_of_mem hq
    have := h.1 _ _ p q (ha i p hi) (hb j q hj) e
    have := (List.getElem?_eq_some_iff.mp hi).1
    omega
theorem kw_Dback {A B : Nat → Prop} {a b : va_W} (ha : va_D A a) (hb : va_D B b) (hB : ∀ q, B q → A q) (hx : ∀ p ∈ a, ∀ q ∈ b, p.1 ≠ q.1) : va_D A (a ++ b) := va_D.app ha (hb.weaken (fun _ q _ h => hB _ h)) (fun i j p q hi hj => hx p (List.mem_of_getElem? hi) q (List.mem_of_getElem? hj))
theorem kw_notin {A : Nat → Prop} {D : va_G} {w wr : va_W} {H : Heap} (hP : va_P D vwCl wr H) (hx : ∀ p ∈ w, ∀ q ∈ wr, p.1 ≠ q.1) : ∀ q ∈ wr, q.1 < H.size ∧ ¬ va_A w H.size q.1 := by
  intro q hq
  have hlt : q.1 < H.size := (kw_Pmem.mp hP q hq).lt
  refine ⟨hlt, ?_⟩
  rintro (⟨k, e, hk⟩ | h)
  · exact hx _ (List.mem_of_getElem? hk) q hq rfl
  · omega
theorem kw_J.left {w w2 wr : va_W} : kw_J w w2 (w ++ wr) (w2 ++ wr) := by
  refine ⟨fun q h => List.mem_append_left _ h, fun A h => (kw_Dsplit h).1, fun D A H H1 hP hD hk hF hP1 hD1 => ?_⟩
  obtain ⟨d1, d2, d3⟩ := kw_Dsplit hD
  have hPr : va_P D vwCl wr H := kw_Pmem.mpr (fun q hq => kw_Pmem.mp hP q (List.mem_append_right _ hq))
  have hni := kw_notin (A := A) hPr d3
  refine ⟨kw_Pmem.mpr (fun q hq => ?_), ?_⟩
  · rcases List.mem_append.mp hq with h | h
    · exact kw_Pmem.mp hP1 q h
    · exact (kw_Pmem.mp hPr q h).kept (hk _ (hni q h).1 (hni q h).2)
  · refine va_D.app (hD1.weaken (fun _ q _ h => hF _ h)) d2 (fun i j p q hi hj e => ?_)
    have h1 := hD1.2 i p hi
    have h2 := hni q (List.mem_of_getElem? hj)
    rw [← e] at h2
    exact h2.2 h1
theorem kw_J.right {w w2 wl : va_W} : kw_J w w2 (wl ++ w) (wl ++ w2) := by
  refine ⟨fun q h => List.mem_append_right _ h, fun A h => (kw_Dsplit h).2.1, fun D A H H1 hP hD hk hF hP1 hD1 => ?_⟩
  obtain ⟨d1, d2, d3⟩ := kw_Dsplit hD
  have hPr : va_P D vwCl wl H := kw_Pmem.mpr (fun q hq => kw_Pmem.mp hP q (List.mem_append_left _ hq))
  have hni := kw_notin (A := A) (w := w) hPr (fun p hp q hq e => d3 q hq p hp e.symm)
  refine ⟨kw_Pmem.mpr (fun q hq => ?_), ?_⟩
  · rcases List.mem_append.mp hq with h | h
    · exact (kw_Pmem.mp hPr q h).kept (hk _ (hni q h).1 (hni q h).2)
    · exact kw_Pmem.mp hP1 q h
  · refine va_D.app d1 (hD1.weaken (fun _ q _ h => hF _ h)) (fun i j p q hi hj e => ?_)
    have h1 := hD1.2 j q hj
    have h2 := hni p (List.mem_of_getElem? hi)
    rw [e] at h2
    exact h2.2 h1
theorem kw_calli {g : kw_C} {cc : ByteArray} {own : String} {tys : List (ClassId × FieldType)} {nl fr lo : Nat} (hg : kw_O g cc own tys nl fr lo) {pc : Nat} {lv : List (Nat × Value)} {st : List Value} {w : va_W} {y : MethodName} {b : ByteArray} {L : Nat} {ty : FieldType} {fr' lo' : Nat} {tys' : List (ClassId × FieldType)} {h : Nat} {As : List Value} {w0 w2 ws2 : va_W} {r : Int32} (hM : kw_I y b L ty fr' lo' tys' (.ref h :: As) w0 w2 r) (hJ : kw_J w0 w2 w ws2) (hT : ∀ (D : va_G) (U : State), va_K D vwCl tys U → va_K D vwCl tys' U) {idx n : Nat} {C : String} (hG : GoodIn lw_all (wsV own idx C y (ws_ y b L (some ty)))) (hdy : y.cls = C ∧ y.cls ≠ "java/lang/invoke/MethodHandle" ∧ y.cls ≠ "java/lang/invoke/VarHandle" ∧ (parseMethodDescriptor y.desc).map (fun d => d.parameters.length) = some n) (hnA : As.length = n) (hR : fr' + 1 ≤ fr ∧ 8 + (L + 11) + lo' ≤ lo) {ci : Nat} {T : u_T} {N : Nat} {fs : List Value} (hc : vwCl[ci]? = some (C, T, N)) (he : w0[0]? = some (h, .inr (ci, fs))) {st0 : List Value} (hs0 : st0 = As.reverse ++ .ref h :: st) (hst : (st.map fun v => v.category).sum ≤ 8) (hd : decode cc pc = .ok (.invokevirtual idx, 3)) (kk : kw_W g (pc + 3) lv (.int r :: st) ws2) : kw_W g pc lv st0 w := by
  obtain ⟨p, l, e, R, s, m, args, below, meth, c, D, A, nL, cells, slots, Q⟩ := g
  obtain ⟨rfl, ⟨hx, hb, hml, hown, hts⟩, hK, hA, hfr, hlo, hce, hsl⟩ := hg
  intro H locs ls hP hD hS hl
  have hP0 : va_P D vwCl w0 H := kw_Pmem.mpr (fun q hq => kw_Pmem.mp hP q (hJ.1 q hq))
  have hF : ∀ q, va_A w0 H.size q → A q := by
    rintro q (⟨k, e0, hk⟩ | hq)
    · obtain ⟨i, hi⟩ := List.getElem?_of_mem (hJ.1 _ (List.mem_of_getElem? hk))
      exact hD.2 i _ hi
    · exact hA q (Nat.le_trans hS.1 hq)
  have hD0 : va_D (fun _ => True) w0 := (hJ.2.1 A hD).weaken (fun _ _ _ _ => trivial)
  have hK0 := hT D s hK
  subst hs0
  refine va_calli (va_runV (As := As) (rest := st) ⟨hx, hb, hml, hown, hts⟩ (hM l D H.size) (cwV n hts hG rfl rfl rfl hdy ⟨Nat.le_trans hR.1 hfr, Nat.le_trans hR.2 hlo⟩) ⟨fun a U g mk q => by obtain ⟨q0, q1, qP, qK, qD⟩ := q; exact ⟨q0, q1, qP, va_K.moved (u := U) (U := U.calling g mk a) (Vm.Alike.refl U.vm) qK, qD⟩, va_recv hK0 hP0 (ci := ci) (q0 := 0) hc he, fun U hU hW => ⟨rfl, by rw [hU], by rw [hU]; exact hP0, va_K.moved hW.alike hK0, hD0⟩⟩ rfl hnA hl.1 rfl (lv_room hst) hd ⟨hce, hsl⟩) hS (fun q _ h => hF q h) hF (fun r1 u t H1 locs ht hvm hw1 hB hz1 hk1 hS => ?_)
  obtain ⟨hP1, hK1, hD1⟩ := hB
  rw [ht] at hP1
  subst hw1
  obtain ⟨hP2, hD2⟩ := hJ.2.2 D A H H1 hP hD hk1 hF hP1 hD1
  exact kk H1 locs ls hP2 hD2 hS hl
theorem kw_callv {g : kw_C} {cc : ByteArray} {own : String} {tys : List (ClassId × FieldType)} {nl fr lo : Nat} (hg : kw_O g cc own tys nl fr lo) {pc : Nat} {lv : List (Nat × Value)} {st : List Value} {w : va_W} {y : MethodName} {b : ByteArray} {L : Nat} {fr' lo' : Nat} {tys' : List (ClassId × FieldType)} {h : Nat} {As : List Value} {w0 w2 ws2 : va_W} (hM : kw_V y b L fr' lo' tys' (.ref h :: As) w0 w2) (hJ : kw_J w0 w2 w ws2) (hT : ∀ (D : va_G) (U : State), va_K D vwCl tys U → va_K D vwCl tys' U) {idx n : Nat} {C : String} (hG : GoodIn lw_all (wsV own idx C y (ws_ y b L none))) (hdy : y.cls = C ∧ y.cls ≠ "java/lang/invoke/MethodHandle" ∧ y.cls ≠ "java/lang/invoke/VarHandle" ∧ (parseMethodDescriptor y.desc).map (fun d => d.parameters.length) = some n) (hnA : As.length = n) (hR : fr' + 1 ≤ fr ∧ 8 + (L + 11) + lo' ≤ lo) {ci : Nat} {T : u_T} {N : Nat} {fs : List Value} (hc : vwCl[ci]? = some (C, T, N)) (he : w0[0]? = some (h, .inr (ci, fs))) {st0 : List Value} (hs0 : st0 = As.reverse ++ .ref h :: st) (hst : (st.map fun v => v.category).sum ≤ 8) (hd : decode cc pc = .ok (.invokevirtual idx, 3)) (kk : kw_W g (pc + 3) lv st ws2) : kw_W g pc lv st0 w := by
  obtain ⟨p, l, e, R, s, m, args, below, meth, c, D, A, nL, cells, slots, Q⟩ := g
  obtain ⟨rfl, ⟨hx, hb, hml, hown, hts⟩, hK, hA, hfr, hlo, hce, hsl⟩ := hg
  intro H locs ls hP hD hS hl
  have hP0 : va_P D vwCl w0 H := kw_Pmem.mpr (fun q hq => kw_Pmem.mp hP q (hJ.1 q hq))
  have hF : ∀ q, va_A w0 H.size q → A q := by
    rintro q (⟨k, e0, hk⟩ | hq)
    · obtain ⟨i, hi⟩ := List.getElem?_of_mem (hJ.1 _ (List.mem_of_getElem? hk))
      exact hD.2 i _ hi
    · exact hA q (Nat.le_trans hS.1 hq)
  have hD0 : va_D (fun _ => True) w0 := (hJ.2.1 A hD).weaken (fun _ _ _ _ => trivial)
  have hK0 := hT D s hK
  subst hs0
  refine va_callv (va_runV (As := As) (rest := st) ⟨hx, hb, hml, hown, hts⟩ (hM l D H.size) (cwV n hts hG rfl rfl rfl hdy ⟨Nat.le_trans hR.1 hfr, Nat.le_trans hR.2 hlo⟩) ⟨fun a U g mk q => by obtain ⟨q0, q1, qP, qK, qD⟩ := q; exact ⟨q0, q1, qP, va_K.moved (u := U) (U := U.calling g mk a) (Vm.Alike.refl U.vm) qK, qD⟩, va_recv hK0 hP0 (ci := ci) (q0 := 0) hc he, fun U hU hW => ⟨rfl, by rw [hU], by rw [hU]; exact hP0, va_K.moved hW.alike hK0, hD0⟩⟩ rfl hnA hl.1 rfl (lv_room hst) hd ⟨hce, hsl⟩) hS (fun q _ h => hF q h) hF (fun u t H1 locs ht hvm hw1 hB hz1 hk1 hS => ?_)
  obtain ⟨hP1, hK1, hD1⟩ := hB
  rw [ht] at hP1
  clear hw1
  obtain ⟨hP2, hD2⟩ := hJ.2.2 D A H H1 hP hD hk1 hF hP1 hD1
  exact kk H1 locs ls hP2 hD2 hS hl
end
section
/-! THE TWO WORLDS. h: the object; ad: its arrays; dc: their classes; u 0 .. u 6: step types, bounds, kinds, repeats, event types, values, times; n, w, c: steps, window, count. X: fi first, r runs, y ways, o most. M: y ways, b before. -/
def wX (h : Nat) (ad : Nat → Nat) (dc : Nat → ClassId) (u : Nat → Nat → Int32) (n w c fi : Int32) (r y o : Nat → Int32) : va_W := [(h, .inr (0, [.int n, .ref (ad 0), .ref (ad 1), .ref (ad 2), .ref (ad 3), .int w, .int c, .ref (ad 4), .ref (ad 5), .ref (ad 6), .int fi, .ref (ad 7), .ref (ad 8), .ref (ad 9)])), (ad 0, .inl (dc 0, 4, .inl (u 0))), (ad 1, .inl (dc 1, 4, .inl (u 1))), (ad 2, .inl (dc 2, 4, .inl (u 2))), (ad 3, .inl (dc 3, 4, .inl (u 3))), (ad 4, .inl (dc 4, 10, .inl (u 4))), (ad 5, .inl (dc 5, 10, .inl (u 5))), (ad 6, .inl (dc 6, 10, .inl (u 6))), (ad 7, .inl (dc 7, 40, .inl r)), (ad 8, .inl (dc 8, 40, .inl y)), (ad 9, .inl (dc 9, 40, .inl o))]
def wM (h : Nat) (ad : Nat → Nat) (dc : Nat → ClassId) (u : Nat → Nat → Int32) (n w c : Int32) (y b : Nat → Int32) : va_W := [(h, .inr (1, [.ref (ad 4), .ref (ad 5), .ref (ad 6), .int c, .ref (ad 0), .ref (ad 1), .ref (ad 2), .ref (ad 3), .int n, .int w, .ref (ad 7), .ref (ad 8)])), (ad 0, .inl (dc 0, 4, .inl (u 0))), (ad 1, .inl (dc 1, 4, .inl (u 1))), (ad 2, .inl (dc 2, 4, .inl (u 2))), (ad 3, .inl (dc 3, 4, .inl (u 3))), (ad 4, .inl (dc 4, 10, .inl (u 4))), (ad 5, .inl (dc 5, 10, .inl (u 5))), (ad 6, .inl (dc 6, 10, .inl (u 6))), (ad 7, .inl (dc 7, 4, .inl y)), (ad 8, .inl (dc 8, 4, .inl b))]
def tX (dc : Nat → ClassId) : List (ClassId × FieldType) := [(dc 0, .int), (dc 1, .int), (dc 2, .int), (dc 3, .boolean), (dc 4, .int), (dc 5, .int), (dc 6, .int), (dc 7, .int), (dc 8, .int), (dc 9, .int)]
def tM (dc : Nat → ClassId) : List (ClassId × FieldType) := [(dc 0, .int), (dc 1, .int), (dc 2, .int), (dc 3, .boolean), (dc 4, .int), (dc 5, .int), (dc 6, .int), (dc 7, .int), (dc 8, .int)]
theorem gX_steps {g : kw_C} {cc : ByteArray} {nl fr lo pc : Nat} {lv : List (Nat × Value)} {st : List Value} {h : Nat} {ad : Nat → Nat} {dc : Nat → ClassId} {u : Nat → Nat → Int32} {n w c fi : Int32} {r y o : Nat → Int32} (hg : kw_O g cc RX0 (tX dc) nl fr lo) (hd : decode cc pc = .ok (.getfield 41, 3)) (kk : kw_W g (pc + 3) lv (.int n :: st) (wX h ad dc u n w c fi r y o)) : kw_W g pc lv (.ref h :: st) (wX h ad dc u n w c fi r y o) := kw_get hg 0 in_X0 rfl 0 rfl 0 (by decide) q28 rfl hd kk
theorem pX_steps {g : kw_C} {cc : ByteArray} {nl fr lo pc : Nat} {lv : List (Nat × Value)} {st : List Value} {h : Nat} {ad : Nat → Nat} {dc : Nat → ClassId} {u : Nat → Nat → Int32} {n w c fi : Int32} {r y o : Nat → Int32} (hg : kw_O g cc RX0 (tX dc) nl fr lo) {x : Int32} (hd : decode cc pc = .ok (.putfield 41, 3)) (kk : kw_W g (pc + 3) lv st (wX h ad dc u x w c fi r y o)) : kw_W g pc lv (.int x :: .ref h :: st) (wX h ad dc u n w c fi r y o) := kw_put (fs := [.int n, .ref (ad 0), .ref (ad 1), .ref (ad 2), .ref (ad 3), .int w, .int c, .ref (ad 4), .ref (ad 5), .ref (ad 6), .int fi, .ref (ad 7), .ref (ad 8), .ref (ad 9)]) hg 0 in_X0 tyX0 tyX0_ok nmX0 rfl 0 rfl 0 (by decide) q28 rfl (by decide +kernel) (Nat.le_of_ble_eq_true rfl) hd kk
theorem gX_stepType {g : kw_C} {cc : ByteArray} {nl fr lo pc : Nat} {lv : List (Nat × Value)} {st : List Value} {h : Nat} {ad : Nat → Nat} {dc : Nat → ClassId} {u : Nat → Nat → Int32} {n w c fi : Int32} {r y o : Nat → Int32} (hg : kw_O g cc RX0 (tX dc) nl fr lo) (hd : decode cc pc = .ok (.getfield 7, 3)) (kk : kw_W g (pc + 3) lv (.ref (ad 0) :: st) (wX h ad dc u n w c fi r y o)) : kw_W g pc lv (.ref h :: st) (wX h ad dc u n w c fi r y o) := kw_get hg 0 in_X0 rfl 0 rfl 1 (by decide) q29 rfl hd kk
theorem gX_stepBound {g : kw_C} {cc : ByteArray} {nl fr lo pc : Nat} {lv : List (Nat × Value)} {st : List Value} {h : Nat} {ad : Nat → Nat} {dc : Nat → ClassId} {u : Nat → Nat → Int32} {n w c fi : Int32} {r y o : Nat → Int32} (hg : kw_O g cc RX0 (tX dc) nl fr lo) (hd : decode cc pc = .ok (.getfield 13, 3)) (kk : kw_W g (pc + 3) lv (.ref (ad 1) :: st) (wX h ad dc u n w c fi r y o)) : kw_W g pc lv (.ref h :: st) (wX h ad dc u n w c fi r y o) := kw_get hg 0 in_X0 rfl 0 rfl 2 (by decide) q30 rfl hd kk
theorem gX_stepKind {g : kw_C} {cc : ByteArray} {nl fr lo pc : Nat} {lv : List (Nat × Value)} {st : List Value} {h : Nat} {ad : Nat → Nat} {dc : Nat → ClassId} {u : Nat → Nat → Int32} {n w c fi : Int32} {r y o : Nat → Int32} (hg : kw_O g cc RX0 (tX dc) nl fr lo) (hd : decode cc pc = .ok (.getfield 16, 3)) (kk : kw_W g (pc + 3) lv (.ref (ad 2) :: st) (wX h ad dc u n w c fi r y o)) : kw_W g pc lv (.ref h :: st) (wX h ad dc u n w c fi r y o) := kw_get hg 0 in_X0 rfl 0 rfl 3 (by decide) q31 rfl hd kk
theorem gX_repeats {g : kw_C} {cc : ByteArray} {nl fr lo pc : Nat} {lv : List (Nat × Value)} {st : List Value} {h : Nat} {ad : Nat → Nat} {dc : Nat → ClassId} {u : Nat → Nat → Int32} {n w c fi : Int32} {r y o : Nat → Int32} (hg : kw_O g cc RX0 (tX dc) nl fr lo) (hd : decode cc pc = .ok (.getfield 19, 3)) (kk : kw_W g (pc + 3) lv (.ref (ad 3) :: st) (wX h ad dc u n w c fi r y o)) : kw_W g pc lv (.ref h :: st) (wX h ad dc u n w c fi r y o) := kw_get hg 0 in_X0 rfl 0 rfl 4 (by decide) q32 rfl hd kk
theorem gX_window {g : kw_C} {cc : ByteArray} {nl fr lo pc : Nat} {lv : List (Nat × Value)} {st : List Value} {h : Nat} {ad : Nat → Nat} {dc : Nat → ClassId} {u : Nat → Nat → Int32} {n w c fi : Int32} {r y o : Nat → Int32} (hg : kw_O g cc RX0 (tX dc) nl fr lo) (hd : decode cc pc = .ok (.getfield 45, 3)) (kk : kw_W g (pc + 3) lv (.int w :: st) (wX h ad dc u n w c fi r y o)) : kw_W g pc lv (.ref h :: st) (wX h ad dc u n w c fi r y o) := kw_get hg 0 in_X0 rfl 0 rfl 5 (by decide) q33 rfl hd kk
theorem pX_window {g : kw_C} {cc : ByteArray} {nl fr lo pc : Nat} {lv : List (Nat × Value)} {st : List Value} {h : Nat} {ad : Nat → Nat} {dc : Nat → ClassId} {u : Nat → Nat → Int32} {n w c fi : Int32} {r y o : Nat → Int32} (hg : kw_O g cc RX0 (tX dc) nl fr lo) {x : Int32} (hd : decode cc pc = .ok (.putfield 45, 3)) (kk : kw_W g (pc + 3) lv st (wX h ad dc u n x c fi r y o)) : kw_W g pc lv (.int x :: .ref h :: st) (wX h ad dc u n w c fi r y o) := kw_put (fs := [.int n, .ref (ad 0), .ref (ad 1), .ref (ad 2), .ref (ad 3), .int w, .int c, .ref (ad 4), .ref (ad 5), .ref (ad 6), .int fi, .ref (ad 7), .ref (ad 8), .ref (ad 9)]) hg 0 in_X0 tyX0 tyX0_ok nmX0 rfl 0 rfl 5 (by decide) q33 rfl (by decide +kernel) (Nat.le_of_ble_eq_true rfl) hd kk
theorem gX_count {g : kw_C} {cc : ByteArray} {nl fr lo pc : Nat} {lv : List (Nat × Value)} {st : List Value} {h : Nat} {ad : Nat → Nat} {dc : Nat → ClassId} {u : Nat → Nat → Int32} {n w c fi : Int32} {r y o : Nat → Int32} (hg : kw_O g cc RX0 (tX dc) nl fr lo) (hd : decode cc pc = .ok (.getfield 48, 3)) (kk : kw_W g (pc + 3) lv (.int c :: st) (wX h ad dc u n w c fi r y o)) : kw_W g pc lv (.ref h :: st) (wX h ad dc u n w c fi r y o) := kw_get hg 0 in_X0 rfl 0 rfl 6 (by decide) q34 rfl hd kk
theorem pX_count {g : kw_C} {cc : ByteArray} {nl fr lo pc : Nat} {lv : List (Nat × Value)} {st : List Value} {h : Nat} {ad : Nat → Nat} {dc : Nat → ClassId} {u : Nat → Nat → Int32} {n w c fi : Int32} {r y o : Nat → Int32} (hg : kw_O g cc RX0 (tX dc) nl fr lo) {x : Int32} (hd : decode cc pc = .ok (.putfield 48, 3)) (kk : kw_W g (pc + 3) lv st (wX h ad dc u n w x fi r y o)) : kw_W g pc lv (.int x :: .ref h :: st) (wX h ad dc u n w c fi r y o) := kw_put (fs := [.int n, .ref (ad 0), .ref (ad 1), .ref (ad 2), .ref (ad 3), .int w, .int c, .ref (ad 4), .ref (ad 5), .ref (ad 6), .int fi, .ref (ad 7), .ref (ad 8), .ref (ad 9)]) hg 0 in_X0 tyX0 tyX0_ok nmX0 rfl 0 rfl 6 (by decide) q34 rfl (by decide +kernel) (Nat.le_of_ble_eq_true rfl) hd kk
theorem gX_type {g : kw_C} {cc : ByteArray} {nl fr lo pc : Nat} {lv : List (Nat × Value)} {st : List Value} {h : Nat} {ad : Nat → Nat} {dc : Nat → ClassId} {u : Nat → Nat → Int32} {n w c fi : Int32} {r y o : Nat → Int32} (hg : kw_O g cc RX0 (tX dc) nl fr lo) (hd : decode cc pc = .ok (.getfield 23, 3)) (kk : kw_W g (pc + 3) lv (.ref (ad 4) :: st) (wX h ad dc u n w c fi r y o)) : kw_W g pc lv (.ref h :: st) (wX h ad dc u n w c fi r y o) := kw_get hg 0 in_X0 rfl 0 rfl 7 (by decide) q35 rfl hd kk
theorem gX_value {g : kw_C} {cc : ByteArray} {nl fr lo pc : Nat} {lv : List (Nat × Value)} {st : List Value} {h : Nat} {ad : Nat → Nat} {dc : Nat → ClassId} {u : Nat → Nat → Int32} {n w c fi : Int32} {r y o : Nat → Int32} (hg : kw_O g cc RX0 (tX dc) nl fr lo) (hd : decode cc pc = .ok (.getfield 26, 3)) (kk : kw_W g (pc + 3) lv (.ref (ad 5) :: st) (wX h ad dc u n w c fi r y o)) : kw_W g pc lv (.ref h :: st) (wX h ad dc u n w c fi r y o) := kw_get hg 0 in_X0 rfl 0 rfl 8 (by decide) q36 rfl hd kk
theorem gX_time {g : kw_C} {cc : ByteArray} {nl fr lo pc : Nat} {lv : List (Nat × Value)} {st : List Value} {h : Nat} {ad : Nat → Nat} {dc : Nat → ClassId} {u : Nat → Nat → Int32} {n w c fi : Int32} {r y o : Nat → Int32} (hg : kw_O g cc RX0 (tX dc) nl fr lo) (hd : decode cc pc = .ok (.getfield 29, 3)) (kk : kw_W g (pc + 3) lv (.ref (ad 6) :: st) (wX h ad dc u n w c fi r y o)) : kw_W g pc lv (.ref h :: st) (wX h ad dc u n w c fi r y o) := kw_get hg 0 in_X0 rfl 0 rfl 9 (by decide) q37 rfl hd kk
theorem gX_first {g : kw_C} {cc : ByteArray} {nl fr lo pc : Nat} {lv : List (Nat × Value)} {st : List Value} {h : Nat} {ad : Nat → Nat} {dc : Nat → ClassId} {u : Nat → Nat → Int32} {n w c fi : Int32} {r y o : Nat → Int32} (hg : kw_O g cc RX0 (tX dc) nl fr lo) (hd : decode cc pc = .ok (.getfield 55, 3)) (kk : kw_W g (pc + 3) lv (.int fi :: st) (wX h ad dc u n w c fi r y o)) : kw_W g pc lv (.ref h :: st) (wX h ad dc u n w c fi r y o) := kw_get hg 0 in_X0 rfl 0 rfl 10 (by decide) q38 rfl hd kk
theorem pX_first {g : kw_C} {cc : ByteArray} {nl fr lo pc : Nat} {lv : List (Nat × Value)} {st : List Value} {h : Nat} {ad : Nat → Nat} {dc : Nat → ClassId} {u : Nat → Nat → Int32} {n w c fi : Int32} {r y o : Nat → Int32} (hg : kw_O g cc RX0 (tX dc) nl fr lo) {x : Int32} (hd : decode cc pc = .ok (.putfield 55, 3)) (kk : kw_W g (pc + 3) lv st (wX h ad dc u n w c x r y o)) : kw_W g pc lv (.int x :: .ref h :: st) (wX h ad dc u n w c fi r y o) := kw_put (fs := [.int n, .ref (ad 0), .ref (ad 1), .ref (ad 2), .ref (ad 3), .int w, .int c, .ref (ad 4), .ref (ad 5), .ref (ad 6), .int fi, .ref (ad 7), .ref (ad 8), .ref (ad 9)]) hg 0 in_X0 tyX0 tyX0_ok nmX0 rfl 0 rfl 10 (by decide) q38 rfl (by decide +kernel) (Nat.le_of_ble_eq_true rfl) hd kk
theorem gX_runs {g : kw_C} {cc : ByteArray} {nl fr lo pc : Nat} {lv : List (Nat × Value)} {st : List Value} {h : Nat} {ad : Nat → Nat} {dc : Nat → ClassId} {u : Nat → Nat → Int32} {n w c fi : Int32} {r y o : Nat → Int32} (hg : kw_O g cc RX0 (tX dc) nl fr lo) (hd : decode cc pc = .ok (.getfield 32, 3)) (kk : kw_W g (pc + 3) lv (.ref (ad 7) :: st) (wX h ad dc u n w c fi r y o)) : kw_W g pc lv (.ref h :: st) (wX h ad dc u n w c fi r y o) := kw_get hg 0 in_X0 rfl 0 rfl 11 (by decide) q39 rfl hd kk
theorem gX_ways {g : kw_C} {cc : ByteArray} {nl fr lo pc : Nat} {lv : List (Nat × Value)} {st : List Value} {h : Nat} {ad : Nat → Nat} {dc : Nat → ClassId} {u : Nat → Nat → Int32} {n w c fi : Int32} {r y o : Nat → Int32} (hg : kw_O g cc RX0 (tX dc) nl fr lo) (hd : decode cc pc = .ok (.getfield 35, 3)) (kk : kw_W g (pc + 3) lv (.ref (ad 8) :: st) (wX h ad dc u n w c fi r y o)) : kw_W g pc lv (.ref h :: st) (wX h ad dc u n w c fi r y o) := kw_get hg 0 in_X0 rfl 0 rfl 12 (by decide) q40 rfl hd kk
theorem gX_most {g : kw_C} {cc : ByteArray} {nl fr lo pc : Nat} {lv : List (Nat × Value)} {st : List Value} {h : Nat} {ad : Nat → Nat} {dc : Nat → ClassId} {u : Nat → Nat → Int32} {n w c fi : Int32} {r y o : Nat → Int32} (hg : kw_O g cc RX0 (tX dc) nl fr lo) (hd : decode cc pc = .ok (.getfield 38, 3)) (kk : kw_W g (pc + 3) lv (.ref (ad 9) :: st) (wX h ad dc u n w c fi r y o)) : kw_W g pc lv (.ref h :: st) (wX h ad dc u n w c fi r y o) := kw_get hg 0 in_X0 rfl 0 rfl 13 (by decide) q41 rfl hd kk
theorem aX_0 {g : kw_C} {cc : ByteArray} {nl fr lo pc : Nat} {lv : List (Nat × Value)} {st : List Value} {h : Nat} {ad : Nat → Nat} {dc : Nat → ClassId} {u : Nat → Nat → Int32} {n w c fi : Int32} {r y o : Nat → Int32} (hg : kw_O g cc RX0 (tX dc) nl fr lo) (j : Nat) (hj : j < 4) (hd : decode cc pc = .ok (.iaload, 1)) (kk : kw_W g (pc + 1) lv (.int (u 0 j) :: st) (wX h ad dc u n w c fi r y o)) : kw_W g pc lv (.int (nI j) :: .ref (ad 0) :: st) (wX h ad dc u n w c fi r y o) := kw_iald hg 1 0 j rfl rfl (by decide) hj hd kk
theorem sX_0 {g : kw_C} {cc : ByteArray} {nl fr lo pc : Nat} {lv : List (Nat × Value)} {st : List Value} {h : Nat} {ad : Nat → Nat} {dc : Nat → ClassId} {u : Nat → Nat → Int32} {n w c fi : Int32} {r y o : Nat → Int32} (hg : kw_O g cc RX0 (tX dc) nl fr lo) (j : Nat) {x : Int32} (hj : j < 4) (hd : decode cc pc = .ok (.iastore, 1)) (kk : kw_W g (pc + 1) lv st (wX h ad dc (va_up u 0 (upd (u 0) j x)) n w c fi r y o)) : kw_W g pc lv (.int x :: .int (nI j) :: .ref (ad 0) :: st) (wX h ad dc u n w c fi r y o) := kw_iast hg 1 0 j rfl rfl (by decide) hj hd kk
theorem aX_1 {g : kw_C} {cc : ByteArray} {nl fr lo pc : Nat} {lv : List (Nat × Value)} {st : List Value} {h : Nat} {ad : Nat → Nat} {dc : Nat → ClassId} {u : Nat → Nat → Int32} {n w c fi : Int32} {r y o : Nat → Int32} (hg : kw_O g cc RX0 (tX dc) nl fr lo) (j : Nat) (hj : j < 4) (hd : decode cc pc = .ok (.iaload, 1)) (kk : kw_W g (pc + 1) lv (.int (u 1 j) :: st) (wX h ad dc u n w c fi r y o)) : kw_W g pc lv (.int (nI j) :: .ref (ad 1) :: st) (wX h ad dc u n w c fi r y o) := kw_iald hg 2 1 j rfl rfl (by decide) hj hd kk
theorem sX_1 {g : kw_C} {cc : ByteArray} {nl fr lo pc : Nat} {lv : List (Nat × Value)} {st : List Value} {h : Nat} {ad : Nat → Nat} {dc : Nat → ClassId} {u : Nat → Nat → Int32} {n w c fi : Int32} {r y o : Nat → Int32} (hg : kw_O g cc RX0 (tX dc) nl fr lo) (j : Nat) {x : Int32} (hj : j < 4) (hd : decode cc pc = .ok (.iastore, 1)) (kk : kw_W g (pc + 1) lv st (wX h ad dc (va_up u 1 (upd (u 1) j x)) n w c fi r y o)) : kw_W g pc lv (.int x :: .int (nI j) :: .ref (ad 1) :: st) (wX h ad dc u n w c fi r y o) := kw_iast hg 2 1 j rfl rfl (by decide) hj hd kk
theorem aX_2 {g : kw_C} {cc : ByteArray} {nl fr lo pc : Nat} {lv : List (Nat × Value)} {st : List Value} {h : Nat} {ad : Nat → Nat} {dc : Nat → ClassId} {u : Nat → Nat → Int32} {n w c fi : Int32} {r y o : Nat → Int32} (hg : kw_O g cc RX0 (tX dc) nl fr lo) (j : Nat) (hj : j < 4) (hd : decode cc pc = .ok (.iaload, 1)) (kk : kw_W g (pc + 1) lv (.int (u 2 j) :: st) (wX h ad dc u n w c fi r y o)) : kw_W g pc lv (.int (nI j) :: .ref (ad 2) :: st) (wX h ad dc u n w c fi r y o) := kw_iald hg 3 2 j rfl rfl (by decide) hj hd kk
theorem sX_2 {g : kw_C} {cc : ByteArray} {nl fr lo pc : Nat} {lv : List (Nat × Value)} {st : List Value} {h : Nat} {ad : Nat → Nat} {dc : Nat → ClassId} {u : Nat → Nat → Int32} {n w c fi : Int32} {r y o : Nat → Int32} (hg : kw_O g cc RX0 (tX dc) nl fr lo) (j : Nat) {x : Int32} (hj : j < 4) (hd : decode cc pc = .ok (.iastore, 1)) (kk : kw_W g (pc + 1) lv st (wX h ad dc (va_up u 2 (upd (u 2) j x)) n w c fi r y o)) : kw_W g pc lv (.int x :: .int (nI j) :: .ref (ad 2) :: st) (wX h ad dc u n w c fi r y o) := kw_iast hg 3 2 j rfl rfl (by decide) hj hd kk
theorem aX_3 {g : kw_C} {cc : ByteArray} {nl fr lo pc : Nat} {lv : List (Nat × Value)} {st : List Value} {h : Nat} {ad : Nat → Nat} {dc : Nat → ClassId} {u : Nat → Nat → Int32} {n w c fi : Int32} {r y o : Nat → Int32} (hg : kw_O g cc RX0 (tX dc) nl fr lo) (j : Nat) (hj : j < 4) (hd : decode cc pc = .ok (.baload, 1)) (kk : kw_W g (pc + 1) lv (.int (u 3 j) :: st) (wX h ad dc u n w c fi r y o)) : kw_W g pc lv (.int (nI j) :: .ref (ad 3) :: st) (wX h ad dc u n w c fi r y o) := kw_zald hg 4 3 j rfl rfl (by decide) hj hd kk
theorem sX_3 {g : kw_C} {cc : ByteArray} {nl fr lo pc : Nat} {lv : List (Nat × Value)} {st : List Value} {h : Nat} {ad : Nat → Nat} {dc : Nat → ClassId} {u : Nat → Nat → Int32} {n w c fi : Int32} {r y o : Nat → Int32} (hg : kw_O g cc RX0 (tX dc) nl fr lo) (j : Nat) {x : Int32} (hj : j < 4) (hx1 : vp_nar .boolean x = x) (hd : decode cc pc = .ok (.bastore, 1)) (kk : kw_W g (pc + 1) lv st (wX h ad dc (va_up u 3 (upd (u 3) j x)) n w c fi r y o)) : kw_W g pc lv (.int x :: .int (nI j) :: .ref (ad 3) :: st) (wX h ad dc u n w c fi r y o) := kw_zast hg 4 3 j rfl rfl (by decide) hj hx1 hd kk
theorem aX_4 {g : kw_C} {cc : ByteArray} {nl fr lo pc : Nat} {lv : List (Nat × Value)} {st : List Value} {h : Nat} {ad : Nat → Nat} {dc : Nat → ClassId} {u : Nat → Nat → Int32} {n w c fi : Int32} {r y o : Nat → Int32} (hg : kw_O g cc RX0 (tX dc) nl fr lo) (j : Nat) (hj : j < 10) (hd : decode cc pc = .ok (.iaload, 1)) (kk : kw_W g (pc + 1) lv (.int (u 4 j) :: st) (wX h ad dc u n w c fi r y o)) : kw_W g pc lv (.int (nI j) :: .ref (ad 4) :: st) (wX h ad dc u n w c fi r y o) := kw_iald hg 5 4 j rfl rfl (by decide) hj hd kk
theorem sX_4 {g : kw_C} {cc : ByteArray} {nl fr lo pc : Nat} {lv : List (Nat × Value)} {st : List Value} {h : Nat} {ad : Nat → Nat} {dc : Nat → ClassId} {u : Nat → Nat → Int32} {n w c fi : Int32} {r y o : Nat → Int32} (hg : kw_O g cc RX0 (tX dc) nl fr lo) (j : Nat) {x : Int32} (hj : j < 10) (hd : decode cc pc = .ok (.iastore, 1)) (kk : kw_W g (pc + 1) lv st (wX h ad dc (va_up u 4 (upd (u 4) j x)) n w c fi r y o)) : kw_W g pc lv (.int x :: .int (nI j) :: .ref (ad 4) :: st) (wX h ad dc u n w c fi r y o) := kw_iast hg 5 4 j rfl rfl (by decide) hj hd kk
theorem aX_5 {g : kw_C} {cc : ByteArray} {nl fr lo pc : Nat} {lv : List (Nat × Value)} {st : List Value} {h : Nat} {ad : Nat → Nat} {dc : Nat → ClassId} {u : Nat → Nat → Int32} {n w c fi : Int32} {r y o : Nat → Int32} (hg : kw_O g cc RX0 (tX dc) nl fr lo) (j : Nat) (hj : j < 10) (hd : decode cc pc = .ok (.iaload, 1)) (kk : kw_W g (pc + 1) lv (.int (u 5 j) :: st) (wX h ad dc u n w c fi r y o)) : kw_W g pc lv (.int (nI j) :: .ref (ad 5) :: st) (wX h ad dc u n w c fi r y o) := kw_iald hg 6 5 j rfl rfl (by decide) hj hd kk
theorem sX_5 {g : kw_C} {cc : ByteArray} {nl fr lo pc : Nat} {lv : List (Nat × Value)} {st : List Value} {h : Nat} {ad : Nat → Nat} {dc : Nat → ClassId} {u : Nat → Nat → Int32} {n w c fi : Int32} {r y o : Nat → Int32} (hg : kw_O g cc RX0 (tX dc) nl fr lo) (j : Nat) {x : Int32} (hj : j < 10) (hd : decode cc pc = .ok (.iastore, 1)) (kk : kw_W g (pc + 1) lv st (wX h ad dc (va_up u 5 (upd (u 5) j x)) n w c fi r y o)) : kw_W g pc lv (.int x :: .int (nI j) :: .ref (ad 5) :: st) (wX h ad dc u n w c fi r y o) := kw_iast hg 6 5 j rfl rfl (by decide) hj hd kk
theorem aX_6 {g : kw_C} {cc : ByteArray} {nl fr lo pc : Nat} {lv : List (Nat × Value)} {st : List Value} {h : Nat} {ad : Nat → Nat} {dc : Nat → ClassId} {u : Nat → Nat → Int32} {n w c fi : Int32} {r y o : Nat → Int32} (hg : kw_O g cc RX0 (tX dc) nl fr lo) (j : Nat) (hj : j < 10) (hd : decode cc pc = .ok (.iaload, 1)) (kk : kw_W g (pc + 1) lv (.int (u 6 j) :: st) (wX h ad dc u n w c fi r y o)) : kw_W g pc lv (.int (nI j) :: .ref (ad 6) :: st) (wX h ad dc u n w c fi r y o) := kw_iald hg 7 6 j rfl rfl (by decide) hj hd kk
theorem sX_6 {g : kw_C} {cc : ByteArray} {nl fr lo pc : Nat} {lv : List (Nat × Value)} {st : List Value} {h : Nat} {ad : Nat → Nat} {dc : Nat → ClassId} {u : Nat → Nat → Int32} {n w c fi : Int32} {r y o : Nat → Int32} (hg : kw_O g cc RX0 (tX dc) nl fr lo) (j : Nat) {x : Int32} (hj : j < 10) (hd : decode cc pc = .ok (.iastore, 1)) (kk : kw_W g (pc + 1) lv st (wX h ad dc (va_up u 6 (upd (u 6) j x)) n w c fi r y o)) : kw_W g pc lv (.int x :: .int (nI j) :: .ref (ad 6) :: st) (wX h ad dc u n w c fi r y o) := kw_iast hg 7 6 j rfl rfl (by decide) hj hd kk
theorem aX_7 {g : kw_C} {cc : ByteArray} {nl fr lo pc : Nat} {lv : List (Nat × Value)} {st : List Value} {h : Nat} {ad : Nat → Nat} {dc : Nat → ClassId} {u : Nat → Nat → Int32} {n w c fi : Int32} {r y o : Nat → Int32} (hg : kw_O g cc RX0 (tX dc) nl fr lo) (j : Nat) (hj : j < 40) (hd : decode cc pc = .ok (.iaload, 1)) (kk : kw_W g (pc + 1) lv (.int (r j) :: st) (wX h ad dc u n w c fi r y o)) : kw_W g pc lv (.int (nI j) :: .ref (ad 7) :: st) (wX h ad dc u n w c fi r y o) := kw_iald hg 8 7 j rfl rfl (by decide) hj hd kk
theorem sX_7 {g : kw_C} {cc : ByteArray} {nl fr lo pc : Nat} {lv : List (Nat × Value)} {st : List Value} {h : Nat} {ad : Nat → Nat} {dc : Nat → ClassId} {u : Nat → Nat → Int32} {n w c fi : Int32} {r y o : Nat → Int32} (hg : kw_O g cc RX0 (tX dc) nl fr lo) (j : Nat) {x : Int32} (hj : j < 40) (hd : decode cc pc = .ok (.iastore, 1)) (kk : kw_W g (pc + 1) lv st (wX h ad dc u n w c fi (upd r j x) y o)) : kw_W g pc lv (.int x :: .int (nI j) :: .ref (ad 7) :: st) (wX h ad dc u n w c fi r y o) := kw_iast hg 8 7 j rfl rfl (by decide) hj hd kk
theorem aX_8 {g : kw_C} {cc : ByteArray} {nl fr lo pc : Nat} {lv : List (Nat × Value)} {st : List Value} {h : Nat} {ad : Nat → Nat} {dc : Nat → ClassId} {u : Nat → Nat → Int32} {n w c fi : Int32} {r y o : Nat → Int32} (hg : kw_O g cc RX0 (tX dc) nl fr lo) (j : Nat) (hj : j < 40) (hd : decode cc pc = .ok (.iaload, 1)) (kk : kw_W g (pc + 1) lv (.int (y j) :: st) (wX h ad dc u n w c fi r y o)) : kw_W g pc lv (.int (nI j) :: .ref (ad 8) :: st) (wX h ad dc u n w c fi r y o) := kw_iald hg 9 8 j rfl rfl (by decide) hj hd kk
theorem sX_8 {g : kw_C} {cc : ByteArray} {nl fr lo pc : Nat} {lv : List (Nat × Value)} {st : List Value} {h : Nat} {ad : Nat → Nat} {dc : Nat → ClassId} {u : Nat → Nat → Int32} {n w c fi : Int32} {r y o : Nat → Int32} (hg : kw_O g cc RX0 (tX dc) nl fr lo) (j : Nat) {x : Int32} (hj : j < 40) (hd : decode cc pc = .ok (.iastore, 1)) (kk : kw_W g (pc + 1) lv st (wX h ad dc u n w c fi r (upd y j x) o)) : kw_W g pc lv (.int x :: .int (nI j) :: .ref (ad 8) :: st) (wX h ad dc u n w c fi r y o) := kw_iast hg 9 8 j rfl rfl (by decide) hj hd kk
theorem aX_9 {g : kw_C} {cc : ByteArray} {nl fr lo pc : Nat} {lv : List (Nat × Value)} {st : List Value} {h : Nat} {ad : Nat → Nat} {dc : Nat → ClassId} {u : Nat → Nat → Int32} {n w c fi : Int32} {r y o : Nat → Int32} (hg : kw_O g cc RX0 (tX dc) nl fr lo) (j : Nat) (hj : j < 40) (hd : decode cc pc = .ok (.iaload, 1)) (kk : kw_W g (pc + 1) lv (.int (o j) :: st) (wX h ad dc u n w c fi r y o)) : kw_W g pc lv (.int (nI j) :: .ref (ad 9) :: st) (wX h ad dc u n w c fi r y o) := kw_iald hg 10 9 j rfl rfl (by decide) hj hd kk
theorem sX_9 {g : kw_C} {cc : ByteArray} {nl fr lo pc : Nat} {lv : List (Nat × Value)} {st : List Value} {h : Nat} {ad : Nat → Nat} {dc : Nat → ClassId} {u : Nat → Nat → Int32} {n w c fi : Int32} {r y o : Nat → Int32} (hg : kw_O g cc RX0 (tX dc) nl fr lo) (j : Nat) {x : Int32} (hj : j < 40) (hd : decode cc pc = .ok (.iastore, 1)) (kk : kw_W g (pc + 1) lv st (wX h ad dc u n w c fi r y (upd o j x))) : kw_W g pc lv (.int x :: .int (nI j) :: .ref (ad 9) :: st) (wX h ad dc u n w c fi r y o) := kw_iast hg 10 9 j rfl rfl (by decide) hj hd kk
theorem gM_types {g : kw_C} {cc : ByteArray} {nl fr lo pc : Nat} {lv : List (Nat × Value)} {st : List Value} {h : Nat} {ad : Nat → Nat} {dc : Nat → ClassId} {u : Nat → Nat → Int32} {n w c : Int32} {y b : Nat → Int32} (hg : kw_O g cc RX1 (tM dc) nl fr lo) (hd : decode cc pc = .ok (.getfield 7, 3)) (kk : kw_W g (pc + 3) lv (.ref (ad 4) :: st) (wM h ad dc u n w c y b)) : kw_W g pc lv (.ref h :: st) (wM h ad dc u n w c y b) := kw_get hg 1 in_X1 rfl 0 rfl 0 (by decide) q179 rfl hd kk
theorem gM_values {g : kw_C} {cc : ByteArray} {nl fr lo pc : Nat} {lv : List (Nat × Value)} {st : List Value} {h : Nat} {ad : Nat → Nat} {dc : Nat → ClassId} {u : Nat → Nat → Int32} {n w c : Int32} {y b : Nat → Int32} (hg : kw_O g cc RX1 (tM dc) nl fr lo) (hd : decode cc pc = .ok (.getfield 13, 3)) (kk : kw_W g (pc + 3) lv (.ref (ad 5) :: st) (wM h ad dc u n w c y b)) : kw_W g pc lv (.ref h :: st) (wM h ad dc u n w c y b) := kw_get hg 1 in_X1 rfl 0 rfl 1 (by decide) q180 rfl hd kk
theorem gM_times {g : kw_C} {cc : ByteArray} {nl fr lo pc : Nat} {lv : List (Nat × Value)} {st : List Value} {h : Nat} {ad : Nat → Nat} {dc : Nat → ClassId} {u : Nat → Nat → Int32} {n w c : Int32} {y b : Nat → Int32} (hg : kw_O g cc RX1 (tM dc) nl fr lo) (hd : decode cc pc = .ok (.getfield 16, 3)) (kk : kw_W g (pc + 3) lv (.ref (ad 6) :: st) (wM h ad dc u n w c y b)) : kw_W g pc lv (.ref h :: st) (wM h ad dc u n w c y b) := kw_get hg 1 in_X1 rfl 0 rfl 2 (by decide) q181 rfl hd kk
theorem gM_count {g : kw_C} {cc : ByteArray} {nl fr lo pc : Nat} {lv : List (Nat × Value)} {st : List Value} {h : Nat} {ad : Nat → Nat} {dc : Nat → ClassId} {u : Nat → Nat → Int32} {n w c : Int32} {y b : Nat → Int32} (hg : kw_O g cc RX1 (tM dc) nl fr lo) (hd : decode cc pc = .ok (.getfield 45, 3)) (kk : kw_W g (pc + 3) lv (.int c :: st) (wM h ad dc u n w c y b)) : kw_W g pc lv (.ref h :: st) (wM h ad dc u n w c y b) := kw_get hg 1 in_X1 rfl 0 rfl 3 (by decide) q182 rfl hd kk
theorem pM_count {g : kw_C} {cc : ByteArray} {nl fr lo pc : Nat} {lv : List (Nat × Value)} {st : List Value} {h : Nat} {ad : Nat → Nat} {dc : Nat → ClassId} {u : Nat → Nat → Int32} {n w c : Int32} {y b : Nat → Int32} (hg : kw_O g cc RX1 (tM dc) nl fr lo) {x : Int32} (hd : decode cc pc = .ok (.putfield 45, 3)) (kk : kw_W g (pc + 3) lv st (wM h ad dc u n w x y b)) : kw_W g pc lv (.int x :: .ref h :: st) (wM h ad dc u n w c y b) := kw_put (fs := [.ref (ad 4), .ref (ad 5), .ref (ad 6), .int c, .ref (ad 0), .ref (ad 1), .ref (ad 2), .ref (ad 3), .int n, .int w, .ref (ad 7), .ref (ad 8)]) hg 1 in_X1 tyX1 tyX1_ok nmX1 rfl 0 rfl 3 (by decide) q182 rfl (by decide +kernel) (Nat.le_of_ble_eq_true rfl) hd kk
theorem gM_stepTypes {g : kw_C} {cc : ByteArray} {nl fr lo pc : Nat} {lv : List (Nat × Value)} {st : List Value} {h : Nat} {ad : Nat → Nat} {dc : Nat → ClassId} {u : Nat → Nat → Int32} {n w c : Int32} {y b : Nat → Int32} (hg : kw_O g cc RX1 (tM dc) nl fr lo) (hd : decode cc pc = .ok (.getfield 19, 3)) (kk : kw_W g (pc + 3) lv (.ref (ad 0) :: st) (wM h ad dc u n w c y b)) : kw_W g pc lv (.ref h :: st) (wM h ad dc u n w c y b) := kw_get hg 1 in_X1 rfl 0 rfl 4 (by decide) q183 rfl hd kk
theorem gM_bounds {g : kw_C} {cc : ByteArray} {nl fr lo pc : Nat} {lv : List (Nat × Value)} {st : List Value} {h : Nat} {ad : Nat → Nat} {dc : Nat → ClassId} {u : Nat → Nat → Int32} {n w c : Int32} {y b : Nat → Int32} (hg : kw_O g cc RX1 (tM dc) nl fr lo) (hd : decode cc pc = .ok (.getfield 22, 3)) (kk : kw_W g (pc + 3) lv (.ref (ad 1) :: st) (wM h ad dc u n w c y b)) : kw_W g pc lv (.ref h :: st) (wM h ad dc u n w c y b) := kw_get hg 1 in_X1 rfl 0 rfl 5 (by decide) q184 rfl hd kk
theorem gM_kinds {g : kw_C} {cc : ByteArray} {nl fr lo pc : Nat} {lv : List (Nat × Value)} {st : List Value} {h : Nat} {ad : Nat → Nat} {dc : Nat → ClassId} {u : Nat → Nat → Int32} {n w c : Int32} {y b : Nat → Int32} (hg : kw_O g cc RX1 (tM dc) nl fr lo) (hd : decode cc pc = .ok (.getfield 25, 3)) (kk : kw_W g (pc + 3) lv (.ref (ad 2) :: st) (wM h ad dc u n w c y b)) : kw_W g pc lv (.ref h :: st) (wM h ad dc u n w c y b) := kw_get hg 1 in_X1 rfl 0 rfl 6 (by decide) q185 rfl hd kk
theorem gM_repeats {g : kw_C} {cc : ByteArray} {nl fr lo pc : Nat} {lv : List (Nat × Value)} {st : List Value} {h : Nat} {ad : Nat → Nat} {dc : Nat → ClassId} {u : Nat → Nat → Int32} {n w c : Int32} {y b : Nat → Int32} (hg : kw_O g cc RX1 (tM dc) nl fr lo) (hd : decode cc pc = .ok (.getfield 28, 3)) (kk : kw_W g (pc + 3) lv (.ref (ad 3) :: st) (wM h ad dc u n w c y b)) : kw_W g pc lv (.ref h :: st) (wM h ad dc u n w c y b) := kw_get hg 1 in_X1 rfl 0 rfl 7 (by decide) q186 rfl hd kk
theorem gM_steps {g : kw_C} {cc : ByteArray} {nl fr lo pc : Nat} {lv : List (Nat × Value)} {st : List Value} {h : Nat} {ad : Nat → Nat} {dc : Nat → ClassId} {u : Nat → Nat → Int32} {n w c : Int32} {y b : Nat → Int32} (hg : kw_O g cc RX1 (tM dc) nl fr lo) (hd : decode cc pc = .ok (.getfield 38, 3)) (kk : kw_W g (pc + 3) lv (.int n :: st) (wM h ad dc u n w c y b)) : kw_W g pc lv (.ref h :: st) (wM h ad dc u n w c y b) := kw_get hg 1 in_X1 rfl 0 rfl 8 (by decide) q187 rfl hd kk
theorem pM_steps {g : kw_C} {cc : ByteArray} {nl fr lo pc : Nat} {lv : List (Nat × Value)} {st : List Value} {h : Nat} {ad : Nat → Nat} {dc : Nat → ClassId} {u : Nat → Nat → Int32} {n w c : Int32} {y b : Nat → Int32} (hg : kw_O g cc RX1 (tM dc) nl fr lo) {x : Int32} (hd : decode cc pc = .ok (.putfield 38, 3)) (kk : kw_W g (pc + 3) lv st (wM h ad dc u x w c y b)) : kw_W g pc lv (.int x :: .ref h :: st) (wM h ad dc u n w c y b) := kw_put (fs := [.ref (ad 4), .ref (ad 5), .ref (ad 6), .int c, .ref (ad 0), .ref (ad 1), .ref (ad 2), .ref (ad 3), .int n, .int w, .ref (ad 7), .ref (ad 8)]) hg 1 in_X1 tyX1 tyX1_ok nmX1 rfl 0 rfl 8 (by decide) q187 rfl (by decide +kernel) (Nat.le_of_ble_eq_true rfl) hd kk
theorem gM_window {g : kw_C} {cc : ByteArray} {nl fr lo pc : Nat} {lv : List (Nat × Value)} {st : List Value} {h : Nat} {ad : Nat → Nat} {dc : Nat → ClassId} {u : Nat → Nat → Int32} {n w c : Int32} {y b : Nat → Int32} (hg : kw_O g cc RX1 (tM dc) nl fr lo) (hd : decode cc pc = .ok (.getfield 42, 3)) (kk : kw_W g (pc + 3) lv (.int w :: st) (wM h ad dc u n w c y b)) : kw_W g pc lv (.ref h :: st) (wM h ad dc u n w c y b) := kw_get hg 1 in_X1 rfl 0 rfl 9 (by decide) q188 rfl hd kk
theorem pM_window {g : kw_C} {cc : ByteArray} {nl fr lo pc : Nat} {lv : List (Nat × Value)} {st : List Value} {h : Nat} {ad : Nat → Nat} {dc : Nat → ClassId} {u : Nat → Nat → Int32} {n w c : Int32} {y b : Nat → Int32} (hg : kw_O g cc RX1 (tM dc) nl fr lo) {x : Int32} (hd : decode cc pc = .ok (.putfield 42, 3)) (kk : kw_W g (pc + 3) lv st (wM h ad dc u n x c y b)) : kw_W g pc lv (.int x :: .ref h :: st) (wM h ad dc u n w c y b) := kw_put (fs := [.ref (ad 4), .ref (ad 5), .ref (ad 6), .int c, .ref (ad 0), .ref (ad 1), .ref (ad 2), .ref (ad 3), .int n, .int w, .ref (ad 7), .ref (ad 8)]) hg 1 in_X1 tyX1 tyX1_ok nmX1 rfl 0 rfl 9 (by decide) q188 rfl (by decide +kernel) (Nat.le_of_ble_eq_true rfl) hd kk
theorem gM_ways {g : kw_C} {cc : ByteArray} {nl fr lo pc : Nat} {lv : List (Nat × Value)} {st : List Value} {h : Nat} {ad : Nat → Nat} {dc : Nat → ClassId} {u : Nat → Nat → Int32} {n w c : Int32} {y b : Nat → Int32} (hg : kw_O g cc RX1 (tM dc) nl fr lo) (hd : decode cc pc = .ok (.getfield 32, 3)) (kk : kw_W g (pc + 3) lv (.ref (ad 7) :: st) (wM h ad dc u n w c y b)) : kw_W g pc lv (.ref h :: st) (wM h ad dc u n w c y b) := kw_get hg 1 in_X1 rfl 0 rfl 10 (by decide) q189 rfl hd kk
theorem gM_before {g : kw_C} {cc : ByteArray} {nl fr lo pc : Nat} {lv : List (Nat × Value)} {st : List Value} {h : Nat} {ad : Nat → Nat} {dc : Nat → ClassId} {u : Nat → Nat → Int32} {n w c : Int32} {y b : Nat → Int32} (hg : kw_O g cc RX1 (tM dc) nl fr lo) (hd : decode cc pc = .ok (.getfield 35, 3)) (kk : kw_W g (pc + 3) lv (.ref (ad 8) :: st) (wM h ad dc u n w c y b)) : kw_W g pc lv (.ref h :: st) (wM h ad dc u n w c y b) := kw_get hg 1 in_X1 rfl 0 rfl 11 (by decide) q190 rfl hd kk
theorem aM_0 {g : kw_C} {cc : ByteArray} {nl fr lo pc : Nat} {lv : List (Nat × Value)} {st : List Value} {h : Nat} {ad : Nat → Nat} {dc : Nat → ClassId} {u : Nat → Nat → Int32} {n w c : Int32} {y b : Nat → Int32} (hg : kw_O g cc RX1 (tM dc) nl fr lo) (j : Nat) (hj : j < 4) (hd : decode cc pc = .ok (.iaload, 1)) (kk : kw_W g (pc + 1) lv (.int (u 0 j) :: st) (wM h ad dc u n w c y b)) : kw_W g pc lv (.int (nI j) :: .ref (ad 0) :: st) (wM h ad dc u n w c y b) := kw_iald hg 1 0 j rfl rfl (by decide) hj hd kk
theorem sM_0 {g : kw_C} {cc : ByteArray} {nl fr lo pc : Nat} {lv : List (Nat × Value)} {st : List Value} {h : Nat} {ad : Nat → Nat} {dc : Nat → ClassId} {u : Nat → Nat → Int32} {n w c : Int32} {y b : Nat → Int32} (hg : kw_O g cc RX1 (tM dc) nl fr lo) (j : Nat) {x : Int32} (hj : j < 4) (hd : decode cc pc = .ok (.iastore, 1)) (kk : kw_W g (pc + 1) lv st (wM h ad dc (va_up u 0 (upd (u 0) j x)) n w c y b)) : kw_W g pc lv (.int x :: .int (nI j) :: .ref (ad 0) :: st) (wM h ad dc u n w c y b) := kw_iast hg 1 0 j rfl rfl (by decide) hj hd kk
theorem aM_1 {g : kw_C} {cc : ByteArray} {nl fr lo pc : Nat} {lv : List (Nat × Value)} {st : List Value} {h : Nat} {ad : Nat → Nat} {dc : Nat → ClassId} {u : Nat → Nat → Int32} {n w c : Int32} {y b : Nat → Int32} (hg : kw_O g cc RX1 (tM dc) nl fr lo) (j : Nat) (hj : j < 4) (hd : decode cc pc = .ok (.iaload, 1)) (kk : kw_W g (pc + 1) lv (.int (u 1 j) :: st) (wM h ad dc u n w c y b)) : kw_W g pc lv (.int (nI j) :: .ref (ad 1) :: st) (wM h ad dc u n w c y b) := kw_iald hg 2 1 j rfl rfl (by decide) hj hd kk
theorem sM_1 {g : kw_C} {cc : ByteArray} {nl fr lo pc : Nat} {lv : List (Nat × Value)} {st : List Value} {h : Nat} {ad : Nat → Nat} {dc : Nat → ClassId} {u : Nat → Nat → Int32} {n w c : Int32} {y b : Nat → Int32} (hg : kw_O g cc RX1 (tM dc) nl fr lo) (j : Nat) {x : Int32} (hj : j < 4) (hd : decode cc pc = .ok (.iastore, 1)) (kk : kw_W g (pc + 1) lv st (wM h ad dc (va_up u 1 (upd (u 1) j x)) n w c y b)) : kw_W g pc lv (.int x :: .int (nI j) :: .ref (ad 1) :: st) (wM h ad dc u n w c y b) := kw_iast hg 2 1 j rfl rfl (by decide) hj hd kk
theorem aM_2 {g : kw_C} {cc : ByteArray} {nl fr lo pc : Nat} {lv : List (Nat × Value)} {st : List Value} {h : Nat} {ad : Nat → Nat} {dc : Nat → ClassId} {u : Nat → Nat → Int32} {n w c : Int32} {y b : Nat → Int32} (hg : kw_O g cc RX1 (tM dc) nl fr lo) (j : Nat) (hj : j < 4) (hd : decode cc pc = .ok (.iaload, 1)) (kk : kw_W g (pc + 1) lv (.int (u 2 j) :: st) (wM h ad dc u n w c y b)) : kw_W g pc lv (.int (nI j) :: .ref (ad 2) :: st) (wM h ad dc u n w c y b) := kw_iald hg 3 2 j rfl rfl (by decide) hj hd kk
theorem sM_2 {g : kw_C} {cc : ByteArray} {nl fr lo pc : Nat} {lv : List (Nat × Value)} {st : List Value} {h : Nat} {ad : Nat → Nat} {dc : Nat → ClassId} {u : Nat → Nat → Int32} {n w c : Int32} {y b : Nat → Int32} (hg : kw_O g cc RX1 (tM dc) nl fr lo) (j : Nat) {x : Int32} (hj : j < 4) (hd : decode cc pc = .ok (.iastore, 1)) (kk : kw_W g (pc + 1) lv st (wM h ad dc (va_up u 2 (upd (u 2) j x)) n w c y b)) : kw_W g pc lv (.int x :: .int (nI j) :: .ref (ad 2) :: st) (wM h ad dc u n w c y b) := kw_iast hg 3 2 j rfl rfl (by decide) hj hd kk
theorem aM_3 {g : kw_C} {cc : ByteArray} {nl fr lo pc : Nat} {lv : List (Nat × Value)} {st : List Value} {h : Nat} {ad : Nat → Nat} {dc : Nat → ClassId} {u : Nat → Nat → Int32} {n w c : Int32} {y b : Nat → Int32} (hg : kw_O g cc RX1 (tM dc) nl fr lo) (j : Nat) (hj : j < 4) (hd : decode cc pc = .ok (.baload, 1)) (kk : kw_W g (pc + 1) lv (.int (u 3 j) :: st) (wM h ad dc u n w c y b)) : kw_W g pc lv (.int (nI j) :: .ref (ad 3) :: st) (wM h ad dc u n w c y b) := kw_zald hg 4 3 j rfl rfl (by decide) hj hd kk
theorem sM_3 {g : kw_C} {cc : ByteArray} {nl fr lo pc : Nat} {lv : List (Nat × Value)} {st : List Value} {h : Nat} {ad : Nat → Nat} {dc : Nat → ClassId} {u : Nat → Nat → Int32} {n w c : Int32} {y b : Nat → Int32} (hg : kw_O g cc RX1 (tM dc) nl fr lo) (j : Nat) {x : Int32} (hj : j < 4) (hx1 : vp_nar .boolean x = x) (hd : decode cc pc = .ok (.bastore, 1)) (kk : kw_W g (pc + 1) lv st (wM h ad dc (va_up u 3 (upd (u 3) j x)) n w c y b)) : kw_W g pc lv (.int x :: .int (nI j) :: .ref (ad 3) :: st) (wM h ad dc u n w c y b) := kw_zast hg 4 3 j rfl rfl (by decide) hj hx1 hd kk
theorem aM_4 {g : kw_C} {cc : ByteArray} {nl fr lo pc : Nat} {lv : List (Nat × Value)} {st : List Value} {h : Nat} {ad : Nat → Nat} {dc : Nat → ClassId} {u : Nat → Nat → Int32} {n w c : Int32} {y b : Nat → Int32} (hg : kw_O g cc RX1 (tM dc) nl fr lo) (j : Nat) (hj : j < 10) (hd : decode cc pc = .ok (.iaload, 1)) (kk : kw_W g (pc + 1) lv (.int (u 4 j) :: st) (wM h ad dc u n w c y b)) : kw_W g pc lv (.int (nI j) :: .ref (ad 4) :: st) (wM h ad dc u n w c y b) := kw_iald hg 5 4 j rfl rfl (by decide) hj hd kk
theorem sM_4 {g : kw_C} {cc : ByteArray} {nl fr lo pc : Nat} {lv : List (Nat × Value)} {st : List Value} {h : Nat} {ad : Nat → Nat} {dc : Nat → ClassId} {u : Nat → Nat → Int32} {n w c : Int32} {y b : Nat → Int32} (hg : kw_O g cc RX1 (tM dc) nl fr lo) (j : Nat) {x : Int32} (hj : j < 10) (hd : decode cc pc = .ok (.iastore, 1)) (kk : kw_W g (pc + 1) lv st (wM h ad dc (va_up u 4 (upd (u 4) j x)) n w c y b)) : kw_W g pc lv (.int x :: .int (nI j) :: .ref (ad 4) :: st) (wM h ad dc u n w c y b) := kw_iast hg 5 4 j rfl rfl (by decide) hj hd kk
theorem aM_5 {g : kw_C} {cc : ByteArray} {nl fr lo pc : Nat} {lv : List (Nat × Value)} {st : List Value} {h : Nat} {ad : Nat → Nat} {dc : Nat → ClassId} {u : Nat → Nat → Int32} {n w c : Int32} {y b : Nat → Int32} (hg : kw_O g cc RX1 (tM dc) nl fr lo) (j : Nat) (hj : j < 10) (hd : decode cc pc = .ok (.iaload, 1)) (kk : kw_W g (pc + 1) lv (.int (u 5 j) :: st) (wM h ad dc u n w c y b)) : kw_W g pc lv (.int (nI j) :: .ref (ad 5) :: st) (wM h ad dc u n w c y b) := kw_iald hg 6 5 j rfl rfl (by decide) hj hd kk
theorem sM_5 {g : kw_C} {cc : ByteArray} {nl fr lo pc : Nat} {lv : List (Nat × Value)} {st : List Value} {h : Nat} {ad : Nat → Nat} {dc : Nat → ClassId} {u : Nat → Nat → Int32} {n w c : Int32} {y b : Nat → Int32} (hg : kw_O g cc RX1 (tM dc) nl fr lo) (j : Nat) {x : Int32} (hj : j < 10) (hd : decode cc pc = .ok (.iastore, 1)) (kk : kw_W g (pc + 1) lv st (wM h ad dc (va_up u 5 (upd (u 5) j x)) n w c y b)) : kw_W g pc lv (.int x :: .int (nI j) :: .ref (ad 5) :: st) (wM h ad dc u n w c y b) := kw_iast hg 6 5 j rfl rfl (by decide) hj hd kk
theorem aM_6 {g : kw_C} {cc : ByteArray} {nl fr lo pc : Nat} {lv : List (Nat × Value)} {st : List Value} {h : Nat} {ad : Nat → Nat} {dc : Nat → ClassId} {u : Nat → Nat → Int32} {n w c : Int32} {y b : Nat → Int32} (hg : kw_O g cc RX1 (tM dc) nl fr lo) (j : Nat) (hj : j < 10) (hd : decode cc pc = .ok (.iaload, 1)) (kk : kw_W g (pc + 1) lv (.int (u 6 j) :: st) (wM h ad dc u n w c y b)) : kw_W g pc lv (.int (nI j) :: .ref (ad 6) :: st) (wM h ad dc u n w c y b) := kw_iald hg 7 6 j rfl rfl (by decide) hj hd kk
theorem sM_6 {g : kw_C} {cc : ByteArray} {nl fr lo pc : Nat} {lv : List (Nat × Value)} {st : List Value} {h : Nat} {ad : Nat → Nat} {dc : Nat → ClassId} {u : Nat → Nat → Int32} {n w c : Int32} {y b : Nat → Int32} (hg : kw_O g cc RX1 (tM dc) nl fr lo) (j : Nat) {x : Int32} (hj : j < 10) (hd : decode cc pc = .ok (.iastore, 1)) (kk : kw_W g (pc + 1) lv st (wM h ad dc (va_up u 6 (upd (u 6) j x)) n w c y b)) : kw_W g pc lv (.int x :: .int (nI j) :: .ref (ad 6) :: st) (wM h ad dc u n w c y b) := kw_iast hg 7 6 j rfl rfl (by decide) hj hd kk
theorem aM_7 {g : kw_C} {cc : ByteArray} {nl fr lo pc : Nat} {lv : List (Nat × Value)} {st : List Value} {h : Nat} {ad : Nat → Nat} {dc : Nat → ClassId} {u : Nat → Nat → Int32} {n w c : Int32} {y b : Nat → Int32} (hg : kw_O g cc RX1 (tM dc) nl fr lo) (j : Nat) (hj : j < 4) (hd : decode cc pc = .ok (.iaload, 1)) (kk : kw_W g (pc + 1) lv (.int (y j) :: st) (wM h ad dc u n w c y b)) : kw_W g pc lv (.int (nI j) :: .ref (ad 7) :: st) (wM h ad dc u n w c y b) := kw_iald hg 8 7 j rfl rfl (by decide) hj hd kk
theorem sM_7 {g : kw_C} {cc : ByteArray} {nl fr lo pc : Nat} {lv : List (Nat × Value)} {st : List Value} {h : Nat} {ad : Nat → Nat} {dc : Nat → ClassId} {u : Nat → Nat → Int32} {n w c : Int32} {y b : Nat → Int32} (hg : kw_O g cc RX1 (tM dc) nl fr lo) (j : Nat) {x : Int32} (hj : j < 4) (hd : decode cc pc = .ok (.iastore, 1)) (kk : kw_W g (pc + 1) lv st (wM h ad dc u n w c (upd y j x) b)) : kw_W g pc lv (.int x :: .int (nI j) :: .ref (ad 7) :: st) (wM h ad dc u n w c y b) := kw_iast hg 8 7 j rfl rfl (by decide) hj hd kk
theorem aM_8 {g : kw_C} {cc : ByteArray} {nl fr lo pc : Nat} {lv : List (Nat × Value)} {st : List Value} {h : Nat} {ad : Nat → Nat} {dc : Nat → ClassId} {u : Nat → Nat → Int32} {n w c : Int32} {y b : Nat → Int32} (hg : kw_O g cc RX1 (tM dc) nl fr lo) (j : Nat) (hj : j < 4) (hd : decode cc pc = .ok (.iaload, 1)) (kk : kw_W g (pc + 1) lv (.int (b j) :: st) (wM h ad dc u n w c y b)) : kw_W g pc lv (.int (nI j) :: .ref (ad 8) :: st) (wM h ad dc u n w c y b) := kw_iald hg 9 8 j rfl rfl (by decide) hj hd kk
theorem sM_8 {g : kw_C} {cc : ByteArray} {nl fr lo pc : Nat} {lv : List (Nat × Value)} {st : List Value} {h : Nat} {ad : Nat → Nat} {dc : Nat → ClassId} {u : Nat → Nat → Int32} {n w c : Int32} {y b : Nat → Int32} (hg : kw_O g cc RX1 (tM dc) nl fr lo) (j : Nat) {x : Int32} (hj : j < 4) (hd : decode cc pc = .ok (.iastore, 1)) (kk : kw_W g (pc + 1) lv st (wM h ad dc u n w c y (upd b j x))) : kw_W g pc lv (.int x :: .int (nI j) :: .ref (ad 8) :: st) (wM h ad dc u n w c y b) := kw_iast hg 9 8 j rfl rfl (by decide) hj hd kk
end
section
/-! WHAT THE METHODS COMPUTE, instruction for instruction, as plain functions. u, n, w, c as in wX and wM. -/
def bz (b : Bool) : Int32 := cond b 1 0
def pb : Option Nat → Int32
  | none => -1
  | some j => nI j
abbrev tyA : Type := Nat → Int32
abbrev tyQ : Type := (Nat → Int32) × (Nat → Int32)
abbrev tyZ : Type := Int32 × (Nat → Int32) × (Nat → Int32) × (Nat → Int32)
/-- X.meets: can event e be taken in step k behind b, the first event being f -/
def mtX (u : Nat → Nat → Int32) (f k : Nat) (b : Option Nat) (e : Nat) : Bool :=
  if ¬ u 0 k = 4 ∧ ¬ u 0 k = u 4 e then false
  else if u 2 k = 1 then (match b with | none => true | some j => decide (¬ u 5 e ≤ u 5 j))
  else if u 2 k = 2 then (match b with | none => true | some j => decide (¬ u 5 j ≤ u 5 e))
  else if u 2 k = 3 then decide (u 5 e = u 1 k)
  else if u 2 k = 4 then decide (u 5 e = u 5 f) else true
/-- M.meets -/
def mtM (u : Nat → Nat → Int32) (f k : Nat) (b : Option Nat) (e : Nat) : Bool :=
  if ¬ u 0 k = 4 ∧ ¬ u 4 e = u 0 k then false
  else if u 2 k = 1 then (match b with | none => true | some j => decide (¬ u 5 e ≤ u 5 j))
  else if u 2 k = 2 then (match b with | none => true | some j => decide (¬ u 5 j ≤ u 5 e))
  else if u 2 k = 3 then decide (u 5 e = u 1 k)
  else if u 2 k = 0 then true else decide (u 5 e = u 5 f)
def iwX (u : Nat → Nat → Int32) (w : Int32) (f e : Nat) : Bool := decide (¬ w < u 6 e - u 6 f)
/-- X.add -/
def xAdd (i : Nat) (v len : Int32) (q : tyQ) : tyQ := (upd q.1 i (q.1 i + v), upd q.2 i (if len ≤ q.2 i then q.2 i else len))
def xExt1 (u : Nat → Nat → Int32) (f k fr e : Nat) (q : tyQ) : tyQ := if ¬ u 3 k = 0 ∧ mtX u f k (some fr) e = true then xAdd (k * 10 + e) (q.1 (k * 10 + fr)) (q.2 (k * 10 + fr) + 1) q else q
def xExt2 (u : Nat → Nat → Int32) (n f k fr e : Nat) (q : tyQ) : tyQ := if k + 1 < n ∧ mtX u f (k + 1) (some fr) e = true then xAdd ((k + 1) * 10 + e) (q.1 (k * 10 + fr)) (q.2 (k * 10 + fr) + 1) q else q
/-- X.extend -/
def xExt (u : Nat → Nat → Int32) (n f k fr e : Nat) (q : tyQ) : tyQ := if q.1 (k * 10 + fr) = 0 then q else xExt2 u n f k fr e (xExt1 u f k fr e q)
/-- X.extendAll, d steps of it -/
def xExA (u : Nat → Nat → Int32) (n f fr e : Nat) (q : tyQ) : Nat → tyQ
  | 0 => q
  | d + 1 => xExt u n f d fr e (xExA u n f fr e q d)
/-- X.runFrom, its inner loop -/
def xFr (u : Nat → Nat → Int32) (n f e : Nat) (q : tyQ) : Nat → tyQ
  | 0 => q
  | d + 1 => xExA u n f (f + d) e (xFr u n f e q d) n
/-- X.runFrom, its outer loop -/
def xEv (u : Nat → Nat → Int32) (n : Nat) (w : Int32) (f : Nat) (q : tyQ) : Nat → tyQ
  | 0 => q
  | d + 1 => if iwX u w f (f + 1 + d) = true then xFr u n f (f + 1 + d) (xEv u n w f q d) (1 + d) else xEv u n w f q d
def xZ (r : tyA) (i : Nat) : tyA := fun j => if j < i then 0 else r j
def xR0 (u : Nat → Nat → Int32) (n f : Nat) (q : tyQ) : tyQ := if 0 < n ∧ mtX u f 0 none f = true then xAdd f 1 1 q else q
def xRun (u : Nat → Nat → Int32) (n : Nat) (w : Int32) (c f : Nat) (q : tyQ) : tyQ := xEv u n w f (xR0 u n f (xZ q.1 40, xZ q.2 40)) (c - (f + 1))
/-- X.waysOn -/
def xWo1 (u : Nat → Nat → Int32) (f k e x : Nat) (y : tyA) (s : Int32) : Int32 := if ¬ u 3 k = 0 ∧ mtX u f k (some e) x = true then s + y (k * 10 + x) else s
def xWo2 (u : Nat → Nat → Int32) (n f k e x : Nat) (y : tyA) (s : Int32) : Int32 := if k + 1 < n ∧ mtX u f (k + 1) (some e) x = true then s + y ((k + 1) * 10 + x) else s
def xWo (u : Nat → Nat → Int32) (n : Nat) (w : Int32) (f k e : Nat) (y : tyA) : Nat → Int32
  | 0 => if k + 1 = n then 1 else 0
  | d + 1 => if iwX u w f (e + 1 + d) = true then xWo2 u n f k e (e + 1 + d) y (xWo1 u f k e (e + 1 + d) y (xWo u n w f k e y d)) else xWo u n w f k e y d
/-- X.waysFrom: its inner loop (k from n - 1 down), its outer loop (e from c - 1 down) -/
def xWk (u : Nat → Nat → Int32) (n : Nat) (w : Int32) (c f e : Nat) (y : tyA) : Nat → tyA
  | 0 => y
  | d + 1 => upd (xWk u n w c f e y d) ((n - 1 - d) * 10 + e) (xWo u n w f (n - 1 - d) e (xWk u n w c f e y d) (c - (e + 1)))
def xWe (u : Nat → Nat → Int32) (n : Nat) (w : Int32) (c f : Nat) (y : tyA) : Nat → tyA
  | 0 => y
  | d + 1 => xWk u n w c f (c - 1 - d) (xWe u n w c f y d) n
/-- X.whole -/
def xWh (n : Nat) (r : tyA) (e : Nat) : Int32 := if n = 0 then 0 else r ((n - 1) * 10 + e)
/-- the scratch behind runFrom, behind waysFrom -/
def zRun (u : Nat → Nat → Int32) (n : Nat) (w : Int32) (c f : Nat) (z : tyZ) : tyZ := (nI f, (xRun u n w c f (z.2.1, z.2.2.2)).1, z.2.2.1, (xRun u n w c f (z.2.1, z.2.2.2)).2)
def zWay (u : Nat → Nat → Int32) (n : Nat) (w : Int32) (c f : Nat) (z : tyZ) : tyZ := (nI f, z.2.1, xWe u n w c f z.2.2.1 (c - f), z.2.2.2)
/-- X.endingAt: the scratch behind d runs, the sum -/
def zEnd (u : Nat → Nat → Int32) (n : Nat) (w : Int32) (c : Nat) (z : tyZ) : Nat → tyZ
  | 0 => z
  | d + 1 => zRun u n w c d (zEnd u n w c z d)
def sEnd (u : Nat → Nat → Int32) (n : Nat) (w : Int32) (c e : Nat) (z : tyZ) : Nat → Int32
  | 0 => 0
  | d + 1 => sEnd u n w c e z d + xWh n (zEnd u n w c z (d + 1)).2.1 e
/-- X.beginningAt: the sum over d events from e on -/
def sBeg (n : Nat) (r : tyA) (e : Nat) : Nat → Int32
  | 0 => 0
  | d + 1 => sBeg n r e d + xWh n r (e + d)
def xBeg (u : Nat → Nat → Int32) (n : Nat) (w : Int32) (c e : Nat) (z : tyZ) : Int32 := sBeg n (zRun u n w c e z).2.1 e (c - e)
/-- X.finds -/
def sFin (u : Nat → Nat → Int32) (n : Nat) (w : Int32) (c : Nat) (z : tyZ) : Nat → Int32
  | 0 => 0
  | d + 1 => sFin u n w c z d + xBeg u n w c d (zEnd u n w c z d)
/-- X.using -/
def zUse (u : Nat → Nat → Int32) (n : Nat) (w : Int32) (c : Nat) (z : tyZ) : Nat → tyZ
  | 0 => z
  | d + 1 => zWay u n w c d (zRun u n w c d (zUse u n w c z d))
def sUsk (r y : tyA) (e : Nat) (s : Int32) : Nat → Int32
  | 0 => s
  | k + 1 => sUsk r y e s k + r (k * 10 + e) * y (k * 10 + e)
def sUse (u : Nat → Nat → Int32) (n : Nat) (w : Int32) (c e : Nat) (z : tyZ) : Nat → Int32
  | 0 => 0
  | d + 1 => sUsk (zUse u n w c z (d + 1)).2.1 (zUse u n w c z (d + 1)).2.2.1 e (sUse u n w c e z d) n
/-- X.longest -/
def lgI (n : Nat) (r o : tyA) (f : Nat) (b : Int32) : Nat → Int32
  | 0 => b
  | d + 1 => if xWh n r (f + d) ≤ 0 then lgI n r o f b d else if o ((n - 1) * 10 + (f + d)) ≤ lgI n r o f b d then lgI n r o f b d else o ((n - 1) * 10 + (f + d))
def lgO (u : Nat → Nat → Int32) (n : Nat) (w : Int32) (c : Nat) (z : tyZ) : Nat → Int32
  | 0 => -4
  | d + 1 => lgI n (zEnd u n w c z (d + 1)).2.1 (zEnd u n w c z (d + 1)).2.2.2 d (lgO u n w c z d) (c - d)
/-- X.tightest -/
def tgI (u : Nat → Nat → Int32) (n : Nat) (r : tyA) (f : Nat) (b : Int32) : Nat → Int32
  | 0 => b
  | d + 1 => if xWh n r (f + d) ≤ 0 then tgI u n r f b d else if tgI u n r f b d < 0 then u 6 (f + d) - u 6 f else if tgI u n r f b d ≤ u 6 (f + d) - u 6 f then tgI u n r f b d else u 6 (f + d) - u 6 f
def tgO (u : Nat → Nat → Int32) (n : Nat) (w : Int32) (c : Nat) (z : tyZ) : Nat → Int32
  | 0 => -4
  | d + 1 => tgI u n (zEnd u n w c z (d + 1)).2.1 d (tgO u n w c z d) (c - d)
/-- X.lastValues: the scratch, the sum -/
def zLas (u : Nat → Nat → Int32) (n : Nat) (w : Int32) (c : Nat) (z : tyZ) : Nat → tyZ
  | 0 => z
  | d + 1 => zEnd u n w c (zLas u n w c z d) (d + 1)
def sLas (u : Nat → Nat → Int32) (n : Nat) (w : Int32) (c : Nat) (z : tyZ) : Nat → Int32
  | 0 => 0
  | d + 1 => sLas u n w c z d + sEnd u n w c d (zLas u n w c z d) (d + 1) * u 5 d
/-! M -/
def mbit (s e : Nat) : Nat := s / 2 ^ e % 2
/-- M.take: before, what is summed, ways -/
def mB (y b : tyA) : Nat → tyA
  | 0 => b
  | k + 1 => upd (mB y b k) k (y k)
def mS (u : Nat → Nat → Int32) (l : Option Nat) (b : tyA) (k : Nat) : Int32 := match l with
  | none => if k = 0 then 1 else 0
  | some _ => if k = 0 then (if u 3 k = 0 then 0 else b k) else (if u 3 k = 0 then 0 else b k) + b (k - 1)
def mY (u : Nat → Nat → Int32) (e : Nat) (l : Option Nat) (f : Nat) (b y : tyA) : Nat → tyA
  | 0 => y
  | k + 1 => upd (mY u e l f b y k) k (cond (mtM u f k l e) (mS u l b k) 0)
def mTk (u : Nat → Nat → Int32) (n e : Nat) (l : Option Nat) (f : Nat) (q : tyQ) : tyQ := (mY u e l f (mB q.1 q.2 n) q.1 n, mB q.1 q.2 n)
def mFi (s : Nat) : Nat → Nat
  | 0 => 9
  | d + 1 => if mbit s (9 - d) = 1 then 9 - d else mFi s d
def mLa (s : Nat) : Nat → Nat
  | 0 => 0
  | d + 1 => if mbit s d = 1 then d else mLa s d
def mSz (s : Nat) : Nat → Nat
  | 0 => 0
  | d + 1 => mSz s d + mbit s d
/-- M.findsOf: last, ways and before behind d events -/
def mFo (u : Nat → Nat → Int32) (n s : Nat) (q : tyQ) : Nat → Option Nat × tyQ
  | 0 => (none, q)
  | d + 1 => if mbit s d = 1 then (some d, mTk u n d (mFo u n s q d).1 (mFi s 10) (mFo u n s q d).2) else mFo u n s q d
def mFv (u : Nat → Nat → Int32) (n : Nat) (w : Int32) (c s : Nat) (q : tyQ) : Int32 := match (mFo u n s q c).1 with
  | none => 0
  | some l => if iwX u w (mFi s 10) l = true ∧ 0 < n then (mFo u n s q c).2.1 (n - 1) else 0
/-- the scratch behind findsOf of the sets 1 .. d that p names -/
def mQ (u : Nat → Nat → Int32) (n c : Nat) (p : Nat → Bool) (q : tyQ) : Nat → tyQ
  | 0 => q
  | d + 1 => cond (p (d + 1)) (mFo u n (d + 1) (mQ u n c p q d) c).2 (mQ u n c p q d)
/-- the sum over those sets -/
def mSum (u : Nat → Nat → Int32) (n : Nat) (w : Int32) (c : Nat) (p : Nat → Bool) (q : tyQ) : Nat → Int32
  | 0 => 0
  | d + 1 => cond (p (d + 1)) (mSum u n w c p q d + mFv u n w c (d + 1) (mQ u n c p q d)) (mSum u n w c p q d)
/-- M.lastValues -/
def mLas (u : Nat → Nat → Int32) (n : Nat) (w : Int32) (c : Nat) (q : tyQ) : Nat → Int32
  | 0 => 0
  | d + 1 => mLas u n w c q d + u 5 (mLa (d + 1) 10) * mFv u n w c (d + 1) (mQ u n c (fun _ => true) q d)
/-- M.longest, M.tightest: the best and the scratch -/
def mLg (u : Nat → Nat → Int32) (n : Nat) (w : Int32) (c : Nat) (q : tyQ) : Nat → Int32 × tyQ
  | 0 => (-4, q)
  | d + 1 => if nI (mSz (d + 1) 10) ≤ (mLg u n w c q d).1 then mLg u n w c q d else (if mFv u n w c (d + 1) (mLg u n w c q d).2 ≤ 0 then (mLg u n w c q d).1 else nI (mSz (d + 1) 10), (mFo u n (d + 1) (mLg u n w c q d).2 c).2)
def mTgt (u : Nat → Nat → Int32) (s : Nat) : Int32 := u 6 (mLa s 10) - u 6 (mFi s 10)
def mTg (u : Nat → Nat → Int32) (n : Nat) (w : Int32) (c : Nat) (q : tyQ) : Nat → Int32 × tyQ
  | 0 => (-4, q)
  | d + 1 => if ¬ (mTg u n w c q d).1 = -4 ∧ (mTg u n w c q d).1 ≤ mTgt u (d + 1) then mTg u n w c q d else (if mFv u n w c (d + 1) (mTg u n w c q d).2 ≤ 0 then (mTg u n w c q d).1 else mTgt u (d + 1), (mFo u n (d + 1) (mTg u n w c q d).2 c).2)
end
section
/-! the words that each call asks (lx_: inside its class; ll_: from the law), and what a program decides of a method's name (ly_) -/
set_option maxRecDepth 100000
def RL0 : String := "SequencePatternsLaw"
theorem ly_X0_begin : yX0_begin.cls = RX0 ∧ yX0_begin.cls ≠ "java/lang/invoke/MethodHandle" ∧ yX0_begin.cls ≠ "java/lang/invoke/VarHandle" ∧ (parseMethodDescriptor yX0_begin.desc).map (fun d => d.parameters.length) = some 0 := by decide +kernel
theorem ll_X0_begin : GoodIn lw_all (wsV RL0 13 RX0 yX0_begin (ws_ yX0_begin cX0_begin 1 none)) := lw_V q73 q74 q75 q18 q76
theorem ly_X0_step : yX0_step.cls = RX0 ∧ yX0_step.cls ≠ "java/lang/invoke/MethodHandle" ∧ yX0_step.cls ≠ "java/lang/invoke/VarHandle" ∧ (parseMethodDescriptor yX0_step.desc).map (fun d => d.parameters.length) = some 3 := by decide +kernel
theorem ll_X0_step : GoodIn lw_all (wsV RL0 17 RX0 yX0_step (ws_ yX0_step cX0_step 5 (some .int))) := lw_V q77 q78 q79 q18 q80
theorem ly_X0_window : yX0_window.cls = RX0 ∧ yX0_window.cls ≠ "java/lang/invoke/MethodHandle" ∧ yX0_window.cls ≠ "java/lang/invoke/VarHandle" ∧ (parseMethodDescriptor yX0_window.desc).map (fun d => d.parameters.length) = some 1 := by decide +kernel
theorem ll_X0_window : GoodIn lw_all (wsV RL0 22 RX0 yX0_window (ws_ yX0_window cX0_window 3 (some .int))) := lw_V q81 q82 q83 q18 q84
theorem ly_X0_event : yX0_event.cls = RX0 ∧ yX0_event.cls ≠ "java/lang/invoke/MethodHandle" ∧ yX0_event.cls ≠ "java/lang/invoke/VarHandle" ∧ (parseMethodDescriptor yX0_event.desc).map (fun d => d.parameters.length) = some 3 := by decide +kernel
theorem ll_X0_event : GoodIn lw_all (wsV RL0 27 RX0 yX0_event (ws_ yX0_event cX0_event 4 (some .int))) := lw_V q85 q86 q87 q18 q88
theorem ly_X0_endingAt : yX0_endingAt.cls = RX0 ∧ yX0_endingAt.cls ≠ "java/lang/invoke/MethodHandle" ∧ yX0_endingAt.cls ≠ "java/lang/invoke/VarHandle" ∧ (parseMethodDescriptor yX0_endingAt.desc).map (fun d => d.parameters.length) = some 1 := by decide +kernel
theorem lx_X0_endingAt : GoodIn lw_all (wsV RX0 51 RX0 yX0_endingAt (ws_ yX0_endingAt cX0_endingAt 5 (some .int))) := lw_V q89 q90 q91 q18 q92
theorem ll_X0_endingAt : GoodIn lw_all (wsV RL0 44 RX0 yX0_endingAt (ws_ yX0_endingAt cX0_endingAt 5 (some .int))) := lw_V q141 q90 q91 q18 q92
theorem ly_X0_noEvent : yX0_noEvent.cls = RX0 ∧ yX0_noEvent.cls ≠ "java/lang/invoke/MethodHandle" ∧ yX0_noEvent.cls ≠ "java/lang/invoke/VarHandle" ∧ (parseMethodDescriptor yX0_noEvent.desc).map (fun d => d.parameters.length) = some 1 := by decide +kernel
theorem lx_X0_noEvent : GoodIn lw_all (wsV RX0 84 RX0 yX0_noEvent (ws_ yX0_noEvent cX0_noEvent 2 (some .boolean))) := lw_V q93 q95 qs0 q18 q96
theorem ly_X0_runFrom : yX0_runFrom.cls = RX0 ∧ yX0_runFrom.cls ≠ "java/lang/invoke/MethodHandle" ∧ yX0_runFrom.cls ≠ "java/lang/invoke/VarHandle" ∧ (parseMethodDescriptor yX0_runFrom.desc).map (fun d => d.parameters.length) = some 1 := by decide +kernel
theorem lx_X0_runFrom : GoodIn lw_all (wsV RX0 87 RX0 yX0_runFrom (ws_ yX0_runFrom cX0_runFrom 4 none)) := lw_V q97 q99 qs1 q18 q100
theorem ly_X0_meets : yX0_meets.cls = RX0 ∧ yX0_meets.cls ≠ "java/lang/invoke/MethodHandle" ∧ yX0_meets.cls ≠ "java/lang/invoke/VarHandle" ∧ (parseMethodDescriptor yX0_meets.desc).map (fun d => d.parameters.length) = some 3 := by decide +kernel
theorem lx_X0_meets : GoodIn lw_all (wsV RX0 58 RX0 yX0_meets (ws_ yX0_meets cX0_meets 4 (some .boolean))) := lw_V q101 q103 qs2 q18 q104
theorem ly_X0_add : yX0_add.cls = RX0 ∧ yX0_add.cls ≠ "java/lang/invoke/MethodHandle" ∧ yX0_add.cls ≠ "java/lang/invoke/VarHandle" ∧ (parseMethodDescriptor yX0_add.desc).map (fun d => d.parameters.length) = some 3 := by decide +kernel
theorem lx_X0_add : GoodIn lw_all (wsV RX0 62 RX0 yX0_add (ws_ yX0_add cX0_add 4 none)) := lw_V q105 q107 qs3 q18 q108
theorem ly_X0_inWindow : yX0_inWindow.cls = RX0 ∧ yX0_inWindow.cls ≠ "java/lang/invoke/MethodHandle" ∧ yX0_inWindow.cls ≠ "java/lang/invoke/VarHandle" ∧ (parseMethodDescriptor yX0_inWindow.desc).map (fun d => d.parameters.length) = some 1 := by decide +kernel
theorem lx_X0_inWindow : GoodIn lw_all (wsV RX0 66 RX0 yX0_inWindow (ws_ yX0_inWindow cX0_inWindow 2 (some .boolean))) := lw_V q109 q111 qs4 q18 q112
theorem ly_X0_extendAll : yX0_extendAll.cls = RX0 ∧ yX0_extendAll.cls ≠ "java/lang/invoke/MethodHandle" ∧ yX0_extendAll.cls ≠ "java/lang/invoke/VarHandle" ∧ (parseMethodDescriptor yX0_extendAll.desc).map (fun d => d.parameters.length) = some 2 := by decide +kernel
theorem lx_X0_extendAll : GoodIn lw_all (wsV RX0 70 RX0 yX0_extendAll (ws_ yX0_extendAll cX0_extendAll 4 none)) := lw_V q113 q115 qs5 q18 q116
theorem ly_X0_extend : yX0_extend.cls = RX0 ∧ yX0_extend.cls ≠ "java/lang/invoke/MethodHandle" ∧ yX0_extend.cls ≠ "java/lang/invoke/VarHandle" ∧ (parseMethodDescriptor yX0_extend.desc).map (fun d => d.parameters.length) = some 3 := by decide +kernel
theorem lx_X0_extend : GoodIn lw_all (wsV RX0 74 RX0 yX0_extend (ws_ yX0_extend cX0_extend 5 none)) := lw_V q117 q119 qs6 q18 q120
theorem ly_X0_whole : yX0_whole.cls = RX0 ∧ yX0_whole.cls ≠ "java/lang/invoke/MethodHandle" ∧ yX0_whole.cls ≠ "java/lang/invoke/VarHandle" ∧ (parseMethodDescriptor yX0_whole.desc).map (fun d => d.parameters.length) = some 1 := by decide +kernel
theorem lx_X0_whole : GoodIn lw_all (wsV RX0 91 RX0 yX0_whole (ws_ yX0_whole cX0_whole 2 (some .int))) := lw_V q121 q123 qs7 q18 q124
theorem ly_X0_restart : yX0_restart.cls = RX0 ∧ yX0_restart.cls ≠ "java/lang/invoke/MethodHandle" ∧ yX0_restart.cls ≠ "java/lang/invoke/VarHandle" ∧ (parseMethodDescriptor yX0_restart.desc).map (fun d => d.parameters.length) = some 0 := by decide +kernel
theorem ll_X0_restart : GoodIn lw_all (wsV RL0 31 RX0 yX0_restart (ws_ yX0_restart cX0_restart 1 none)) := lw_V q125 q126 q127 q18 q128
theorem ly_X0_events : yX0_events.cls = RX0 ∧ yX0_events.cls ≠ "java/lang/invoke/MethodHandle" ∧ yX0_events.cls ≠ "java/lang/invoke/VarHandle" ∧ (parseMethodDescriptor yX0_events.desc).map (fun d => d.parameters.length) = some 0 := by decide +kernel
theorem ll_X0_events : GoodIn lw_all (wsV RL0 35 RX0 yX0_events (ws_ yX0_events cX0_events 1 (some .int))) := lw_V q129 q130 q131 q18 q132
theorem ly_X0_finds : yX0_finds.cls = RX0 ∧ yX0_finds.cls ≠ "java/lang/invoke/MethodHandle" ∧ yX0_finds.cls ≠ "java/lang/invoke/VarHandle" ∧ (parseMethodDescriptor yX0_finds.desc).map (fun d => d.parameters.length) = some 0 := by decide +kernel
theorem lx_X0_finds : GoodIn lw_all (wsV RX0 97 RX0 yX0_finds (ws_ yX0_finds cX0_finds 4 (some .int))) := lw_V q171 q134 q135 q18 q136
theorem ll_X0_finds : GoodIn lw_all (wsV RL0 40 RX0 yX0_finds (ws_ yX0_finds cX0_finds 4 (some .int))) := lw_V q133 q134 q135 q18 q136
theorem ly_X0_beginningAt : yX0_beginningAt.cls = RX0 ∧ yX0_beginningAt.cls ≠ "java/lang/invoke/MethodHandle" ∧ yX0_beginningAt.cls ≠ "java/lang/invoke/VarHandle" ∧ (parseMethodDescriptor yX0_beginningAt.desc).map (fun d => d.parameters.length) = some 1 := by decide +kernel
theorem lx_X0_beginningAt : GoodIn lw_all (wsV RX0 81 RX0 yX0_beginningAt (ws_ yX0_beginningAt cX0_beginningAt 5 (some .int))) := lw_V q137 q138 q139 q18 q140
theorem ll_X0_beginningAt : GoodIn lw_all (wsV RL0 48 RX0 yX0_beginningAt (ws_ yX0_beginningAt cX0_beginningAt 5 (some .int))) := lw_V q142 q138 q139 q18 q140
theorem ly_X0_using : yX0_using.cls = RX0 ∧ yX0_using.cls ≠ "java/lang/invoke/MethodHandle" ∧ yX0_using.cls ≠ "java/lang/invoke/VarHandle" ∧ (parseMethodDescriptor yX0_using.desc).map (fun d => d.parameters.length) = some 1 := by decide +kernel
theorem lx_X0_using : GoodIn lw_all (wsV RX0 101 RX0 yX0_using (ws_ yX0_using cX0_using 5 (some .int))) := lw_V q172 q144 q145 q18 q146
theorem ll_X0_using : GoodIn lw_all (wsV RL0 52 RX0 yX0_using (ws_ yX0_using cX0_using 5 (some .int))) := lw_V q143 q144 q145 q18 q146
theorem ly_X0_waysFrom : yX0_waysFrom.cls = RX0 ∧ yX0_waysFrom.cls ≠ "java/lang/invoke/MethodHandle" ∧ yX0_waysFrom.cls ≠ "java/lang/invoke/VarHandle" ∧ (parseMethodDescriptor yX0_waysFrom.desc).map (fun d => d.parameters.length) = some 1 := by decide +kernel
theorem lx_X0_waysFrom : GoodIn lw_all (wsV RX0 94 RX0 yX0_waysFrom (ws_ yX0_waysFrom cX0_waysFrom 4 none)) := lw_V q147 q149 qs8 q18 q150
theorem ly_X0_waysOn : yX0_waysOn.cls = RX0 ∧ yX0_waysOn.cls ≠ "java/lang/invoke/MethodHandle" ∧ yX0_waysOn.cls ≠ "java/lang/invoke/VarHandle" ∧ (parseMethodDescriptor yX0_waysOn.desc).map (fun d => d.parameters.length) = some 2 := by decide +kernel
theorem lx_X0_waysOn : GoodIn lw_all (wsV RX0 77 RX0 yX0_waysOn (ws_ yX0_waysOn cX0_waysOn 5 (some .int))) := lw_V q151 q153 qs9 q18 q154
theorem ly_X0_longest : yX0_longest.cls = RX0 ∧ yX0_longest.cls ≠ "java/lang/invoke/MethodHandle" ∧ yX0_longest.cls ≠ "java/lang/invoke/VarHandle" ∧ (parseMethodDescriptor yX0_longest.desc).map (fun d => d.parameters.length) = some 0 := by decide +kernel
theorem ll_X0_longest : GoodIn lw_all (wsV RL0 56 RX0 yX0_longest (ws_ yX0_longest cX0_longest 5 (some .int))) := lw_V q155 q156 q157 q18 q158
theorem ly_X0_tightest : yX0_tightest.cls = RX0 ∧ yX0_tightest.cls ≠ "java/lang/invoke/MethodHandle" ∧ yX0_tightest.cls ≠ "java/lang/invoke/VarHandle" ∧ (parseMethodDescriptor yX0_tightest.desc).map (fun d => d.parameters.length) = some 0 := by decide +kernel
theorem ll_X0_tightest : GoodIn lw_all (wsV RL0 60 RX0 yX0_tightest (ws_ yX0_tightest cX0_tightest 6 (some .int))) := lw_V q159 q160 q161 q18 q162
theorem ly_X0_lastValues : yX0_lastValues.cls = RX0 ∧ yX0_lastValues.cls ≠ "java/lang/invoke/MethodHandle" ∧ yX0_lastValues.cls ≠ "java/lang/invoke/VarHandle" ∧ (parseMethodDescriptor yX0_lastValues.desc).map (fun d => d.parameters.length) = some 0 := by decide +kernel
theorem ll_X0_lastValues : GoodIn lw_all (wsV RL0 64 RX0 yX0_lastValues (ws_ yX0_lastValues cX0_lastValues 4 (some .int))) := lw_V q163 q164 q165 q18 q166
theorem ly_X0_without : yX0_without.cls = RX0 ∧ yX0_without.cls ≠ "java/lang/invoke/MethodHandle" ∧ yX0_without.cls ≠ "java/lang/invoke/VarHandle" ∧ (parseMethodDescriptor yX0_without.desc).map (fun d => d.parameters.length) = some 1 := by decide +kernel
theorem ll_X0_without : GoodIn lw_all (wsV RL0 68 RX0 yX0_without (ws_ yX0_without cX0_without 4 (some .int))) := lw_V q167 q168 q169 q18 q170
theorem ly_X1_begin : yX1_begin.cls = RX1 ∧ yX1_begin.cls ≠ "java/lang/invoke/MethodHandle" ∧ yX1_begin.cls ≠ "java/lang/invoke/VarHandle" ∧ (parseMethodDescriptor yX1_begin.desc).map (fun d => d.parameters.length) = some 0 := by decide +kernel
theorem ll_X1_begin : GoodIn lw_all (wsV RL0 16 RX1 yX1_begin (ws_ yX1_begin cX1_begin 1 none)) := lw_V q216 q217 q218 q19 q219
theorem ly_X1_step : yX1_step.cls = RX1 ∧ yX1_step.cls ≠ "java/lang/invoke/MethodHandle" ∧ yX1_step.cls ≠ "java/lang/invoke/VarHandle" ∧ (parseMethodDescriptor yX1_step.desc).map (fun d => d.parameters.length) = some 3 := by decide +kernel
theorem ll_X1_step : GoodIn lw_all (wsV RL0 21 RX1 yX1_step (ws_ yX1_step cX1_step 5 (some .int))) := lw_V q220 q221 q222 q19 q223
theorem ly_X1_window : yX1_window.cls = RX1 ∧ yX1_window.cls ≠ "java/lang/invoke/MethodHandle" ∧ yX1_window.cls ≠ "java/lang/invoke/VarHandle" ∧ (parseMethodDescriptor yX1_window.desc).map (fun d => d.parameters.length) = some 1 := by decide +kernel
theorem ll_X1_window : GoodIn lw_all (wsV RL0 26 RX1 yX1_window (ws_ yX1_window cX1_window 3 (some .int))) := lw_V q224 q225 q226 q19 q227
theorem ly_X1_event : yX1_event.cls = RX1 ∧ yX1_event.cls ≠ "java/lang/invoke/MethodHandle" ∧ yX1_event.cls ≠ "java/lang/invoke/VarHandle" ∧ (parseMethodDescriptor yX1_event.desc).map (fun d => d.parameters.length) = some 3 := by decide +kernel
theorem ll_X1_event : GoodIn lw_all (wsV RL0 30 RX1 yX1_event (ws_ yX1_event cX1_event 4 (some .int))) := lw_V q228 q229 q230 q19 q231
theorem ly_X1_endingAt : yX1_endingAt.cls = RX1 ∧ yX1_endingAt.cls ≠ "java/lang/invoke/MethodHandle" ∧ yX1_endingAt.cls ≠ "java/lang/invoke/VarHandle" ∧ (parseMethodDescriptor yX1_endingAt.desc).map (fun d => d.parameters.length) = some 1 := by decide +kernel
theorem lx_X1_endingAt : GoodIn lw_all (wsV RX1 48 RX1 yX1_endingAt (ws_ yX1_endingAt cX1_endingAt 4 (some .int))) := lw_V q232 q233 q234 q19 q235
theorem ll_X1_endingAt : GoodIn lw_all (wsV RL0 47 RX1 yX1_endingAt (ws_ yX1_endingAt cX1_endingAt 4 (some .int))) := lw_V q272 q233 q234 q19 q235
theorem ly_X1_isEvent : yX1_isEvent.cls = RX1 ∧ yX1_isEvent.cls ≠ "java/lang/invoke/MethodHandle" ∧ yX1_isEvent.cls ≠ "java/lang/invoke/VarHandle" ∧ (parseMethodDescriptor yX1_isEvent.desc).map (fun d => d.parameters.length) = some 1 := by decide +kernel
theorem lx_X1_isEvent : GoodIn lw_all (wsV RX1 66 RX1 yX1_isEvent (ws_ yX1_isEvent cX1_isEvent 2 (some .boolean))) := lw_V q236 q238 qs10 q19 q239
theorem ly_X1_lastOf : yX1_lastOf.cls = RX1 ∧ yX1_lastOf.cls ≠ "java/lang/invoke/MethodHandle" ∧ yX1_lastOf.cls ≠ "java/lang/invoke/VarHandle" ∧ (parseMethodDescriptor yX1_lastOf.desc).map (fun d => d.parameters.length) = some 1 := by decide +kernel
theorem lx_X1_lastOf : GoodIn lw_all (wsV RX1 70 RX1 yX1_lastOf (ws_ yX1_lastOf cX1_lastOf 4 (some .int))) := lw_V q240 q242 qs11 q19 q243
theorem ly_X1_findsOf : yX1_findsOf.cls = RX1 ∧ yX1_findsOf.cls ≠ "java/lang/invoke/MethodHandle" ∧ yX1_findsOf.cls ≠ "java/lang/invoke/VarHandle" ∧ (parseMethodDescriptor yX1_findsOf.desc).map (fun d => d.parameters.length) = some 1 := by decide +kernel
theorem lx_X1_findsOf : GoodIn lw_all (wsV RX1 63 RX1 yX1_findsOf (ws_ yX1_findsOf cX1_findsOf 5 (some .int))) := lw_V q244 q246 qs12 q19 q247
theorem ly_X1_firstOf : yX1_firstOf.cls = RX1 ∧ yX1_firstOf.cls ≠ "java/lang/invoke/MethodHandle" ∧ yX1_firstOf.cls ≠ "java/lang/invoke/VarHandle" ∧ (parseMethodDescriptor yX1_firstOf.desc).map (fun d => d.parameters.length) = some 1 := by decide +kernel
theorem lx_X1_firstOf : GoodIn lw_all (wsV RX1 56 RX1 yX1_firstOf (ws_ yX1_firstOf cX1_firstOf 4 (some .int))) := lw_V q248 q250 qs13 q19 q251
theorem ly_X1_take : yX1_take.cls = RX1 ∧ yX1_take.cls ≠ "java/lang/invoke/MethodHandle" ∧ yX1_take.cls ≠ "java/lang/invoke/VarHandle" ∧ (parseMethodDescriptor yX1_take.desc).map (fun d => d.parameters.length) = some 3 := by decide +kernel
theorem lx_X1_take : GoodIn lw_all (wsV RX1 59 RX1 yX1_take (ws_ yX1_take cX1_take 6 none)) := lw_V q252 q254 qs14 q19 q255
theorem ly_X1_meets : yX1_meets.cls = RX1 ∧ yX1_meets.cls ≠ "java/lang/invoke/MethodHandle" ∧ yX1_meets.cls ≠ "java/lang/invoke/VarHandle" ∧ (parseMethodDescriptor yX1_meets.desc).map (fun d => d.parameters.length) = some 4 := by decide +kernel
theorem lx_X1_meets : GoodIn lw_all (wsV RX1 52 RX1 yX1_meets (ws_ yX1_meets cX1_meets 5 (some .boolean))) := lw_V q256 q258 qs15 q19 q259
theorem ly_X1_restart : yX1_restart.cls = RX1 ∧ yX1_restart.cls ≠ "java/lang/invoke/MethodHandle" ∧ yX1_restart.cls ≠ "java/lang/invoke/VarHandle" ∧ (parseMethodDescriptor yX1_restart.desc).map (fun d => d.parameters.length) = some 0 := by decide +kernel
theorem ll_X1_restart : GoodIn lw_all (wsV RL0 34 RX1 yX1_restart (ws_ yX1_restart cX1_restart 1 none)) := lw_V q260 q261 q262 q19 q263
theorem ly_X1_events : yX1_events.cls = RX1 ∧ yX1_events.cls ≠ "java/lang/invoke/MethodHandle" ∧ yX1_events.cls ≠ "java/lang/invoke/VarHandle" ∧ (parseMethodDescriptor yX1_events.desc).map (fun d => d.parameters.length) = some 0 := by decide +kernel
theorem ll_X1_events : GoodIn lw_all (wsV RL0 39 RX1 yX1_events (ws_ yX1_events cX1_events 1 (some .int))) := lw_V q264 q265 q266 q19 q267
theorem ly_X1_finds : yX1_finds.cls = RX1 ∧ yX1_finds.cls ≠ "java/lang/invoke/MethodHandle" ∧ yX1_finds.cls ≠ "java/lang/invoke/VarHandle" ∧ (parseMethodDescriptor yX1_finds.desc).map (fun d => d.parameters.length) = some 0 := by decide +kernel
theorem ll_X1_finds : GoodIn lw_all (wsV RL0 43 RX1 yX1_finds (ws_ yX1_finds cX1_finds 3 (some .int))) := lw_V q268 q269 q270 q19 q271
theorem ly_X1_beginningAt : yX1_beginningAt.cls = RX1 ∧ yX1_beginningAt.cls ≠ "java/lang/invoke/MethodHandle" ∧ yX1_beginningAt.cls ≠ "java/lang/invoke/VarHandle" ∧ (parseMethodDescriptor yX1_beginningAt.desc).map (fun d => d.parameters.length) = some 1 := by decide +kernel
theorem ll_X1_beginningAt : GoodIn lw_all (wsV RL0 51 RX1 yX1_beginningAt (ws_ yX1_beginningAt cX1_beginningAt 4 (some .int))) := lw_V q273 q274 q275 q19 q276
theorem ly_X1_using : yX1_using.cls = RX1 ∧ yX1_using.cls ≠ "java/lang/invoke/MethodHandle" ∧ yX1_using.cls ≠ "java/lang/invoke/VarHandle" ∧ (parseMethodDescriptor yX1_using.desc).map (fun d => d.parameters.length) = some 1 := by decide +kernel
theorem ll_X1_using : GoodIn lw_all (wsV RL0 55 RX1 yX1_using (ws_ yX1_using cX1_using 4 (some .int))) := lw_V q277 q278 q279 q19 q280
theorem ly_X1_longest : yX1_longest.cls = RX1 ∧ yX1_longest.cls ≠ "java/lang/invoke/MethodHandle" ∧ yX1_longest.cls ≠ "java/lang/invoke/VarHandle" ∧ (parseMethodDescriptor yX1_longest.desc).map (fun d => d.parameters.length) = some 0 := by decide +kernel
theorem ll_X1_longest : GoodIn lw_all (wsV RL0 59 RX1 yX1_longest (ws_ yX1_longest cX1_longest 4 (some .int))) := lw_V q281 q282 q283 q19 q284
theorem ly_X1_sizeOf : yX1_sizeOf.cls = RX1 ∧ yX1_sizeOf.cls ≠ "java/lang/invoke/MethodHandle" ∧ yX1_sizeOf.cls ≠ "java/lang/invoke/VarHandle" ∧ (parseMethodDescriptor yX1_sizeOf.desc).map (fun d => d.parameters.length) = some 1 := by decide +kernel
theorem lx_X1_sizeOf : GoodIn lw_all (wsV RX1 73 RX1 yX1_sizeOf (ws_ yX1_sizeOf cX1_sizeOf 4 (some .int))) := lw_V q285 q287 qs16 q19 q288
theorem ly_X1_tightest : yX1_tightest.cls = RX1 ∧ yX1_tightest.cls ≠ "java/lang/invoke/MethodHandle" ∧ yX1_tightest.cls ≠ "java/lang/invoke/VarHandle" ∧ (parseMethodDescriptor yX1_tightest.desc).map (fun d => d.parameters.length) = some 0 := by decide +kernel
theorem ll_X1_tightest : GoodIn lw_all (wsV RL0 63 RX1 yX1_tightest (ws_ yX1_tightest cX1_tightest 6 (some .int))) := lw_V q289 q290 q291 q19 q292
theorem ly_X1_lastValues : yX1_lastValues.cls = RX1 ∧ yX1_lastValues.cls ≠ "java/lang/invoke/MethodHandle" ∧ yX1_lastValues.cls ≠ "java/lang/invoke/VarHandle" ∧ (parseMethodDescriptor yX1_lastValues.desc).map (fun d => d.parameters.length) = some 0 := by decide +kernel
theorem ll_X1_lastValues : GoodIn lw_all (wsV RL0 67 RX1 yX1_lastValues (ws_ yX1_lastValues cX1_lastValues 4 (some .int))) := lw_V q293 q294 q295 q19 q296
theorem ly_X1_without : yX1_without.cls = RX1 ∧ yX1_without.cls ≠ "java/lang/invoke/MethodHandle" ∧ yX1_without.cls ≠ "java/lang/invoke/VarHandle" ∧ (parseMethodDescriptor yX1_without.desc).map (fun d => d.parameters.length) = some 1 := by decide +kernel
theorem ll_X1_without : GoodIn lw_all (wsV RL0 71 RX1 yX1_without (ws_ yX1_without cX1_without 4 (some .int))) := lw_V q297 q298 q299 q19 q300
end
section
/-! contracts of SequencePatterns: the leaves -/
theorem bz_nar (b : Bool) : narrow .boolean (.int (bz b)) = .int (bz b) := by cases b <;> rfl
theorem ni_ix (k e : Nat) : nI k * 10 + nI e = nI (k * 10 + e) := by rw [show (10 : Int32) = nI 10 from rfl, pk_mul, nI_add]
theorem ni_pr {n : Nat} (h : 0 < n) : nI n - 1 = nI (n - 1) := by
  obtain ⟨m, rfl⟩ : ∃ m, n = m + 1 := ⟨n - 1, by omega⟩
  exact nI_pred m
theorem ni_ixp {n : Nat} (e : Nat) (h : 0 < n) : (nI n - 1) * 10 + nI e = nI ((n - 1) * 10 + e) := by rw [ni_pr h, ni_ix]
theorem ni_ixs (k e : Nat) : (nI k + 1) * 10 + nI e = nI ((k + 1) * 10 + e) := by rw [nI_1, ni_ix]
def okW (p : Int32) : Bool := decide (¬ p < 0 ∧ p ≤ 40)
def okX (t b k : Int32) : Bool := decide (¬ t < 0 ∧ ¬ 4 < t ∧ ¬ b < 0 ∧ b ≤ 9 ∧ ¬ k < 0 ∧ ¬ 15 < k ∧ k &&& 7 ≤ 4)
def up1 (u : Nat → Nat → Int32) (i j : Nat) (x : Int32) : Nat → Nat → Int32 := va_up u i (upd (u i) j x)
def stR (ok : Bool) (n : Nat) : Int32 := cond ok (if n < 4 then nI (n + 1) else -2) (-1)
def stN (ok : Bool) (n : Nat) : Nat := cond ok (if n < 4 then n + 1 else n) n
def stU (ok : Bool) (u : Nat → Nat → Int32) (n : Nat) (t b k r : Int32) : Nat → Nat → Int32 := cond ok (if n < 4 then up1 (up1 (up1 (up1 u 0 n t) 1 n b) 2 n k) 3 n r else u) u
set_option maxHeartbeats 4000000 in
set_option maxRecDepth 100000 in
theorem mX_noEvent {h : Nat} {ad : Nat → Nat} {dc : Nat → ClassId} {u : Nat → Nat → Int32} {n w c fi : Int32} {r y o : Nat → Int32} (p : Int32) : kw_I yX0_noEvent cX0_noEvent 2 .boolean 0 0 (tX dc) [.ref h, .int p] (wX h ad dc u n w c fi r y o) (wX h ad dc u n w c fi r y o) (bz (decide (p < 0) || decide (¬ p < c))) := by
  refine kw_ofI RX0 (by decide) rfl (bz_nar _) (Nat.le_of_ble_eq_true rfl) (lv := [(0, .ref h), (1, .int p)]) rfl ?_
  intro g hg hret
  refine kw_iload_n hg 1 dX0_noEvent_0 rfl rfl ?_
  refine kw_if_lt hg 12 dX0_noEvent_1 (by decide) (fun c1 => ?_) (fun c1 => ?_)
  · refine kw_iconst (v := 1) hg dX0_noEvent_12 (by decide) ?_
    refine kw_goto hg 17 dX0_noEvent_13 (by decide) ?_
    exact hret _ _ _ _ dX0_noEvent_17 (by simp [bz, c1]) (rfl)
  · refine kw_iload_n hg 1 dX0_noEvent_4 rfl rfl ?_
    refine kw_aload_n hg 0 dX0_noEvent_5 rfl rfl ?_
    refine gX_count hg dX0_noEvent_6 ?_
    refine kw_icmp_lt hg 16 dX0_noEvent_9 (by decide) (fun c9 => ?_) (fun c9 => ?_)
    · refine kw_iconst (v := 0) hg dX0_noEvent_16 (by decide) ?_
      exact hret _ _ _ _ dX0_noEvent_17 (by simp [bz, c1, c9]) (rfl)
    · refine kw_iconst (v := 1) hg dX0_noEvent_12 (by decide) ?_
      refine kw_goto hg 17 dX0_noEvent_13 (by decide) ?_
      exact hret _ _ _ _ dX0_noEvent_17 (by simp [bz, c1, c9]) (rfl)
set_option maxHeartbeats 4000000 in
set_option maxRecDepth 100000 in
theorem mX_begin {h : Nat} {ad : Nat → Nat} {dc : Nat → ClassId} {u : Nat → Nat → Int32} {n w c fi : Int32} {r y o : Nat → Int32} : kw_V yX0_begin cX0_begin 1 0 0 (tX dc) [.ref h] (wX h ad dc u n w c fi r y o) (wX h ad dc u (nI 0) w c fi r y o) := by
  refine kw_ofV RX0 (by decide) rfl (Nat.le_of_ble_eq_true rfl) (lv := [(0, .ref h)]) rfl ?_
  intro g hg hret
  refine kw_aload_n hg 0 dX0_begin_0 rfl rfl ?_
  refine kw_iconst (v := 0) hg dX0_begin_1 (by decide) ?_
  refine pX_steps hg dX0_begin_2 ?_
  exact hret _ _ _ dX0_begin_5 (rfl)
set_option maxHeartbeats 4000000 in
set_option maxRecDepth 100000 in
theorem mX_restart {h : Nat} {ad : Nat → Nat} {dc : Nat → ClassId} {u : Nat → Nat → Int32} {n w c fi : Int32} {r y o : Nat → Int32} : kw_V yX0_restart cX0_restart 1 0 0 (tX dc) [.ref h] (wX h ad dc u n w c fi r y o) (wX h ad dc u n w (nI 0) fi r y o) := by
  refine kw_ofV RX0 (by decide) rfl (Nat.le_of_ble_eq_true rfl) (lv := [(0, .ref h)]) rfl ?_
  intro g hg hret
  refine kw_aload_n hg 0 dX0_restart_0 rfl rfl ?_
  refine kw_iconst (v := 0) hg dX0_restart_1 (by decide) ?_
  refine pX_count hg dX0_restart_2 ?_
  exact hret _ _ _ dX0_restart_5 (rfl)
set_option maxHeartbeats 4000000 in
set_option maxRecDepth 100000 in
theorem mX_events {h : Nat} {ad : Nat → Nat} {dc : Nat → ClassId} {u : Nat → Nat → Int32} {n w c fi : Int32} {r y o : Nat → Int32} : kw_I yX0_events cX0_events 1 .int 0 0 (tX dc) [.ref h] (wX h ad dc u n w c fi r y o) (wX h ad dc u n w c fi r y o) (c) := by
  refine kw_ofI RX0 (by decide) rfl (vp_nar_int _) (Nat.le_of_ble_eq_true rfl) (lv := [(0, .ref h)]) rfl ?_
  intro g hg hret
  refine kw_aload_n hg 0 dX0_events_0 rfl rfl ?_
  refine gX_count hg dX0_events_1 ?_
  exact hret _ _ _ _ dX0_events_4 (rfl) (rfl)
set_option maxHeartbeats 4000000 in
set_option maxRecDepth 100000 in
theorem mX_window {h : Nat} {ad : Nat → Nat} {dc : Nat → ClassId} {u : Nat → Nat → Int32} {n w c fi : Int32} {r y o : Nat → Int32} (p : Int32) : kw_I yX0_window cX0_window 3 .int 0 0 (tX dc) [.ref h, .int p] (wX h ad dc u n w c fi r y o) (wX h ad dc u n (cond (okW p) p w) c fi r y o) (cond (okW p) w (-1)) := by
  refine kw_ofI RX0 (by decide) rfl (vp_nar_int _) (Nat.le_of_ble_eq_true rfl) (lv := [(0, .ref h), (1, .int p)]) rfl ?_
  intro g hg hret
  refine kw_iload_n hg 1 dX0_window_0 rfl rfl ?_
  refine kw_if_lt hg 10 dX0_window_1 (by decide) (fun c1 => ?_) (fun c1 => ?_)
  · refine kw_iconst (v := -1) hg dX0_window_10 (by decide) ?_
    exact hret _ _ _ _ dX0_window_11 (by simp [okW, c1]) (by simp [okW, c1])
  · refine kw_iload_n hg 1 dX0_window_4 rfl rfl ?_
    refine kw_bipush (v := 40) hg dX0_window_5 (by decide) ?_
    refine kw_icmp_le hg 12 dX0_window_7 (by decide) (fun c7 => ?_) (fun c7 => ?_)
    · refine kw_aload_n hg 0 dX0_window_12 rfl rfl ?_
      refine gX_window hg dX0_window_13 ?_
      refine kw_istore_n hg [some 0, some 1, none] dX0_window_16 rfl (Nat.le_of_ble_eq_true rfl) rfl (lv2 := [(0, _), (1, _), (2, _)]) rfl ?_
      refine kw_aload_n hg 0 dX0_window_17 rfl rfl ?_
      refine kw_iload_n hg 1 dX0_window_18 rfl rfl ?_
      refine pX_window hg dX0_window_19 ?_
      refine kw_iload_n hg 2 dX0_window_22 rfl rfl ?_
      exact hret _ _ _ _ dX0_window_23 (by simp [okW, c1, c7]) (by simp [okW, c1, c7])
    · refine kw_iconst (v := -1) hg dX0_window_10 (by decide) ?_
      exact hret _ _ _ _ dX0_window_11 (by simp [okW, c1, c7]) (by simp [okW, c1, c7])
set_option maxHeartbeats 4000000 in
set_option maxRecDepth 100000 in
/-- the event e in step k behind b -/
theorem mX_meets {h : Nat} {ad : Nat → Nat} {dc : Nat → ClassId} {u : Nat → Nat → Int32} {n w c : Int32} {r y o : Nat → Int32} (f k : Nat) (b : Option Nat) (e : Nat) (hf : f < 10) (hk : k < 4) (he : e < 10) (hb : ∀ j, b = some j → j < 10) : kw_I yX0_meets cX0_meets 4 .boolean 0 0 (tX dc) [.ref h, .int (nI k), .int (pb b), .int (nI e)] (wX h ad dc u n w c (nI f) r y o) (wX h ad dc u n w c (nI f) r y o) (bz (mtX u f k b e)) := by
  refine kw_ofI RX0 (by decide) rfl (bz_nar _) (Nat.le_of_ble_eq_true rfl) (lv := [(0, .ref h), (1, .int (nI k)), (2, .int (pb b)), (3, .int (nI e))]) rfl ?_
  intro g hg hret
  refine kw_aload_n hg 0 dX0_meets_0 rfl rfl ?_
  refine gX_stepType hg dX0_meets_1 ?_
  refine kw_iload_n hg 1 dX0_meets_4 rfl rfl ?_
  refine aX_0 hg _ (by omega) dX0_meets_5 ?_
  refine kw_iconst (v := 4) hg dX0_meets_6 (by decide) ?_
  refine kw_icmp_eq hg 27 dX0_meets_7 (by decide) (fun c7 => ?_) (fun c7 => ?_)
  · refine kw_aload_n hg 0 dX0_meets_27 rfl rfl ?_
    refine gX_stepKind hg dX0_meets_28 ?_
    refine kw_iload_n hg 1 dX0_meets_31 rfl rfl ?_
    refine aX_2 hg _ (by omega) dX0_meets_32 ?_
    refine kw_iconst (v := 1) hg dX0_meets_33 (by decide) ?_
    refine kw_icmp_ne hg 62 dX0_meets_34 (by decide) (fun c34 => ?_) (fun c34 => ?_)
    · refine kw_aload_n hg 0 dX0_meets_62 rfl rfl ?_
      refine gX_stepKind hg dX0_meets_63 ?_
      refine kw_iload_n hg 1 dX0_meets_66 rfl rfl ?_
      refine aX_2 hg _ (by omega) dX0_meets_67 ?_
      refine kw_iconst (v := 2) hg dX0_meets_68 (by decide) ?_
      refine kw_icmp_ne hg 97 dX0_meets_69 (by decide) (fun c69 => ?_) (fun c69 => ?_)
      · refine kw_aload_n hg 0 dX0_meets_97 rfl rfl ?_
        refine gX_stepKind hg dX0_meets_98 ?_
        refine kw_iload_n hg 1 dX0_meets_101 rfl rfl ?_
        refine aX_2 hg _ (by omega) dX0_meets_102 ?_
        refine kw_iconst (v := 3) hg dX0_meets_103 (by decide) ?_
        refine kw_icmp_ne hg 128 dX0_meets_104 (by decide) (fun c104 => ?_) (fun c104 => ?_)
        · refine kw_aload_n hg 0 dX0_meets_128 rfl rfl ?_
          refine gX_stepKind hg dX0_meets_129 ?_
          refine kw_iload_n hg 1 dX0_meets_132 rfl rfl ?_
          refine aX_2 hg _ (by omega) dX0_meets_133 ?_
          refine kw_iconst (v := 4) hg dX0_meets_134 (by decide) ?_
          refine kw_icmp_ne hg 156 dX0_meets_135 (by decide) (fun c135 => ?_) (fun c135 => ?_)
          · refine kw_iconst (v := 1) hg dX0_meets_156 (by decide) ?_
            refine kw_goto hg 161 dX0_meets_157 (by decide) ?_
            exact hret _ _ _ _ dX0_meets_161 (by simp [bz, mtX, c7, c34, c69, c104, c135]) (rfl)
          · refine kw_aload_n hg 0 dX0_meets_138 rfl rfl ?_
            refine gX_value hg dX0_meets_139 ?_
            refine kw_iload_n hg 3 dX0_meets_142 rfl rfl ?_
            refine aX_5 hg _ (by omega) dX0_meets_143 ?_
            refine kw_aload_n hg 0 dX0_meets_144 rfl rfl ?_
            refine gX_value hg dX0_meets_145 ?_
            refine kw_aload_n hg 0 dX0_meets_148 rfl rfl ?_
            refine gX_first hg dX0_meets_149 ?_
            refine aX_5 hg _ (by omega) dX0_meets_152 ?_
            refine kw_icmp_ne hg 160 dX0_meets_153 (by decide) (fun c153 => ?_) (fun c153 => ?_)
            · refine kw_iconst (v := 0) hg dX0_meets_160 (by decide) ?_
              exact hret _ _ _ _ dX0_meets_161 (by simp [bz, mtX, c7, c34, c69, c104, c135, c153]) (rfl)
            · refine kw_iconst (v := 1) hg dX0_meets_156 (by decide) ?_
              refine kw_goto hg 161 dX0_meets_157 (by decide) ?_
              exact hret _ _ _ _ dX0_meets_161 (by simp [bz, mtX, c7, c34, c69, c104, c135, c153]) (rfl)
        · refine kw_aload_n hg 0 dX0_meets_107 rfl rfl ?_
          refine gX_value hg dX0_meets_108 ?_
          refine kw_iload_n hg 3 dX0_meets_111 rfl rfl ?_
          refine aX_5 hg _ (by omega) dX0_meets_112 ?_
          refine kw_aload_n hg 0 dX0_meets_113 rfl rfl ?_
          refine gX_stepBound hg dX0_meets_114 ?_
          refine kw_iload_n hg 1 dX0_meets_117 rfl rfl ?_
          refine aX_1 hg _ (by omega) dX0_meets_118 ?_
          refine kw_icmp_ne hg 126 dX0_meets_119 (by decide) (fun c119 => ?_) (fun c119 => ?_)
          · refine kw_iconst (v := 0) hg dX0_meets_126 (by decide) ?_
            exact hret _ _ _ _ dX0_meets_127 (by simp [bz, mtX, c7, c34, c69, c104, c119]) (rfl)
          · refine kw_iconst (v := 1) hg dX0_meets_122 (by decide) ?_
            refine kw_goto hg 127 dX0_meets_123 (by decide) ?_
            exact hret _ _ _ _ dX0_meets_127 (by simp [bz, mtX, c7, c34, c69, c104, c119]) (rfl)
      · rcases b with _ | j
        · refine kw_iload_n hg 2 dX0_meets_72 rfl rfl ?_
          refine kw_if_lt hg 91 dX0_meets_73 (by decide) (fun c73 => ?_) (fun c73 => absurd (by decide) c73)
          refine kw_iconst (v := 1) hg dX0_meets_91 (by decide) ?_
          refine kw_goto hg 96 dX0_meets_92 (by decide) ?_
          exact hret _ _ _ _ dX0_meets_96 (by simp [bz, mtX, c7, c34, c69, c73]) (rfl)
        · refine kw_iload_n hg 2 dX0_meets_72 rfl rfl ?_
          refine kw_if_lt hg 91 dX0_meets_73 (by decide) (fun c73 => absurd c73 (nI_pos (by have := hb j rfl; omega))) (fun c73 => ?_)
          refine kw_aload_n hg 0 dX0_meets_76 rfl rfl ?_
          refine gX_value hg dX0_meets_77 ?_
          refine kw_iload_n hg 3 dX0_meets_80 rfl rfl ?_
          refine aX_5 hg _ (by omega) dX0_meets_81 ?_
          refine kw_aload_n hg 0 dX0_meets_82 rfl rfl ?_
          refine gX_value hg dX0_meets_83 ?_
          refine kw_iload_n hg 2 dX0_meets_86 rfl rfl ?_
          refine aX_5 hg _ (hb j rfl) dX0_meets_87 ?_
          refine kw_icmp_ge hg 95 dX0_meets_88 (by decide) (fun c88 => ?_) (fun c88 => ?_)
          · refine kw_iconst (v := 0) hg dX0_meets_95 (by decide) ?_
            exact hret _ _ _ _ dX0_meets_96 (by simp [bz, mtX, c7, c34, c69, c73, c88]) (rfl)
          · refine kw_iconst (v := 1) hg dX0_meets_91 (by decide) ?_
            refine kw_goto hg 96 dX0_meets_92 (by decide) ?_
            exact hret _ _ _ _ dX0_meets_96 (by simp [bz, mtX, c7, c34, c69, c73, c88]) (rfl)
    · rcases b with _ | j
      · refine kw_iload_n hg 2 dX0_meets_37 rfl rfl ?_
        refine kw_if_lt hg 56 dX0_meets_38 (by decide) (fun c38 => ?_) (fun c38 => absurd (by decide) c38)
        refine kw_iconst (v := 1) hg dX0_meets_56 (by decide) ?_
        refine kw_goto hg 61 dX0_meets_57 (by decide) ?_
        exact hret _ _ _ _ dX0_meets_61 (by simp [bz, mtX, c7, c34, c38]) (rfl)
      · refine kw_iload_n hg 2 dX0_meets_37 rfl rfl ?_
        refine kw_if_lt hg 56 dX0_meets_38 (by decide) (fun c38 => absurd c38 (nI_pos (by have := hb j rfl; omega))) (fun c38 => ?_)
        refine kw_aload_n hg 0 dX0_meets_41 rfl rfl ?_
        refine gX_value hg dX0_meets_42 ?_
        refine kw_iload_n hg 3 dX0_meets_45 rfl rfl ?_
        refine aX_5 hg _ (by omega) dX0_meets_46 ?_
        refine kw_aload_n hg 0 dX0_meets_47 rfl rfl ?_
        refine gX_value hg dX0_meets_48 ?_
        refine kw_iload_n hg 2 dX0_meets_51 rfl rfl ?_
        refine aX_5 hg _ (hb j rfl) dX0_meets_52 ?_
        refine kw_icmp_le hg 60 dX0_meets_53 (by decide) (fun c53 => ?_) (fun c53 => ?_)
        · refine kw_iconst (v := 0) hg dX0_meets_60 (by decide) ?_
          exact hret _ _ _ _ dX0_meets_61 (by simp [bz, mtX, c7, c34, c38, c53]) (rfl)
        · refine kw_iconst (v := 1) hg dX0_meets_56 (by decide) ?_
          refine kw_goto hg 61 dX0_meets_57 (by decide) ?_
          exact hret _ _ _ _ dX0_meets_61 (by simp [bz, mtX, c7, c34, c38, c53]) (rfl)
  · refine kw_aload_n hg 0 dX0_meets_10 rfl rfl ?_
    refine gX_stepType hg dX0_meets_11 ?_
    refine kw_iload_n hg 1 dX0_meets_14 rfl rfl ?_
    refine aX_0 hg _ (by omega) dX0_meets_15 ?_
    refine kw_aload_n hg 0 dX0_meets_16 rfl rfl ?_
    refine gX_type hg dX0_meets_17 ?_
    refine kw_iload_n hg 3 dX0_meets_20 rfl rfl ?_
    refine aX_4 hg _ (by omega) dX0_meets_21 ?_
    refine kw_icmp_eq hg 27 dX0_meets_22 (by decide) (fun c22 => ?_) (fun c22 => ?_)
    · refine kw_aload_n hg 0 dX0_meets_27 rfl rfl ?_
      refine gX_stepKind hg dX0_meets_28 ?_
      refine kw_iload_n hg 1 dX0_meets_31 rfl rfl ?_
      refine aX_2 hg _ (by omega) dX0_meets_32 ?_
      refine kw_iconst (v := 1) hg dX0_meets_33 (by decide) ?_
      refine kw_icmp_ne hg 62 dX0_meets_34 (by decide) (fun c34 => ?_) (fun c34 => ?_)
      · refine kw_aload_n hg 0 dX0_meets_62 rfl rfl ?_
        refine gX_stepKind hg dX0_meets_63 ?_
        refine kw_iload_n hg 1 dX0_meets_66 rfl rfl ?_
        refine aX_2 hg _ (by omega) dX0_meets_67 ?_
        refine kw_iconst (v := 2) hg dX0_meets_68 (by decide) ?_
        refine kw_icmp_ne hg 97 dX0_meets_69 (by decide) (fun c69 => ?_) (fun c69 => ?_)
        · refine kw_aload_n hg 0 dX0_meets_97 rfl rfl ?_
          refine gX_stepKind hg dX0_meets_98 ?_
          refine kw_iload_n hg 1 dX0_meets_101 rfl rfl ?_
          refine aX_2 hg _ (by omega) dX0_meets_102 ?_
          refine kw_iconst (v := 3) hg dX0_meets_103 (by decide) ?_
          refine kw_icmp_ne hg 128 dX0_meets_104 (by decide) (fun c104 => ?_) (fun c104 => ?_)
          · refine kw_aload_n hg 0 dX0_meets_128 rfl rfl ?_
            refine gX_stepKind hg dX0_meets_129 ?_
            refine kw_iload_n hg 1 dX0_meets_132 rfl rfl ?_
            refine aX_2 hg _ (by omega) dX0_meets_133 ?_
            refine kw_iconst (v := 4) hg dX0_meets_134 (by decide) ?_
            refine kw_icmp_ne hg 156 dX0_meets_135 (by decide) (fun c135 => ?_) (fun c135 => ?_)
            · refine kw_iconst (v := 1) hg dX0_meets_156 (by decide) ?_
              refine kw_goto hg 161 dX0_meets_157 (by decide) ?_
              exact hret _ _ _ _ dX0_meets_161 (by simp [bz, mtX, c7, c22, c34, c69, c104, c135]) (rfl)
            · refine kw_aload_n hg 0 dX0_meets_138 rfl rfl ?_
              refine gX_value hg dX0_meets_139 ?_
              refine kw_iload_n hg 3 dX0_meets_142 rfl rfl ?_
              refine aX_5 hg _ (by omega) dX0_meets_143 ?_
              refine kw_aload_n hg 0 dX0_meets_144 rfl rfl ?_
              refine gX_value hg dX0_meets_145 ?_
              refine kw_aload_n hg 0 dX0_meets_148 rfl rfl ?_
              refine gX_first hg dX0_meets_149 ?_
              refine aX_5 hg _ (by omega) dX0_meets_152 ?_
              refine kw_icmp_ne hg 160 dX0_meets_153 (by decide) (fun c153 => ?_) (fun c153 => ?_)
              · refine kw_iconst (v := 0) hg dX0_meets_160 (by decide) ?_
                exact hret _ _ _ _ dX0_meets_161 (by simp [bz, mtX, c7, c22, c34, c69, c104, c135, c153]) (rfl)
              · refine kw_iconst (v := 1) hg dX0_meets_156 (by decide) ?_
                refine kw_goto hg 161 dX0_meets_157 (by decide) ?_
                exact hret _ _ _ _ dX0_meets_161 (by simp [bz, mtX, c7, c22, c34, c69, c104, c135, c153]) (rfl)
          · refine kw_aload_n hg 0 dX0_meets_107 rfl rfl ?_
            refine gX_value hg dX0_meets_108 ?_
            refine kw_iload_n hg 3 dX0_meets_111 rfl rfl ?_
            refine aX_5 hg _ (by omega) dX0_meets_112 ?_
            refine kw_aload_n hg 0 dX0_meets_113 rfl rfl ?_
            refine gX_stepBound hg dX0_meets_114 ?_
            refine kw_iload_n hg 1 dX0_meets_117 rfl rfl ?_
            refine aX_1 hg _ (by omega) dX0_meets_118 ?_
            refine kw_icmp_ne hg 126 dX0_meets_119 (by decide) (fun c119 => ?_) (fun c119 => ?_)
            · refine kw_iconst (v := 0) hg dX0_meets_126 (by decide) ?_
              exact hret _ _ _ _ dX0_meets_127 (by simp [bz, mtX, c7, c22, c34, c69, c104, c119]) (rfl)
            · refine kw_iconst (v := 1) hg dX0_meets_122 (by decide) ?_
              refine kw_goto hg 127 dX0_meets_123 (by decide) ?_
              exact hret _ _ _ _ dX0_meets_127 (by simp [bz, mtX, c7, c22, c34, c69, c104, c119]) (rfl)
        · rcases b with _ | j
          · refine kw_iload_n hg 2 dX0_meets_72 rfl rfl ?_
            refine kw_if_lt hg 91 dX0_meets_73 (by decide) (fun c73 => ?_) (fun c73 => absurd (by decide) c73)
            refine kw_iconst (v := 1) hg dX0_meets_91 (by decide) ?_
            refine kw_goto hg 96 dX0_meets_92 (by decide) ?_
            exact hret _ _ _ _ dX0_meets_96 (by simp [bz, mtX, c7, c22, c34, c69, c73]) (rfl)
          · refine kw_iload_n hg 2 dX0_meets_72 rfl rfl ?_
            refine kw_if_lt hg 91 dX0_meets_73 (by decide) (fun c73 => absurd c73 (nI_pos (by have := hb j rfl; omega))) (fun c73 => ?_)
            refine kw_aload_n hg 0 dX0_meets_76 rfl rfl ?_
            refine gX_value hg dX0_meets_77 ?_
            refine kw_iload_n hg 3 dX0_meets_80 rfl rfl ?_
            refine aX_5 hg _ (by omega) dX0_meets_81 ?_
            refine kw_aload_n hg 0 dX0_meets_82 rfl rfl ?_
            refine gX_value hg dX0_meets_83 ?_
            refine kw_iload_n hg 2 dX0_meets_86 rfl rfl ?_
            refine aX_5 hg _ (hb j rfl) dX0_meets_87 ?_
            refine kw_icmp_ge hg 95 dX0_meets_88 (by decide) (fun c88 => ?_) (fun c88 => ?_)
            · refine kw_iconst (v := 0) hg dX0_meets_95 (by decide) ?_
              exact hret _ _ _ _ dX0_meets_96 (by simp [bz, mtX, c7, c22, c34, c69, c73, c88]) (rfl)
            · refine kw_iconst (v := 1) hg dX0_meets_91 (by decide) ?_
              refine kw_goto hg 96 dX0_meets_92 (by decide) ?_
              exact hret _ _ _ _ dX0_meets_96 (by simp [bz, mtX, c7, c22, c34, c69, c73, c88]) (rfl)
      · rcases b with _ | j
        · refine kw_iload_n hg 2 dX0_meets_37 rfl rfl ?_
          refine kw_if_lt hg 56 dX0_meets_38 (by decide) (fun c38 => ?_) (fun c38 => absurd (by decide) c38)
          refine kw_iconst (v := 1) hg dX0_meets_56 (by decide) ?_
          refine kw_goto hg 61 dX0_meets_57 (by decide) ?_
          exact hret _ _ _ _ dX0_meets_61 (by simp [bz, mtX, c7, c22, c34, c38]) (rfl)
        · refine kw_iload_n hg 2 dX0_meets_37 rfl rfl ?_
          refine kw_if_lt hg 56 dX0_meets_38 (by decide) (fun c38 => absurd c38 (nI_pos (by have := hb j rfl; omega))) (fun c38 => ?_)
          refine kw_aload_n hg 0 dX0_meets_41 rfl rfl ?_
          refine gX_value hg dX0_meets_42 ?_
          refine kw_iload_n hg 3 dX0_meets_45 rfl rfl ?_
          refine aX_5 hg _ (by omega) dX0_meets_46 ?_
          refine kw_aload_n hg 0 dX0_meets_47 rfl rfl ?_
          refine gX_value hg dX0_meets_48 ?_
          refine kw_iload_n hg 2 dX0_meets_51 rfl rfl ?_
          refine aX_5 hg _ (hb j rfl) dX0_meets_52 ?_
          refine kw_icmp_le hg 60 dX0_meets_53 (by decide) (fun c53 => ?_) (fun c53 => ?_)
          · refine kw_iconst (v := 0) hg dX0_meets_60 (by decide) ?_
            exact hret _ _ _ _ dX0_meets_61 (by simp [bz, mtX, c7, c22, c34, c38, c53]) (rfl)
          · refine kw_iconst (v := 1) hg dX0_meets_56 (by decide) ?_
            refine kw_goto hg 61 dX0_meets_57 (by decide) ?_
            exact hret _ _ _ _ dX0_meets_61 (by simp [bz, mtX, c7, c22, c34, c38, c53]) (rfl)
    · refine kw_iconst (v := 0) hg dX0_meets_25 (by decide) ?_
      exact hret _ _ _ _ dX0_meets_26 (by simp [bz, mtX, c7, c22]) (rfl)
set_option maxHeartbeats 4000000 in
set_option maxRecDepth 100000 in
theorem mX_inWindow {h : Nat} {ad : Nat → Nat} {dc : Nat → ClassId} {u : Nat → Nat → Int32} {n w c : Int32} {r y o : Nat → Int32} (f e : Nat) (hf : f < 10) (he : e < 10) : kw_I yX0_inWindow cX0_inWindow 2 .boolean 0 0 (tX dc) [.ref h, .int (nI e)] (wX h ad dc u n w c (nI f) r y o) (wX h ad dc u n w c (nI f) r y o) (bz (iwX u w f e)) := by
  refine kw_ofI RX0 (by decide) rfl (bz_nar _) (Nat.le_of_ble_eq_true rfl) (lv := [(0, .ref h), (1, .int (nI e))]) rfl ?_
  intro g hg hret
  refine kw_aload_n hg 0 dX0_inWindow_0 rfl rfl ?_
  refine gX_time hg dX0_inWindow_1 ?_
  refine kw_iload_n hg 1 dX0_inWindow_4 rfl rfl ?_
  refine aX_6 hg _ (by omega) dX0_inWindow_5 ?_
  refine kw_aload_n hg 0 dX0_inWindow_6 rfl rfl ?_
  refine gX_time hg dX0_inWindow_7 ?_
  refine kw_aload_n hg 0 dX0_inWindow_10 rfl rfl ?_
  refine gX_first hg dX0_inWindow_11 ?_
  refine aX_6 hg _ (by omega) dX0_inWindow_14 ?_
  refine kw_isub hg dX0_inWindow_15 ?_
  refine kw_aload_n hg 0 dX0_inWindow_16 rfl rfl ?_
  refine gX_window hg dX0_inWindow_17 ?_
  refine kw_icmp_gt hg 27 dX0_inWindow_20 (by decide) (fun c20 => ?_) (fun c20 => ?_)
  · refine kw_iconst (v := 0) hg dX0_inWindow_27 (by decide) ?_
    exact hret _ _ _ _ dX0_inWindow_28 (by simp [bz, iwX, c20]) (rfl)
  · refine kw_iconst (v := 1) hg dX0_inWindow_23 (by decide) ?_
    refine kw_goto hg 28 dX0_inWindow_24 (by decide) ?_
    exact hret _ _ _ _ dX0_inWindow_28 (by simp [bz, iwX, c20]) (rfl)
set_option maxHeartbeats 4000000 in
set_option maxRecDepth 100000 in
theorem mX_add {h : Nat} {ad : Nat → Nat} {dc : Nat → ClassId} {u : Nat → Nat → Int32} {n w c fi : Int32} {r y o : Nat → Int32} (i : Nat) (v len : Int32) (hi : i < 40) : kw_V yX0_add cX0_add 4 0 0 (tX dc) [.ref h, .int (nI i), .int v, .int len] (wX h ad dc u n w c fi r y o) (wX h ad dc u n w c fi (xAdd i v len (r, o)).1 y (xAdd i v len (r, o)).2) := by
  refine kw_ofV RX0 (by decide) rfl (Nat.le_of_ble_eq_true rfl) (lv := [(0, .ref h), (1, .int (nI i)), (2, .int v), (3, .int len)]) rfl ?_
  intro g hg hret
  refine kw_aload_n hg 0 dX0_add_0 rfl rfl ?_
  refine gX_runs hg dX0_add_1 ?_
  refine kw_iload_n hg 1 dX0_add_4 rfl rfl ?_
  refine kw_aload_n hg 0 dX0_add_5 rfl rfl ?_
  refine gX_runs hg dX0_add_6 ?_
  refine kw_iload_n hg 1 dX0_add_9 rfl rfl ?_
  refine aX_7 hg _ (by omega) dX0_add_10 ?_
  refine kw_iload_n hg 2 dX0_add_11 rfl rfl ?_
  refine kw_iadd hg dX0_add_12 ?_
  refine sX_7 hg _ (by omega) dX0_add_13 ?_
  refine kw_aload_n hg 0 dX0_add_14 rfl rfl ?_
  refine gX_most hg dX0_add_15 ?_
  refine kw_iload_n hg 1 dX0_add_18 rfl rfl ?_
  refine kw_iload_n hg 3 dX0_add_19 rfl rfl ?_
  refine kw_aload_n hg 0 dX0_add_20 rfl rfl ?_
  refine gX_most hg dX0_add_21 ?_
  refine kw_iload_n hg 1 dX0_add_24 rfl rfl ?_
  refine aX_9 hg _ (by omega) dX0_add_25 ?_
  refine kw_icmp_le hg 33 dX0_add_26 (by decide) (fun c26 => ?_) (fun c26 => ?_)
  · refine kw_aload_n hg 0 dX0_add_33 rfl rfl ?_
    refine gX_most hg dX0_add_34 ?_
    refine kw_iload_n hg 1 dX0_add_37 rfl rfl ?_
    refine aX_9 hg _ (by omega) dX0_add_38 ?_
    refine sX_9 hg _ (by omega) dX0_add_39 ?_
    exact hret _ _ _ dX0_add_40 (by simp [xAdd, c26])
  · refine kw_iload_n hg 3 dX0_add_29 rfl rfl ?_
    refine kw_goto hg 39 dX0_add_30 (by decide) ?_
    refine sX_9 hg _ (by omega) dX0_add_39 ?_
    exact hret _ _ _ dX0_add_40 (by simp [xAdd, c26])
set_option maxHeartbeats 4000000 in
set_option maxRecDepth 100000 in
theorem mX_whole {h : Nat} {ad : Nat → Nat} {dc : Nat → ClassId} {u : Nat → Nat → Int32} {n : Nat} {w c fi : Int32} {r y o : Nat → Int32} (e : Nat) (hn : n ≤ 4) (he : e < 10) : kw_I yX0_whole cX0_whole 2 .int 0 0 (tX dc) [.ref h, .int (nI e)] (wX h ad dc u (nI n) w c fi r y o) (wX h ad dc u (nI n) w c fi r y o) (xWh n r e) := by
  refine kw_ofI RX0 (by decide) rfl (vp_nar_int _) (Nat.le_of_ble_eq_true rfl) (lv := [(0, .ref h), (1, .int (nI e))]) rfl ?_
  intro g hg hret
  rcases Nat.eq_zero_or_pos n with hn0 | hn0
  · subst hn0
    refine kw_aload_n hg 0 dX0_whole_0 rfl rfl ?_
    refine gX_steps hg dX0_whole_1 ?_
    refine kw_if_ne hg 11 dX0_whole_4 (by decide) (fun c4 => absurd (nI_0) c4) (fun c4 => ?_)
    refine kw_iconst (v := 0) hg dX0_whole_7 (by decide) ?_
    refine kw_goto hg 27 dX0_whole_8 (by decide) ?_
    exact hret _ _ _ _ dX0_whole_27 (by simp [xWh, c4]) (rfl)
  · refine kw_aload_n hg 0 dX0_whole_0 rfl rfl ?_
    refine gX_steps hg dX0_whole_1 ?_
    refine kw_if_ne hg 11 dX0_whole_4 (by decide) (fun c4 => ?_) (fun c4 => absurd c4 (nI_ne0 hn0 (by omega)))
    refine kw_aload_n hg 0 dX0_whole_11 rfl rfl ?_
    refine gX_runs hg dX0_whole_12 ?_
    refine kw_aload_n hg 0 dX0_whole_15 rfl rfl ?_
    refine gX_steps hg dX0_whole_16 ?_
    refine kw_iconst (v := 1) hg dX0_whole_19 (by decide) ?_
    refine kw_isub hg dX0_whole_20 ?_
    refine kw_bipush (v := 10) hg dX0_whole_21 (by decide) ?_
    refine kw_imul hg dX0_whole_23 ?_
    refine kw_iload_n hg 1 dX0_whole_24 rfl rfl ?_
    refine kw_iadd hg dX0_whole_25 ?_
    refine kw_top (nI ((n - 1) * 10 + e)) (ni_ixp e hn0) ?_
    refine aX_7 hg _ (by omega) dX0_whole_26 ?_
    exact hret _ _ _ _ dX0_whole_27 (by rw [xWh, if_neg (by omega)]) (rfl)
set_option maxHeartbeats 4000000 in
set_option maxRecDepth 100000 in
theorem mX_step {h : Nat} {ad : Nat → Nat} {dc : Nat → ClassId} {u : Nat → Nat → Int32} {n : Nat} {w c fi : Int32} {r y o : Nat → Int32} (t b k : Int32) (hn : n ≤ 4) : kw_I yX0_step cX0_step 5 .int 0 0 (tX dc) [.ref h, .int t, .int b, .int k] (wX h ad dc u (nI n) w c fi r y o) (wX h ad dc (stU (okX t b k) u n t b (k &&& 7) (if k < 8 then 0 else 1)) (nI (stN (okX t b k) n)) w c fi r y o) (stR (okX t b k) n) := by
  refine kw_ofI RX0 (by decide) rfl (vp_nar_int _) (Nat.le_of_ble_eq_true rfl) (lv := [(0, .ref h), (1, .int t), (2, .int b), (3, .int k)]) rfl ?_
  intro g hg hret
  refine kw_iload_n hg 3 dX0_step_0 rfl rfl ?_
  refine kw_bipush (v := 7) hg dX0_step_1 (by decide) ?_
  refine kw_iand hg dX0_step_3 ?_
  refine kw_istore hg [some 0, some 1, some 2, some 3, none] dX0_step_4 (Nat.le_of_ble_eq_true rfl) rfl (lv2 := [(0, _), (1, _), (2, _), (3, _), (4, _)]) rfl ?_
  refine kw_iload_n hg 1 dX0_step_6 rfl rfl ?_
  refine kw_if_lt hg 25 dX0_step_7 (by decide) (fun c7 => ?_) (fun c7 => ?_)
  · refine kw_iconst (v := -1) hg dX0_step_25 (by decide) ?_
    exact hret _ _ _ _ dX0_step_26 (by simp [stR, okX, c7]) (by simp [stU, stN, okX, c7])
  · refine kw_iload_n hg 1 dX0_step_10 rfl rfl ?_
    refine kw_iconst (v := 4) hg dX0_step_11 (by decide) ?_
    refine kw_icmp_gt hg 25 dX0_step_12 (by decide) (fun c12 => ?_) (fun c12 => ?_)
    · refine kw_iconst (v := -1) hg dX0_step_25 (by decide) ?_
      exact hret _ _ _ _ dX0_step_26 (by simp [stR, okX, c7, c12]) (by simp [stU, stN, okX, c7, c12])
    · refine kw_iload_n hg 2 dX0_step_15 rfl rfl ?_
      refine kw_if_lt hg 25 dX0_step_16 (by decide) (fun c16 => ?_) (fun c16 => ?_)
      · refine kw_iconst (v := -1) hg dX0_step_25 (by decide) ?_
        exact hret _ _ _ _ dX0_step_26 (by simp [stR, okX, c7, c12, c16]) (by simp [stU, stN, okX, c7, c12, c16])
      · refine kw_iload_n hg 2 dX0_step_19 rfl rfl ?_
        refine kw_bipush (v := 9) hg dX0_step_20 (by decide) ?_
        refine kw_icmp_le hg 27 dX0_step_22 (by decide) (fun c22 => ?_) (fun c22 => ?_)
        · refine kw_iload_n hg 3 dX0_step_27 rfl rfl ?_
          refine kw_if_lt hg 43 dX0_step_28 (by decide) (fun c28 => ?_) (fun c28 => ?_)
          · refine kw_iconst (v := -1) hg dX0_step_43 (by decide) ?_
            exact hret _ _ _ _ dX0_step_44 (by simp [stR, okX, c7, c12, c16, c22, c28]) (by simp [stU, stN, okX, c7, c12, c16, c22, c28])
          · refine kw_iload_n hg 3 dX0_step_31 rfl rfl ?_
            refine kw_bipush (v := 15) hg dX0_step_32 (by decide) ?_
            refine kw_icmp_gt hg 43 dX0_step_34 (by decide) (fun c34 => ?_) (fun c34 => ?_)
            · refine kw_iconst (v := -1) hg dX0_step_43 (by decide) ?_
              exact hret _ _ _ _ dX0_step_44 (by simp [stR, okX, c7, c12, c16, c22, c28, c34]) (by simp [stU, stN, okX, c7, c12, c16, c22, c28, c34])
            · refine kw_iload hg 4 dX0_step_37 rfl ?_
              refine kw_iconst (v := 4) hg dX0_step_39 (by decide) ?_
              refine kw_icmp_le hg 45 dX0_step_40 (by decide) (fun c40 => ?_) (fun c40 => ?_)
              · rcases Nat.lt_or_ge n 4 with hn4 | hn4
                · refine kw_aload_n hg 0 dX0_step_45 rfl rfl ?_
                  refine gX_steps hg dX0_step_46 ?_
                  refine kw_iconst (v := 4) hg dX0_step_49 (by decide) ?_
                  refine kw_icmp_ne hg 56 dX0_step_50 (by decide) (fun c50 => ?_) (fun c50 => absurd c50 (by rw [show (4 : Int32) = nI 4 from rfl, nI_eq (by omega) (by omega)]; omega))
                  refine kw_aload_n hg 0 dX0_step_56 rfl rfl ?_
                  refine gX_stepType hg dX0_step_57 ?_
                  refine kw_aload_n hg 0 dX0_step_60 rfl rfl ?_
                  refine gX_steps hg dX0_step_61 ?_
                  refine kw_iload_n hg 1 dX0_step_64 rfl rfl ?_
                  refine sX_0 hg _ (by omega) dX0_step_65 ?_
                  refine kw_aload_n hg 0 dX0_step_66 rfl rfl ?_
                  refine gX_stepBound hg dX0_step_67 ?_
                  refine kw_aload_n hg 0 dX0_step_70 rfl rfl ?_
                  refine gX_steps hg dX0_step_71 ?_
                  refine kw_iload_n hg 2 dX0_step_74 rfl rfl ?_
                  refine sX_1 hg _ (by omega) dX0_step_75 ?_
                  refine kw_aload_n hg 0 dX0_step_76 rfl rfl ?_
                  refine gX_stepKind hg dX0_step_77 ?_
                  refine kw_aload_n hg 0 dX0_step_80 rfl rfl ?_
                  refine gX_steps hg dX0_step_81 ?_
                  refine kw_iload hg 4 dX0_step_84 rfl ?_
                  refine sX_2 hg _ (by omega) dX0_step_86 ?_
                  refine kw_aload_n hg 0 dX0_step_87 rfl rfl ?_
                  refine gX_repeats hg dX0_step_88 ?_
                  refine kw_aload_n hg 0 dX0_step_91 rfl rfl ?_
                  refine gX_steps hg dX0_step_92 ?_
                  refine kw_iload_n hg 3 dX0_step_95 rfl rfl ?_
                  refine kw_bipush (v := 8) hg dX0_step_96 (by decide) ?_
                  refine kw_icmp_lt hg 105 dX0_step_98 (by decide) (fun c98 => ?_) (fun c98 => ?_)
                  · refine kw_iconst (v := 0) hg dX0_step_105 (by decide) ?_
                    refine sX_3 hg _ (by omega) (by decide) dX0_step_106 ?_
                    refine kw_aload_n hg 0 dX0_step_107 rfl rfl ?_
                    refine kw_dupr hg dX0_step_108 ?_
                    refine gX_steps hg dX0_step_109 ?_
                    refine kw_iconst (v := 1) hg dX0_step_112 (by decide) ?_
                    refine kw_iadd hg dX0_step_113 ?_
                    refine pX_steps hg dX0_step_114 ?_
                    rw [nI_1]
                    refine kw_aload_n hg 0 dX0_step_117 rfl rfl ?_
                    refine gX_steps hg dX0_step_118 ?_
                    exact hret _ _ _ _ dX0_step_121 (by simp [stR, okX, hn4, c7, c12, c16, c22, c28, c34, c40, c50, c98]) (by simp [stU, stN, okX, hn4, up1, c7, c12, c16, c22, c28, c34, c40, c50, c98])
                  · refine kw_iconst (v := 1) hg dX0_step_101 (by decide) ?_
                    refine kw_goto hg 106 dX0_step_102 (by decide) ?_
                    refine sX_3 hg _ (by omega) (by decide) dX0_step_106 ?_
                    refine kw_aload_n hg 0 dX0_step_107 rfl rfl ?_
                    refine kw_dupr hg dX0_step_108 ?_
                    refine gX_steps hg dX0_step_109 ?_
                    refine kw_iconst (v := 1) hg dX0_step_112 (by decide) ?_
                    refine kw_iadd hg dX0_step_113 ?_
                    refine pX_steps hg dX0_step_114 ?_
                    rw [nI_1]
                    refine kw_aload_n hg 0 dX0_step_117 rfl rfl ?_
                    refine gX_steps hg dX0_step_118 ?_
                    exact hret _ _ _ _ dX0_step_121 (by simp [stR, okX, hn4, c7, c12, c16, c22, c28, c34, c40, c50, c98]) (by simp [stU, stN, okX, hn4, up1, c7, c12, c16, c22, c28, c34, c40, c50, c98])
                · refine kw_aload_n hg 0 dX0_step_45 rfl rfl ?_
                  refine gX_steps hg dX0_step_46 ?_
                  refine kw_iconst (v := 4) hg dX0_step_49 (by decide) ?_
                  refine kw_icmp_ne hg 56 dX0_step_50 (by decide) (fun c50 => absurd (by rw [show n = 4 by omega]; rfl) c50) (fun c50 => ?_)
                  refine kw_bipush (v := -2) hg dX0_step_53 (by decide) ?_
                  exact hret _ _ _ _ dX0_step_55 (by simp [stR, okX, c7, c12, c16, c22, c28, c34, c40, Nat.not_lt.mpr hn4, c50]) (by simp [stU, stN, okX, c7, c12, c16, c22, c28, c34, c40, Nat.not_lt.mpr hn4, c50])
              · refine kw_iconst (v := -1) hg dX0_step_43 (by decide) ?_
                exact hret _ _ _ _ dX0_step_44 (by simp [stR, okX, c7, c12, c16, c22, c28, c34, c40]) (by simp [stU, stN, okX, c7, c12, c16, c22, c28, c34, c40])
        · refine kw_iconst (v := -1) hg dX0_step_25 (by decide) ?_
          exact hret _ _ _ _ dX0_step_26 (by simp [stR, okX, c7, c12, c16, c22]) (by simp [stU, stN, okX, c7, c12, c16, c22])
end
section
/-! contracts of SequencePatterns: runs and ways -/
theorem kw_loc {g : kw_C} {pc : Nat} {lv lv' : List (Nat × Value)} {st : List Value} {w : va_W} (h : lv = lv') (kk : kw_W g pc lv' st w) : kw_W g pc lv st w := by
  subst h
  exact kk
theorem bz_f {b : Bool} (h : bz b = 0) : b = false := by
  cases b with
  | false => rfl
  | true => exact absurd h (by decide)
theorem bz_t {b : Bool} (h : ¬ bz b = 0) : b = true := by
  cases b with
  | false => exact absurd rfl h
  | true => rfl
theorem xZ_0 (r : tyA) : xZ r 0 = r := by funext j; simp [xZ]
theorem xZ_s (r : tyA) (i : Nat) : upd (xZ r i) i 0 = xZ r (i + 1) := by
  funext j
  unfold upd xZ
  by_cases h : j = i
  · subst h; simp
  · rw [if_neg h]
    by_cases h2 : j < i
    · rw [if_pos h2, if_pos (by omega)]
    · rw [if_neg h2, if_neg (by omega)]
theorem ni_m1 {a : Nat} : nI a + Int32.ofInt (-1) = nI a - 1 := by rw [Int32.sub_eq_add_neg]; rfl
theorem ni_p1lt {a b : Nat} (h : a ≤ b) (hb : b < 2 ^ 30) : nI a - 1 < nI b := by
  rcases Nat.eq_zero_or_pos a with ha | ha
  · subst ha
    rw [nI_0]
    exact Int32.lt_of_lt_of_le (show (0 : Int32) - 1 < 0 by decide) (nI_pos' (by omega))
  · rw [ni_pr ha]; exact nI_lt (by omega) (by omega)
theorem ni_p1nlt {a b : Nat} (h : b < a) (ha : a < 2 ^ 30) : ¬ nI a - 1 < nI b := by
  rw [ni_pr (by omega)]; exact nI_nlt (by omega) (by omega)
set_option maxHeartbeats 4000000 in
set_option maxRecDepth 100000 in
theorem mX_extend {h : Nat} {ad : Nat → Nat} {dc : Nat → ClassId} {u : Nat → Nat → Int32} {n : Nat} {w c : Int32} {r y o : Nat → Int32} (f k fr e : Nat) (hf : f < 10) (hk : k < n) (hn : n ≤ 4) (hfr : fr < 10) (he : e < 10) : kw_V yX0_extend cX0_extend 5 1 23 (tX dc) [.ref h, .int (nI k), .int (nI fr), .int (nI e)] (wX h ad dc u (nI n) w c (nI f) r y o) (wX h ad dc u (nI n) w c (nI f) (xExt u n f k fr e (r, o)).1 y (xExt u n f k fr e (r, o)).2) := by
  refine kw_ofV RX0 (by decide) rfl (Nat.le_of_ble_eq_true rfl) (lv := [(0, .ref h), (1, .int (nI k)), (2, .int (nI fr)), (3, .int (nI e))]) rfl ?_
  intro g hg hret
  refine kw_iload_n hg 1 dX0_extend_0 rfl rfl ?_
  refine kw_bipush (v := 10) hg dX0_extend_1 (by decide) ?_
  refine kw_imul hg dX0_extend_3 ?_
  refine kw_iload_n hg 2 dX0_extend_4 rfl rfl ?_
  refine kw_iadd hg dX0_extend_5 ?_
  refine kw_top (nI (k * 10 + fr)) (ni_ix k fr) ?_
  refine kw_istore hg [some 0, some 1, some 2, some 3, none] dX0_extend_6 (Nat.le_of_ble_eq_true rfl) rfl (lv2 := [(0, _), (1, _), (2, _), (3, _), (4, _)]) rfl ?_
  refine kw_aload_n hg 0 dX0_extend_8 rfl rfl ?_
  refine gX_runs hg dX0_extend_9 ?_
  refine kw_iload hg 4 dX0_extend_12 rfl ?_
  refine aX_7 hg _ (by omega) dX0_extend_14 ?_
  refine kw_if_ne hg 19 dX0_extend_15 (by decide) (fun c15 => ?_) (fun c15 => ?_)
  · have t64 : kw_W g 64 [(0, .ref h), (1, .int (nI k)), (2, .int (nI fr)), (3, .int (nI e)), (4, .int (nI (k * 10 + fr)))] [] (wX h ad dc u (nI n) w c (nI f) (xExt1 u f k fr e (r, o)).1 y (xExt1 u f k fr e (r, o)).2) := by
      generalize hq1 : xExt1 u f k fr e (r, o) = q1
      rcases Nat.lt_or_ge (k + 1) n with hkn | hkn
      · refine kw_iload_n hg 1 dX0_extend_64 rfl rfl ?_
        refine kw_iconst (v := 1) hg dX0_extend_65 (by decide) ?_
        refine kw_iadd hg dX0_extend_66 ?_
        refine kw_aload_n hg 0 dX0_extend_67 rfl rfl ?_
        refine gX_steps hg dX0_extend_68 ?_
        refine kw_icmp_ge hg 114 dX0_extend_71 (by decide) (fun c71 => absurd c71 (by rw [nI_1]; exact nI_ge hkn (by omega))) (fun c71 => ?_)
        refine kw_aload_n hg 0 dX0_extend_74 rfl rfl ?_
        refine kw_iload_n hg 1 dX0_extend_75 rfl rfl ?_
        refine kw_iconst (v := 1) hg dX0_extend_76 (by decide) ?_
        refine kw_iadd hg dX0_extend_77 ?_
        refine kw_top (nI (k + 1)) (nI_1 k) ?_
        refine kw_iload_n hg 2 dX0_extend_78 rfl rfl ?_
        refine kw_iload_n hg 3 dX0_extend_79 rfl rfl ?_
        refine kw_calli hg (mX_meets f (k + 1) (some fr) e hf (by omega) he (fun j h => by cases h; exact hfr)) kw_J.self (fun _ _ h => h) lx_X0_meets ly_X0_meets rfl ⟨Nat.le_of_ble_eq_true rfl, Nat.le_of_ble_eq_true rfl⟩ rfl rfl rfl (Nat.le_of_ble_eq_true rfl) dX0_extend_80 ?_
        refine kw_if_eq hg 114 dX0_extend_83 (by decide) (fun c83 => ?_) (fun c83 => ?_)
        · have c83 := bz_f c83
          exact hret _ _ _ dX0_extend_114 (by simp [xExt, c15, hq1, xExt2, hkn, c71, c83])
        · have c83 := bz_t c83
          refine kw_aload_n hg 0 dX0_extend_86 rfl rfl ?_
          refine kw_iload_n hg 1 dX0_extend_87 rfl rfl ?_
          refine kw_iconst (v := 1) hg dX0_extend_88 (by decide) ?_
          refine kw_iadd hg dX0_extend_89 ?_
          refine kw_bipush (v := 10) hg dX0_extend_90 (by decide) ?_
          refine kw_imul hg dX0_extend_92 ?_
          refine kw_iload_n hg 3 dX0_extend_93 rfl rfl ?_
          refine kw_iadd hg dX0_extend_94 ?_
          refine kw_top (nI ((k + 1) * 10 + e)) (ni_ixs k e) ?_
          refine kw_aload_n hg 0 dX0_extend_95 rfl rfl ?_
          refine gX_runs hg dX0_extend_96 ?_
          refine kw_iload hg 4 dX0_extend_99 rfl ?_
          refine aX_7 hg _ (by omega) dX0_extend_101 ?_
          refine kw_aload_n hg 0 dX0_extend_102 rfl rfl ?_
          refine gX_most hg dX0_extend_103 ?_
          refine kw_iload hg 4 dX0_extend_106 rfl ?_
          refine aX_9 hg _ (by omega) dX0_extend_108 ?_
          refine kw_iconst (v := 1) hg dX0_extend_109 (by decide) ?_
          refine kw_iadd hg dX0_extend_110 ?_
          refine kw_callv hg (mX_add ((k + 1) * 10 + e) _ _ (by omega)) kw_J.self (fun _ _ h => h) lx_X0_add ly_X0_add rfl ⟨Nat.le_of_ble_eq_true rfl, Nat.le_of_ble_eq_true rfl⟩ rfl rfl rfl (Nat.le_of_ble_eq_true rfl) dX0_extend_111 ?_
          exact hret _ _ _ dX0_extend_114 (by simp [xExt, c15, hq1, xExt2, hkn, c71, c83])
      · refine kw_iload_n hg 1 dX0_extend_64 rfl rfl ?_
        refine kw_iconst (v := 1) hg dX0_extend_65 (by decide) ?_
        refine kw_iadd hg dX0_extend_66 ?_
        refine kw_aload_n hg 0 dX0_extend_67 rfl rfl ?_
        refine gX_steps hg dX0_extend_68 ?_
        refine kw_icmp_ge hg 114 dX0_extend_71 (by decide) (fun c71 => ?_) (fun c71 => absurd (by rw [nI_1]; exact nI_le hkn (by omega)) c71)
        exact hret _ _ _ dX0_extend_114 (by simp [xExt, c15, hq1, xExt2, Nat.not_lt.mpr hkn, c71])
    refine kw_aload_n hg 0 dX0_extend_19 rfl rfl ?_
    refine gX_repeats hg dX0_extend_20 ?_
    refine kw_iload_n hg 1 dX0_extend_23 rfl rfl ?_
    refine aX_3 hg _ (by omega) dX0_extend_24 ?_
    refine kw_if_eq hg 64 dX0_extend_25 (by decide) (fun c25 => ?_) (fun c25 => ?_)
    · exact kw_eq (by simp [xExt1, c25]) t64
    · refine kw_aload_n hg 0 dX0_extend_28 rfl rfl ?_
      refine kw_iload_n hg 1 dX0_extend_29 rfl rfl ?_
      refine kw_iload_n hg 2 dX0_extend_30 rfl rfl ?_
      refine kw_iload_n hg 3 dX0_extend_31 rfl rfl ?_
      refine kw_calli hg (mX_meets f k (some fr) e hf (by omega) he (fun j h => by cases h; exact hfr)) kw_J.self (fun _ _ h => h) lx_X0_meets ly_X0_meets rfl ⟨Nat.le_of_ble_eq_true rfl, Nat.le_of_ble_eq_true rfl⟩ rfl rfl rfl (Nat.le_of_ble_eq_true rfl) dX0_extend_32 ?_
      refine kw_if_eq hg 64 dX0_extend_35 (by decide) (fun c35 => ?_) (fun c35 => ?_)
      · have c35 := bz_f c35
        exact kw_eq (by simp [xExt1, c25, c35]) t64
      · have c35 := bz_t c35
        refine kw_aload_n hg 0 dX0_extend_38 rfl rfl ?_
        refine kw_iload_n hg 1 dX0_extend_39 rfl rfl ?_
        refine kw_bipush (v := 10) hg dX0_extend_40 (by decide) ?_
        refine kw_imul hg dX0_extend_42 ?_
        refine kw_iload_n hg 3 dX0_extend_43 rfl rfl ?_
        refine kw_iadd hg dX0_extend_44 ?_
        refine kw_top (nI (k * 10 + e)) (ni_ix k e) ?_
        refine kw_aload_n hg 0 dX0_extend_45 rfl rfl ?_
        refine gX_runs hg dX0_extend_46 ?_
        refine kw_iload hg 4 dX0_extend_49 rfl ?_
        refine aX_7 hg _ (by omega) dX0_extend_51 ?_
        refine kw_aload_n hg 0 dX0_extend_52 rfl rfl ?_
        refine gX_most hg dX0_extend_53 ?_
        refine kw_iload hg 4 dX0_extend_56 rfl ?_
        refine aX_9 hg _ (by omega) dX0_extend_58 ?_
        refine kw_iconst (v := 1) hg dX0_extend_59 (by decide) ?_
        refine kw_iadd hg dX0_extend_60 ?_
        refine kw_callv hg (mX_add (k * 10 + e) _ _ (by omega)) kw_J.self (fun _ _ h => h) lx_X0_add ly_X0_add rfl ⟨Nat.le_of_ble_eq_true rfl, Nat.le_of_ble_eq_true rfl⟩ rfl rfl rfl (Nat.le_of_ble_eq_true rfl) dX0_extend_61 ?_
        exact kw_eq (by simp [xExt1, c25, c35]) t64
  · exact hret _ _ _ dX0_extend_18 (by simp [xExt, c15])
set_option maxHeartbeats 4000000 in
set_option maxRecDepth 100000 in
theorem mX_extendAll {h : Nat} {ad : Nat → Nat} {dc : Nat → ClassId} {u : Nat → Nat → Int32} {n : Nat} {w c : Int32} {r y o : Nat → Int32} (f fr e : Nat) (hf : f < 10) (hn : n ≤ 4) (hfr : fr < 10) (he : e < 10) : kw_V yX0_extendAll cX0_extendAll 4 2 47 (tX dc) [.ref h, .int (nI fr), .int (nI e)] (wX h ad dc u (nI n) w c (nI f) r y o) (wX h ad dc u (nI n) w c (nI f) (xExA u n f fr e (r, o) n).1 y (xExA u n f fr e (r, o) n).2) := by
  refine kw_ofV RX0 (by decide) rfl (Nat.le_of_ble_eq_true rfl) (lv := [(0, .ref h), (1, .int (nI fr)), (2, .int (nI e))]) rfl ?_
  intro g hg hret
  refine kw_iconst (v := 0) hg dX0_extendAll_0 (by decide) ?_
  refine kw_top (nI 0) (nI_0.symm) ?_
  refine kw_istore_n hg [some 0, some 1, some 2, none] dX0_extendAll_1 rfl (Nat.le_of_ble_eq_true rfl) rfl (lv2 := [(0, _), (1, _), (2, _), (3, _)]) rfl ?_
  have lp : ∀ d k : Nat, k + d = n → kw_W g 2 [(0, .ref h), (1, .int (nI fr)), (2, .int (nI e)), (3, .int (nI k))] [] (wX h ad dc u (nI n) w c (nI f) (xExA u n f fr e (r, o) k).1 y (xExA u n f fr e (r, o) k).2) := by
    intro d
    induction d with
    | zero =>
      intro k hrlp
      obtain rfl : k = n := by omega
      refine kw_iload_n hg 3 dX0_extendAll_2 rfl rfl ?_
      refine kw_aload_n hg 0 dX0_extendAll_3 rfl rfl ?_
      refine gX_steps hg dX0_extendAll_4 ?_
      refine kw_icmp_ge hg 23 dX0_extendAll_7 (by decide) (fun c7 => ?_) (fun c7 => absurd (nI_le (by omega) (by omega)) c7)
      exact hret _ _ _ dX0_extendAll_23 (rfl)
    | succ d ihlp =>
      intro k hrlp
      refine kw_iload_n hg 3 dX0_extendAll_2 rfl rfl ?_
      refine kw_aload_n hg 0 dX0_extendAll_3 rfl rfl ?_
      refine gX_steps hg dX0_extendAll_4 ?_
      refine kw_icmp_ge hg 23 dX0_extendAll_7 (by decide) (fun c7 => absurd c7 (nI_ge (by omega) (by omega))) (fun c7 => ?_)
      refine kw_aload_n hg 0 dX0_extendAll_10 rfl rfl ?_
      refine kw_iload_n hg 3 dX0_extendAll_11 rfl rfl ?_
      refine kw_iload_n hg 1 dX0_extendAll_12 rfl rfl ?_
      refine kw_iload_n hg 2 dX0_extendAll_13 rfl rfl ?_
      refine kw_callv hg (mX_extend f k fr e hf (by omega) hn hfr he) kw_J.self (fun _ _ h => h) lx_X0_extend ly_X0_extend rfl ⟨Nat.le_of_ble_eq_true rfl, Nat.le_of_ble_eq_true rfl⟩ rfl rfl rfl (Nat.le_of_ble_eq_true rfl) dX0_extendAll_14 ?_
      refine kw_iinc (v := nI (k + 1)) hg 3 [some 0, some 1, some 2, none] dX0_extendAll_17 rfl (nI_1 k) (Nat.le_of_ble_eq_true rfl) rfl (lv2 := [(0, _), (1, _), (2, _), (3, _)]) rfl ?_
      refine kw_goto hg 2 dX0_extendAll_20 (by decide) ?_
      exact ihlp (k + 1) (by omega)
  exact lp n 0 (by omega)
set_option maxHeartbeats 4000000 in
set_option maxRecDepth 100000 in
theorem mX_runFrom {h : Nat} {ad : Nat → Nat} {dc : Nat → ClassId} {u : Nat → Nat → Int32} {n c : Nat} {w fi : Int32} {r y o : Nat → Int32} (f : Nat) (hf : f < c) (hn : n ≤ 4) (hc : c ≤ 10) : kw_V yX0_runFrom cX0_runFrom 4 3 70 (tX dc) [.ref h, .int (nI f)] (wX h ad dc u (nI n) w (nI c) fi r y o) (wX h ad dc u (nI n) w (nI c) (nI f) (xRun u n w c f (r, o)).1 y (xRun u n w c f (r, o)).2) := by
  refine kw_ofV RX0 (by decide) rfl (Nat.le_of_ble_eq_true rfl) (lv := [(0, .ref h), (1, .int (nI f))]) rfl ?_
  intro g hg hret
  refine kw_aload_n hg 0 dX0_runFrom_0 rfl rfl ?_
  refine kw_iload_n hg 1 dX0_runFrom_1 rfl rfl ?_
  refine pX_first hg dX0_runFrom_2 ?_
  refine kw_iconst (v := 0) hg dX0_runFrom_5 (by decide) ?_
  refine kw_top (nI 0) (nI_0.symm) ?_
  refine kw_istore_n hg [some 0, some 1, none] dX0_runFrom_6 rfl (Nat.le_of_ble_eq_true rfl) rfl (lv2 := [(0, _), (1, _), (2, _)]) rfl ?_
  have la : ∀ d i : Nat, i + d = 40 → kw_W g 7 [(0, .ref h), (1, .int (nI f)), (2, .int (nI i))] [] (wX h ad dc u (nI n) w (nI c) (nI f) (xZ r i) y (xZ o i)) := by
    intro d
    induction d with
    | zero =>
      intro i hrla
      obtain rfl : i = 40 := by omega
      refine kw_iload_n hg 2 dX0_runFrom_7 rfl rfl ?_
      refine kw_bipush (v := 40) hg dX0_runFrom_8 (by decide) ?_
      refine kw_icmp_ge hg 33 dX0_runFrom_10 (by decide) (fun c10 => ?_) (fun c10 => absurd (by decide) c10)
      have t57 : kw_W g 57 [(0, .ref h), (1, .int (nI f))] [] (wX h ad dc u (nI n) w (nI c) (nI f) (xR0 u n f (xZ r 40, xZ o 40)).1 y (xR0 u n f (xZ r 40, xZ o 40)).2) := by
        generalize hq0 : xR0 u n f (xZ r 40, xZ o 40) = q0
        refine kw_iload_n hg 1 dX0_runFrom_57 rfl rfl ?_
        refine kw_iconst (v := 1) hg dX0_runFrom_58 (by decide) ?_
        refine kw_iadd hg dX0_runFrom_59 ?_
        refine kw_top (nI (f + 1)) (nI_1 f) ?_
        refine kw_istore_n hg [some 0, some 1, none] dX0_runFrom_60 rfl (Nat.le_of_ble_eq_true rfl) rfl (lv2 := [(0, _), (1, _), (2, _)]) rfl ?_
        have lb : ∀ d i : Nat, i + d = c - (f + 1) → kw_W g 61 [(0, .ref h), (1, .int (nI f)), (2, .int (nI (f + 1 + i)))] [] (wX h ad dc u (nI n) w (nI c) (nI f) (xEv u n w f q0 i).1 y (xEv u n w f q0 i).2) := by
          intro d
          induction d with
          | zero =>
            intro i hrlb
            refine kw_iload_n hg 2 dX0_runFrom_61 rfl rfl ?_
            refine kw_aload_n hg 0 dX0_runFrom_62 rfl rfl ?_
            refine gX_count hg dX0_runFrom_63 ?_
            refine kw_icmp_ge hg 102 dX0_runFrom_66 (by decide) (fun c66 => ?_) (fun c66 => absurd (nI_le (by omega) (by omega)) c66)
            exact hret _ _ _ dX0_runFrom_102 (by rw [show i = c - (f + 1) by omega]; simp [xRun, hq0])
          | succ d ihlb =>
            intro i hrlb
            refine kw_iload_n hg 2 dX0_runFrom_61 rfl rfl ?_
            refine kw_aload_n hg 0 dX0_runFrom_62 rfl rfl ?_
            refine gX_count hg dX0_runFrom_63 ?_
            refine kw_icmp_ge hg 102 dX0_runFrom_66 (by decide) (fun c66 => absurd c66 (nI_ge (by omega) (by omega))) (fun c66 => ?_)
            refine kw_aload_n hg 0 dX0_runFrom_69 rfl rfl ?_
            refine kw_iload_n hg 2 dX0_runFrom_70 rfl rfl ?_
            refine kw_calli hg (mX_inWindow f (f + 1 + i) (by omega) (by omega)) kw_J.self (fun _ _ h => h) lx_X0_inWindow ly_X0_inWindow rfl ⟨Nat.le_of_ble_eq_true rfl, Nat.le_of_ble_eq_true rfl⟩ rfl rfl rfl (Nat.le_of_ble_eq_true rfl) dX0_runFrom_71 ?_
            refine kw_if_eq hg 96 dX0_runFrom_74 (by decide) (fun c74 => ?_) (fun c74 => ?_)
            · have c74 := bz_f c74
              refine kw_iinc (v := nI (f + 1 + (i + 1))) hg 2 [some 0, some 1, none] dX0_runFrom_96 rfl (nI_1 (f + 1 + i)) (Nat.le_of_ble_eq_true rfl) rfl (lv2 := [(0, _), (1, _), (2, _)]) rfl ?_
              refine kw_goto hg 61 dX0_runFrom_99 (by decide) ?_
              exact kw_eq (by simp [xEv, c74]) (ihlb (i + 1) (by omega))
            · have c74 := bz_t c74
              refine kw_iload_n hg 1 dX0_runFrom_77 rfl rfl ?_
              refine kw_istore_n hg [some 0, some 1, some 2, none] dX0_runFrom_78 rfl (Nat.le_of_ble_eq_true rfl) rfl (lv2 := [(0, _), (1, _), (2, _), (3, _)]) rfl ?_
              have lc : ∀ d j : Nat, j + d = 1 + i → kw_W g 79 [(0, .ref h), (1, .int (nI f)), (2, .int (nI (f + 1 + i))), (3, .int (nI (f + j)))] [] (wX h ad dc u (nI n) w (nI c) (nI f) (xFr u n f (f + 1 + i) (xEv u n w f q0 i) j).1 y (xFr u n f (f + 1 + i) (xEv u n w f q0 i) j).2) := by
                intro d
                induction d with
                | zero =>
                  intro j hrlc
                  obtain rfl : j = 1 + i := by omega
                  refine kw_iload_n hg 3 dX0_runFrom_79 rfl rfl ?_
                  refine kw_iload_n hg 2 dX0_runFrom_80 rfl rfl ?_
                  refine kw_icmp_ge hg 96 dX0_runFrom_81 (by decide) (fun c81 => ?_) (fun c81 => absurd (nI_le (by omega) (by omega)) c81)
                  refine kw_iinc (v := nI (f + 1 + (i + 1))) hg 2 [some 0, some 1, none, some 3] dX0_runFrom_96 rfl (nI_1 (f + 1 + i)) (Nat.le_of_ble_eq_true rfl) rfl (lv2 := [(0, _), (1, _), (2, _), (3, _)]) rfl ?_
                  refine kw_goto hg 61 dX0_runFrom_99 (by decide) ?_
                  refine kw_less [0, 1, 2] (lv' := [(0, _), (1, _), (2, _)]) rfl ?_
                  exact kw_eq (by simp [xEv, c74]) (ihlb (i + 1) (by omega))
                | succ d ihlc =>
                  intro j hrlc
                  refine kw_iload_n hg 3 dX0_runFrom_79 rfl rfl ?_
                  refine kw_iload_n hg 2 dX0_runFrom_80 rfl rfl ?_
                  refine kw_icmp_ge hg 96 dX0_runFrom_81 (by decide) (fun c81 => absurd c81 (nI_ge (by omega) (by omega))) (fun c81 => ?_)
                  refine kw_aload_n hg 0 dX0_runFrom_84 rfl rfl ?_
                  refine kw_iload_n hg 3 dX0_runFrom_85 rfl rfl ?_
                  refine kw_iload_n hg 2 dX0_runFrom_86 rfl rfl ?_
                  refine kw_callv hg (mX_extendAll f (f + j) (f + 1 + i) (by omega) hn (by omega) (by omega)) kw_J.self (fun _ _ h => h) lx_X0_extendAll ly_X0_extendAll rfl ⟨Nat.le_of_ble_eq_true rfl, Nat.le_of_ble_eq_true rfl⟩ rfl rfl rfl (Nat.le_of_ble_eq_true rfl) dX0_runFrom_87 ?_
                  refine kw_iinc (v := nI (f + (j + 1))) hg 3 [some 0, some 1, some 2, none] dX0_runFrom_90 rfl (nI_1 (f + j)) (Nat.le_of_ble_eq_true rfl) rfl (lv2 := [(0, _), (1, _), (2, _), (3, _)]) rfl ?_
                  refine kw_goto hg 79 dX0_runFrom_93 (by decide) ?_
                  exact ihlc (j + 1) (by omega)
              exact lc (1 + i) 0 (by omega)
        exact lb (c - (f + 1)) 0 (by omega)
      rcases Nat.eq_zero_or_pos n with hn0 | hn0
      · subst hn0
        refine kw_aload_n hg 0 dX0_runFrom_33 rfl rfl ?_
        refine gX_steps hg dX0_runFrom_34 ?_
        refine kw_if_le hg 57 dX0_runFrom_37 (by decide) (fun c37 => ?_) (fun c37 => absurd (by rw [nI_0]; decide) c37)
        refine kw_less [0, 1] (lv' := [(0, _), (1, _)]) rfl ?_
        exact kw_eq (by simp [xR0, ]) t57
      · refine kw_aload_n hg 0 dX0_runFrom_33 rfl rfl ?_
        refine gX_steps hg dX0_runFrom_34 ?_
        refine kw_if_le hg 57 dX0_runFrom_37 (by decide) (fun c37 => absurd c37 (nI_nle hn0 (by omega))) (fun c37 => ?_)
        refine kw_aload_n hg 0 dX0_runFrom_40 rfl rfl ?_
        refine kw_iconst (v := 0) hg dX0_runFrom_41 (by decide) ?_
        refine kw_top (nI 0) (nI_0.symm) ?_
        refine kw_iconst (v := -1) hg dX0_runFrom_42 (by decide) ?_
        refine kw_iload_n hg 1 dX0_runFrom_43 rfl rfl ?_
        refine kw_calli hg (mX_meets f 0 none f (by omega) (by omega) (by omega) (fun j h => by cases h)) kw_J.self (fun _ _ h => h) lx_X0_meets ly_X0_meets rfl ⟨Nat.le_of_ble_eq_true rfl, Nat.le_of_ble_eq_true rfl⟩ rfl rfl rfl (Nat.le_of_ble_eq_true rfl) dX0_runFrom_44 ?_
        refine kw_if_eq hg 57 dX0_runFrom_47 (by decide) (fun c47 => ?_) (fun c47 => ?_)
        · have c47 := bz_f c47
          refine kw_less [0, 1] (lv' := [(0, _), (1, _)]) rfl ?_
          exact kw_eq (by simp [xR0, hn0, c47]) t57
        · have c47 := bz_t c47
          refine kw_aload_n hg 0 dX0_runFrom_50 rfl rfl ?_
          refine kw_iload_n hg 1 dX0_runFrom_51 rfl rfl ?_
          refine kw_iconst (v := 1) hg dX0_runFrom_52 (by decide) ?_
          refine kw_iconst (v := 1) hg dX0_runFrom_53 (by decide) ?_
          refine kw_callv hg (mX_add f 1 1 (by omega)) kw_J.self (fun _ _ h => h) lx_X0_add ly_X0_add rfl ⟨Nat.le_of_ble_eq_true rfl, Nat.le_of_ble_eq_true rfl⟩ rfl rfl rfl (Nat.le_of_ble_eq_true rfl) dX0_runFrom_54 ?_
          refine kw_less [0, 1] (lv' := [(0, _), (1, _)]) rfl ?_
          exact kw_eq (by simp [xR0, hn0, c47]) t57
    | succ d ihla =>
      intro i hrla
      refine kw_iload_n hg 2 dX0_runFrom_7 rfl rfl ?_
      refine kw_bipush (v := 40) hg dX0_runFrom_8 (by decide) ?_
      refine kw_icmp_ge hg 33 dX0_runFrom_10 (by decide) (fun c10 => absurd c10 (by rw [show (40 : Int32) = nI 40 from rfl]; exact nI_ge (by omega) (by omega))) (fun c10 => ?_)
      refine kw_aload_n hg 0 dX0_runFrom_13 rfl rfl ?_
      refine gX_runs hg dX0_runFrom_14 ?_
      refine kw_iload_n hg 2 dX0_runFrom_17 rfl rfl ?_
      refine kw_iconst (v := 0) hg dX0_runFrom_18 (by decide) ?_
      refine sX_7 hg _ (by omega) dX0_runFrom_19 ?_
      refine kw_aload_n hg 0 dX0_runFrom_20 rfl rfl ?_
      refine gX_most hg dX0_runFrom_21 ?_
      refine kw_iload_n hg 2 dX0_runFrom_24 rfl rfl ?_
      refine kw_iconst (v := 0) hg dX0_runFrom_25 (by decide) ?_
      refine sX_9 hg _ (by omega) dX0_runFrom_26 ?_
      refine kw_iinc (v := nI (i + 1)) hg 2 [some 0, some 1, none] dX0_runFrom_27 rfl (nI_1 i) (Nat.le_of_ble_eq_true rfl) rfl (lv2 := [(0, _), (1, _), (2, _)]) rfl ?_
      refine kw_goto hg 7 dX0_runFrom_30 (by decide) ?_
      rw [xZ_s, xZ_s]
      exact ihla (i + 1) (by omega)
  have la0 := la 40 0 (by omega)
  rw [xZ_0, xZ_0] at la0
  exact la0
set_option maxHeartbeats 4000000 in
set_option maxRecDepth 100000 in
theorem mX_waysOn {h : Nat} {ad : Nat → Nat} {dc : Nat → ClassId} {u : Nat → Nat → Int32} {n c : Nat} {w : Int32} {r y o : Nat → Int32} (f k e : Nat) (hf : f < 10) (hk : k < n) (hn : n ≤ 4) (he : e < c) (hc : c ≤ 10) : kw_I yX0_waysOn cX0_waysOn 5 .int 1 23 (tX dc) [.ref h, .int (nI k), .int (nI e)] (wX h ad dc u (nI n) w (nI c) (nI f) r y o) (wX h ad dc u (nI n) w (nI c) (nI f) r y o) (xWo u n w f k e y (c - (e + 1))) := by
  refine kw_ofI RX0 (by decide) rfl (vp_nar_int _) (Nat.le_of_ble_eq_true rfl) (lv := [(0, .ref h), (1, .int (nI k)), (2, .int (nI e))]) rfl ?_
  intro g hg hret
  have t16 : kw_W g 16 [(0, .ref h), (1, .int (nI k)), (2, .int (nI e)), (3, .int (xWo u n w f k e y 0))] [] (wX h ad dc u (nI n) w (nI c) (nI f) r y o) := by
    refine kw_iload_n hg 2 dX0_waysOn_16 rfl rfl ?_
    refine kw_iconst (v := 1) hg dX0_waysOn_17 (by decide) ?_
    refine kw_iadd hg dX0_waysOn_18 ?_
    refine kw_top (nI (e + 1)) (nI_1 e) ?_
    refine kw_istore hg [some 0, some 1, some 2, some 3, none] dX0_waysOn_19 (Nat.le_of_ble_eq_true rfl) rfl (lv2 := [(0, _), (1, _), (2, _), (3, _), (4, _)]) rfl ?_
    have lp : ∀ d i : Nat, i + d = c - (e + 1) → kw_W g 21 [(0, .ref h), (1, .int (nI k)), (2, .int (nI e)), (3, .int (xWo u n w f k e y i)), (4, .int (nI (e + 1 + i)))] [] (wX h ad dc u (nI n) w (nI c) (nI f) r y o) := by
      intro d
      induction d with
      | zero =>
        intro i hrlp
        refine kw_iload hg 4 dX0_waysOn_21 rfl ?_
        refine kw_aload_n hg 0 dX0_waysOn_23 rfl rfl ?_
        refine gX_count hg dX0_waysOn_24 ?_
        refine kw_icmp_ge hg 120 dX0_waysOn_27 (by decide) (fun c27 => ?_) (fun c27 => absurd (nI_le (by omega) (by omega)) c27)
        refine kw_iload_n hg 3 dX0_waysOn_120 rfl rfl ?_
        exact hret _ _ _ _ dX0_waysOn_121 (by rw [show i = c - (e + 1) by omega]) (rfl)
      | succ d ihlp =>
        intro i hrlp
        refine kw_iload hg 4 dX0_waysOn_21 rfl ?_
        refine kw_aload_n hg 0 dX0_waysOn_23 rfl rfl ?_
        refine gX_count hg dX0_waysOn_24 ?_
        refine kw_icmp_ge hg 120 dX0_waysOn_27 (by decide) (fun c27 => absurd c27 (nI_ge (by omega) (by omega))) (fun c27 => ?_)
        refine kw_aload_n hg 0 dX0_waysOn_30 rfl rfl ?_
        refine kw_iload hg 4 dX0_waysOn_31 rfl ?_
        refine kw_calli hg (mX_inWindow f (e + 1 + i) hf (by omega)) kw_J.self (fun _ _ h => h) lx_X0_inWindow ly_X0_inWindow rfl ⟨Nat.le_of_ble_eq_true rfl, Nat.le_of_ble_eq_true rfl⟩ rfl rfl rfl (Nat.le_of_ble_eq_true rfl) dX0_waysOn_33 ?_
        refine kw_if_eq hg 114 dX0_waysOn_36 (by decide) (fun c36 => ?_) (fun c36 => ?_)
        · have c36 := bz_f c36
          refine kw_iinc (v := nI (e + 1 + (i + 1))) hg 4 [some 0, some 1, some 2, some 3, none] dX0_waysOn_114 rfl (nI_1 (e + 1 + i)) (Nat.le_of_ble_eq_true rfl) rfl (lv2 := [(0, _), (1, _), (2, _), (3, _), (4, _)]) rfl ?_
          refine kw_goto hg 21 dX0_waysOn_117 (by decide) ?_
          exact kw_loc (by simp [xWo, c36]) (ihlp (i + 1) (by omega))
        · have c36 := bz_t c36
          have t74 : kw_W g 74 [(0, .ref h), (1, .int (nI k)), (2, .int (nI e)), (3, .int (xWo1 u f k e (e + 1 + i) y (xWo u n w f k e y i))), (4, .int (nI (e + 1 + i)))] [] (wX h ad dc u (nI n) w (nI c) (nI f) r y o) := by
            rcases Nat.lt_or_ge (k + 1) n with hkn | hkn
            · refine kw_iload_n hg 1 dX0_waysOn_74 rfl rfl ?_
              refine kw_iconst (v := 1) hg dX0_waysOn_75 (by decide) ?_
              refine kw_iadd hg dX0_waysOn_76 ?_
              refine kw_aload_n hg 0 dX0_waysOn_77 rfl rfl ?_
              refine gX_steps hg dX0_waysOn_78 ?_
              refine kw_icmp_ge hg 114 dX0_waysOn_81 (by decide) (fun c81 => absurd c81 (by rw [nI_1]; exact nI_ge hkn (by omega))) (fun c81 => ?_)
              refine kw_aload_n hg 0 dX0_waysOn_84 rfl rfl ?_
              refine kw_iload_n hg 1 dX0_waysOn_85 rfl rfl ?_
              refine kw_iconst (v := 1) hg dX0_waysOn_86 (by decide) ?_
              refine kw_iadd hg dX0_waysOn_87 ?_
              refine kw_top (nI (k + 1)) (nI_1 k) ?_
              refine kw_iload_n hg 2 dX0_waysOn_88 rfl rfl ?_
              refine kw_iload hg 4 dX0_waysOn_89 rfl ?_
              refine kw_calli hg (mX_meets f (k + 1) (some e) (e + 1 + i) hf (by omega) (by omega) (fun j h => by cases h; omega)) kw_J.self (fun _ _ h => h) lx_X0_meets ly_X0_meets rfl ⟨Nat.le_of_ble_eq_true rfl, Nat.le_of_ble_eq_true rfl⟩ rfl rfl rfl (Nat.le_of_ble_eq_true rfl) dX0_waysOn_91 ?_
              refine kw_if_eq hg 114 dX0_waysOn_94 (by decide) (fun c94 => ?_) (fun c94 => ?_)
              · have c94 := bz_f c94
                refine kw_iinc (v := nI (e + 1 + (i + 1))) hg 4 [some 0, some 1, some 2, some 3, none] dX0_waysOn_114 rfl (nI_1 (e + 1 + i)) (Nat.le_of_ble_eq_true rfl) rfl (lv2 := [(0, _), (1, _), (2, _), (3, _), (4, _)]) rfl ?_
                refine kw_goto hg 21 dX0_waysOn_117 (by decide) ?_
                exact kw_loc (by simp [xWo, c36, xWo2, hkn, c94]) (ihlp (i + 1) (by omega))
              · have c94 := bz_t c94
                refine kw_iload_n hg 3 dX0_waysOn_97 rfl rfl ?_
                refine kw_aload_n hg 0 dX0_waysOn_98 rfl rfl ?_
                refine gX_ways hg dX0_waysOn_99 ?_
                refine kw_iload_n hg 1 dX0_waysOn_102 rfl rfl ?_
                refine kw_iconst (v := 1) hg dX0_waysOn_103 (by decide) ?_
                refine kw_iadd hg dX0_waysOn_104 ?_
                refine kw_bipush (v := 10) hg dX0_waysOn_105 (by decide) ?_
                refine kw_imul hg dX0_waysOn_107 ?_
                refine kw_iload hg 4 dX0_waysOn_108 rfl ?_
                refine kw_iadd hg dX0_waysOn_110 ?_
                refine kw_top (nI ((k + 1) * 10 + (e + 1 + i))) (ni_ixs k _) ?_
                refine aX_8 hg _ (by omega) dX0_waysOn_111 ?_
                refine kw_iadd hg dX0_waysOn_112 ?_
                refine kw_istore_n hg [some 0, some 1, some 2, none, some 4] dX0_waysOn_113 rfl (Nat.le_of_ble_eq_true rfl) rfl (lv2 := [(0, _), (1, _), (2, _), (3, _), (4, _)]) rfl ?_
                refine kw_iinc (v := nI (e + 1 + (i + 1))) hg 4 [some 0, some 1, some 2, some 3, none] dX0_waysOn_114 rfl (nI_1 (e + 1 + i)) (Nat.le_of_ble_eq_true rfl) rfl (lv2 := [(0, _), (1, _), (2, _), (3, _), (4, _)]) rfl ?_
                refine kw_goto hg 21 dX0_waysOn_117 (by decide) ?_
                exact kw_loc (by simp [xWo, c36, xWo2, hkn, c94]) (ihlp (i + 1) (by omega))
            · refine kw_iload_n hg 1 dX0_waysOn_74 rfl rfl ?_
              refine kw_iconst (v := 1) hg dX0_waysOn_75 (by decide) ?_
              refine kw_iadd hg dX0_waysOn_76 ?_
              refine kw_aload_n hg 0 dX0_waysOn_77 rfl rfl ?_
              refine gX_steps hg dX0_waysOn_78 ?_
              refine kw_icmp_ge hg 114 dX0_waysOn_81 (by decide) (fun c81 => ?_) (fun c81 => absurd (by rw [nI_1]; exact nI_le hkn (by omega)) c81)
              refine kw_iinc (v := nI (e + 1 + (i + 1))) hg 4 [some 0, some 1, some 2, some 3, none] dX0_waysOn_114 rfl (nI_1 (e + 1 + i)) (Nat.le_of_ble_eq_true rfl) rfl (lv2 := [(0, _), (1, _), (2, _), (3, _), (4, _)]) rfl ?_
              refine kw_goto hg 21 dX0_waysOn_117 (by decide) ?_
              exact kw_loc (by simp [xWo, c36, xWo2, Nat.not_lt.mpr hkn]) (ihlp (i + 1) (by omega))
          refine kw_aload_n hg 0 dX0_waysOn_39 rfl rfl ?_
          refine gX_repeats hg dX0_waysOn_40 ?_
          refine kw_iload_n hg 1 dX0_waysOn_43 rfl rfl ?_
          refine aX_3 hg _ (by omega) dX0_waysOn_44 ?_
          refine kw_if_eq hg 74 dX0_waysOn_45 (by decide) (fun c45 => ?_) (fun c45 => ?_)
          · exact kw_loc (by simp [xWo1, c45]) t74
          · refine kw_aload_n hg 0 dX0_waysOn_48 rfl rfl ?_
            refine kw_iload_n hg 1 dX0_waysOn_49 rfl rfl ?_
            refine kw_iload_n hg 2 dX0_waysOn_50 rfl rfl ?_
            refine kw_iload hg 4 dX0_waysOn_51 rfl ?_
            refine kw_calli hg (mX_meets f k (some e) (e + 1 + i) hf (by omega) (by omega) (fun j h => by cases h; omega)) kw_J.self (fun _ _ h => h) lx_X0_meets ly_X0_meets rfl ⟨Nat.le_of_ble_eq_true rfl, Nat.le_of_ble_eq_true rfl⟩ rfl rfl rfl (Nat.le_of_ble_eq_true rfl) dX0_waysOn_53 ?_
            refine kw_if_eq hg 74 dX0_waysOn_56 (by decide) (fun c56 => ?_) (fun c56 => ?_)
            · have c56 := bz_f c56
              exact kw_loc (by simp [xWo1, c45, c56]) t74
            · have c56 := bz_t c56
              refine kw_iload_n hg 3 dX0_waysOn_59 rfl rfl ?_
              refine kw_aload_n hg 0 dX0_waysOn_60 rfl rfl ?_
              refine gX_ways hg dX0_waysOn_61 ?_
              refine kw_iload_n hg 1 dX0_waysOn_64 rfl rfl ?_
              refine kw_bipush (v := 10) hg dX0_waysOn_65 (by decide) ?_
              refine kw_imul hg dX0_waysOn_67 ?_
              refine kw_iload hg 4 dX0_waysOn_68 rfl ?_
              refine kw_iadd hg dX0_waysOn_70 ?_
              refine kw_top (nI (k * 10 + (e + 1 + i))) (ni_ix k _) ?_
              refine aX_8 hg _ (by omega) dX0_waysOn_71 ?_
              refine kw_iadd hg dX0_waysOn_72 ?_
              refine kw_istore_n hg [some 0, some 1, some 2, none, some 4] dX0_waysOn_73 rfl (Nat.le_of_ble_eq_true rfl) rfl (lv2 := [(0, _), (1, _), (2, _), (3, _), (4, _)]) rfl ?_
              exact kw_loc (by simp [xWo1, c45, c56]) t74
    exact lp (c - (e + 1)) 0 (by omega)
  rcases (show k + 1 = n ∨ k + 1 < n by omega) with hkn | hkn
  · refine kw_iload_n hg 1 dX0_waysOn_0 rfl rfl ?_
    refine kw_aload_n hg 0 dX0_waysOn_1 rfl rfl ?_
    refine gX_steps hg dX0_waysOn_2 ?_
    refine kw_iconst (v := 1) hg dX0_waysOn_5 (by decide) ?_
    refine kw_isub hg dX0_waysOn_6 ?_
    refine kw_icmp_ne hg 14 dX0_waysOn_7 (by decide) (fun c7 => absurd (by rw [ni_pr (by omega), show n - 1 = k by omega]) c7) (fun c7 => ?_)
    refine kw_iconst (v := 1) hg dX0_waysOn_10 (by decide) ?_
    refine kw_goto hg 15 dX0_waysOn_11 (by decide) ?_
    refine kw_top (xWo u n w f k e y 0) (by simp [xWo, hkn]) ?_
    refine kw_istore_n hg [some 0, some 1, some 2, none] dX0_waysOn_15 rfl (Nat.le_of_ble_eq_true rfl) rfl (lv2 := [(0, _), (1, _), (2, _), (3, _)]) rfl ?_
    exact t16
  · refine kw_iload_n hg 1 dX0_waysOn_0 rfl rfl ?_
    refine kw_aload_n hg 0 dX0_waysOn_1 rfl rfl ?_
    refine gX_steps hg dX0_waysOn_2 ?_
    refine kw_iconst (v := 1) hg dX0_waysOn_5 (by decide) ?_
    refine kw_isub hg dX0_waysOn_6 ?_
    refine kw_icmp_ne hg 14 dX0_waysOn_7 (by decide) (fun c7 => ?_) (fun c7 => absurd c7 (by rw [ni_pr (by omega), nI_eq (by omega) (by omega)]; omega))
    refine kw_iconst (v := 0) hg dX0_waysOn_14 (by decide) ?_
    refine kw_top (xWo u n w f k e y 0) (by simp [xWo, Nat.ne_of_lt hkn]) ?_
    refine kw_istore_n hg [some 0, some 1, some 2, none] dX0_waysOn_15 rfl (Nat.le_of_ble_eq_true rfl) rfl (lv2 := [(0, _), (1, _), (2, _), (3, _)]) rfl ?_
    exact t16
set_option maxHeartbeats 4000000 in
set_option maxRecDepth 100000 in
theorem mX_waysFrom {h : Nat} {ad : Nat → Nat} {dc : Nat → ClassId} {u : Nat → Nat → Int32} {n c : Nat} {w fi : Int32} {r y o : Nat → Int32} (f : Nat) (hf : f < c) (hn : n ≤ 4) (hc : c ≤ 10) : kw_V yX0_waysFrom cX0_waysFrom 4 2 47 (tX dc) [.ref h, .int (nI f)] (wX h ad dc u (nI n) w (nI c) fi r y o) (wX h ad dc u (nI n) w (nI c) (nI f) r (xWe u n w c f y (c - f)) o) := by
  refine kw_ofV RX0 (by decide) rfl (Nat.le_of_ble_eq_true rfl) (lv := [(0, .ref h), (1, .int (nI f))]) rfl ?_
  intro g hg hret
  refine kw_aload_n hg 0 dX0_waysFrom_0 rfl rfl ?_
  refine kw_iload_n hg 1 dX0_waysFrom_1 rfl rfl ?_
  refine pX_first hg dX0_waysFrom_2 ?_
  refine kw_aload_n hg 0 dX0_waysFrom_5 rfl rfl ?_
  refine gX_count hg dX0_waysFrom_6 ?_
  refine kw_iconst (v := 1) hg dX0_waysFrom_9 (by decide) ?_
  refine kw_isub hg dX0_waysFrom_10 ?_
  refine kw_istore_n hg [some 0, some 1, none] dX0_waysFrom_11 rfl (Nat.le_of_ble_eq_true rfl) rfl (lv2 := [(0, _), (1, _), (2, _)]) rfl ?_
  have lo : ∀ d i : Nat, i + d = c - f → kw_W g 12 [(0, .ref h), (1, .int (nI f)), (2, .int (nI (c - i) - 1))] [] (wX h ad dc u (nI n) w (nI c) (nI f) r (xWe u n w c f y i) o) := by
    intro d
    induction d with
    | zero =>
      intro i hrlo
      refine kw_iload_n hg 2 dX0_waysFrom_12 rfl rfl ?_
      refine kw_iload_n hg 1 dX0_waysFrom_13 rfl rfl ?_
      refine kw_icmp_lt hg 57 dX0_waysFrom_14 (by decide) (fun c14 => ?_) (fun c14 => absurd (ni_p1lt (by omega) (by omega)) c14)
      exact hret _ _ _ dX0_waysFrom_57 (by rw [show i = c - f by omega])
    | succ d ihlo =>
      intro i hrlo
      refine kw_iload_n hg 2 dX0_waysFrom_12 rfl rfl ?_
      refine kw_iload_n hg 1 dX0_waysFrom_13 rfl rfl ?_
      refine kw_icmp_lt hg 57 dX0_waysFrom_14 (by decide) (fun c14 => absurd c14 (ni_p1nlt (by omega) (by omega))) (fun c14 => ?_)
      refine kw_loc (lv' := [(0, .ref h), (1, .int (nI f)), (2, .int (nI (c - 1 - i)))]) (by rw [ni_pr (by omega), show c - i - 1 = c - 1 - i by omega]) ?_
      refine kw_aload_n hg 0 dX0_waysFrom_17 rfl rfl ?_
      refine gX_steps hg dX0_waysFrom_18 ?_
      refine kw_iconst (v := 1) hg dX0_waysFrom_21 (by decide) ?_
      refine kw_isub hg dX0_waysFrom_22 ?_
      refine kw_istore_n hg [some 0, some 1, some 2, none] dX0_waysFrom_23 rfl (Nat.le_of_ble_eq_true rfl) rfl (lv2 := [(0, _), (1, _), (2, _), (3, _)]) rfl ?_
      have lk : ∀ d j : Nat, j + d = n → kw_W g 24 [(0, .ref h), (1, .int (nI f)), (2, .int (nI (c - 1 - i))), (3, .int (nI (n - j) - 1))] [] (wX h ad dc u (nI n) w (nI c) (nI f) r (xWk u n w c f (c - 1 - i) (xWe u n w c f y i) j) o) := by
        intro d
        induction d with
        | zero =>
          intro j hrlk
          obtain rfl : n = j := by omega
          refine kw_iload_n hg 3 dX0_waysFrom_24 rfl rfl ?_
          refine kw_if_lt hg 51 dX0_waysFrom_25 (by decide) (fun c25 => ?_) (fun c25 => absurd (by rw [Nat.sub_self, nI_0]; decide) c25)
          refine kw_iinc (v := nI (c - (i + 1)) - 1) hg 2 [some 0, some 1, none, some 3] dX0_waysFrom_51 rfl (by rw [ni_m1, show c - (i + 1) = c - 1 - i by omega]) (Nat.le_of_ble_eq_true rfl) rfl (lv2 := [(0, _), (1, _), (2, _), (3, _)]) rfl ?_
          refine kw_goto hg 12 dX0_waysFrom_54 (by decide) ?_
          refine kw_less [0, 1, 2] (lv' := [(0, _), (1, _), (2, _)]) rfl ?_
          exact ihlo (i + 1) (by omega)
        | succ d ihlk =>
          intro j hrlk
          refine kw_iload_n hg 3 dX0_waysFrom_24 rfl rfl ?_
          refine kw_if_lt hg 51 dX0_waysFrom_25 (by decide) (fun c25 => absurd c25 (by rw [ni_pr (by omega)]; exact nI_pos (by omega))) (fun c25 => ?_)
          refine kw_loc (lv' := [(0, .ref h), (1, .int (nI f)), (2, .int (nI (c - 1 - i))), (3, .int (nI (n - 1 - j)))]) (by rw [ni_pr (by omega), show n - j - 1 = n - 1 - j by omega]) ?_
          refine kw_aload_n hg 0 dX0_waysFrom_28 rfl rfl ?_
          refine gX_ways hg dX0_waysFrom_29 ?_
          refine kw_iload_n hg 3 dX0_waysFrom_32 rfl rfl ?_
          refine kw_bipush (v := 10) hg dX0_waysFrom_33 (by decide) ?_
          refine kw_imul hg dX0_waysFrom_35 ?_
          refine kw_iload_n hg 2 dX0_waysFrom_36 rfl rfl ?_
          refine kw_iadd hg dX0_waysFrom_37 ?_
          refine kw_top (nI ((n - 1 - j) * 10 + (c - 1 - i))) (ni_ix _ _) ?_
          refine kw_aload_n hg 0 dX0_waysFrom_38 rfl rfl ?_
          refine kw_iload_n hg 3 dX0_waysFrom_39 rfl rfl ?_
          refine kw_iload_n hg 2 dX0_waysFrom_40 rfl rfl ?_
          refine kw_calli hg (mX_waysOn f (n - 1 - j) (c - 1 - i) (by omega) (by omega) hn (by omega) hc) kw_J.self (fun _ _ h => h) lx_X0_waysOn ly_X0_waysOn rfl ⟨Nat.le_of_ble_eq_true rfl, Nat.le_of_ble_eq_true rfl⟩ rfl rfl rfl (Nat.le_of_ble_eq_true rfl) dX0_waysFrom_41 ?_
          refine sX_8 hg _ (by omega) dX0_waysFrom_44 ?_
          refine kw_iinc (v := nI (n - (j + 1)) - 1) hg 3 [some 0, some 1, some 2, none] dX0_waysFrom_45 rfl (by rw [ni_m1, show n - (j + 1) = n - 1 - j by omega]) (Nat.le_of_ble_eq_true rfl) rfl (lv2 := [(0, _), (1, _), (2, _), (3, _)]) rfl ?_
          refine kw_goto hg 24 dX0_waysFrom_48 (by decide) ?_
          exact ihlk (j + 1) (by omega)
      exact lk n 0 (by omega)
  exact lo (c - f) 0 (by omega)
end
section
/-! contracts of SequencePatterns: the questions, and event -/
theorem noev_in {e c : Nat} (h : e < c) (hc : c ≤ 10) : bz (decide (nI e < 0) || decide (¬ nI e < nI c)) = 0 := by
  have h1 : ¬ nI e < 0 := nI_pos (by omega)
  have h2 : nI e < nI c := nI_lt h (by omega)
  simp [bz, h1, h2]
theorem wh_pos {n : Nat} {r : tyA} {e : Nat} (h : ¬ xWh n r e ≤ 0) : 0 < n := by
  rcases Nat.eq_zero_or_pos n with q | q
  · subst q
    exact absurd (show xWh 0 r e ≤ 0 from by show (0 : Int32) ≤ 0; decide) h
  · exact q
def okE (t v g : Int32) : Bool := decide (¬ t < 0 ∧ ¬ 3 < t ∧ ¬ v < 0 ∧ ¬ 9 < v ∧ ¬ g < 0 ∧ g ≤ 5)
def evU (u : Nat → Nat → Int32) (c : Nat) (t v g : Int32) : Nat → Nat → Int32 := up1 (up1 (up1 u 4 c t) 5 c v) 6 c ((if c = 0 then 0 else (up1 (up1 u 4 c t) 5 c v) 6 (c - 1)) + g)
set_option maxHeartbeats 4000000 in
set_option maxRecDepth 100000 in
theorem mX_endingAt_out {h : Nat} {ad : Nat → Nat} {dc : Nat → ClassId} {u : Nat → Nat → Int32} {n w c fi : Int32} {r y o : Nat → Int32} (p : Int32) (hp : (decide (p < 0) || decide (¬ p < c)) = true) : kw_I yX0_endingAt cX0_endingAt 5 .int 4 93 (tX dc) [.ref h, .int p] (wX h ad dc u n w c fi r y o) (wX h ad dc u n w c fi r y o) (-4) := by
  refine kw_ofI RX0 (by decide) rfl (vp_nar_int _) (Nat.le_of_ble_eq_true rfl) (lv := [(0, .ref h), (1, .int p)]) rfl ?_
  intro g hg hret
  refine kw_aload_n hg 0 dX0_endingAt_0 rfl rfl ?_
  refine kw_iload_n hg 1 dX0_endingAt_1 rfl rfl ?_
  refine kw_calli hg (mX_noEvent p) kw_J.self (fun _ _ h => h) lx_X0_noEvent ly_X0_noEvent rfl ⟨Nat.le_of_ble_eq_true rfl, Nat.le_of_ble_eq_true rfl⟩ rfl rfl rfl (Nat.le_of_ble_eq_true rfl) dX0_endingAt_2 ?_
  refine kw_if_eq hg 11 dX0_endingAt_5 (by decide) (fun c5 => absurd c5 (by rw [hp]; decide)) (fun c5 => ?_)
  refine kw_bipush (v := -4) hg dX0_endingAt_8 (by decide) ?_
  exact hret _ _ _ _ dX0_endingAt_10 (rfl) (rfl)
set_option maxHeartbeats 4000000 in
set_option maxRecDepth 100000 in
theorem mX_endingAt {h : Nat} {ad : Nat → Nat} {dc : Nat → ClassId} {u : Nat → Nat → Int32} {n c : Nat} {w fi : Int32} {r y o : Nat → Int32} (e : Nat) (he : e < c) (hn : n ≤ 4) (hc : c ≤ 10) : kw_I yX0_endingAt cX0_endingAt 5 .int 4 93 (tX dc) [.ref h, .int (nI e)] (wX h ad dc u (nI n) w (nI c) fi r y o) (wX h ad dc u (nI n) w (nI c) (zEnd u n w c (fi, r, y, o) (e + 1)).1 (zEnd u n w c (fi, r, y, o) (e + 1)).2.1 (zEnd u n w c (fi, r, y, o) (e + 1)).2.2.1 (zEnd u n w c (fi, r, y, o) (e + 1)).2.2.2) (sEnd u n w c e (fi, r, y, o) (e + 1)) := by
  refine kw_ofI RX0 (by decide) rfl (vp_nar_int _) (Nat.le_of_ble_eq_true rfl) (lv := [(0, .ref h), (1, .int (nI e))]) rfl ?_
  intro g hg hret
  refine kw_aload_n hg 0 dX0_endingAt_0 rfl rfl ?_
  refine kw_iload_n hg 1 dX0_endingAt_1 rfl rfl ?_
  refine kw_calli hg (mX_noEvent (nI e)) kw_J.self (fun _ _ h => h) lx_X0_noEvent ly_X0_noEvent rfl ⟨Nat.le_of_ble_eq_true rfl, Nat.le_of_ble_eq_true rfl⟩ rfl rfl rfl (Nat.le_of_ble_eq_true rfl) dX0_endingAt_2 ?_
  refine kw_if_eq hg 11 dX0_endingAt_5 (by decide) (fun c5 => ?_) (fun c5 => absurd (noev_in he hc) c5)
  refine kw_iconst (v := 0) hg dX0_endingAt_11 (by decide) ?_
  refine kw_istore_n hg [some 0, some 1, none] dX0_endingAt_12 rfl (Nat.le_of_ble_eq_true rfl) rfl (lv2 := [(0, _), (1, _), (2, _)]) rfl ?_
  refine kw_iconst (v := 0) hg dX0_endingAt_13 (by decide) ?_
  refine kw_top (nI 0) (nI_0.symm) ?_
  refine kw_istore_n hg [some 0, some 1, some 2, none] dX0_endingAt_14 rfl (Nat.le_of_ble_eq_true rfl) rfl (lv2 := [(0, _), (1, _), (2, _), (3, _)]) rfl ?_
  have lp : ∀ d i : Nat, i + d = e + 1 → kw_W g 15 [(0, .ref h), (1, .int (nI e)), (2, .int (sEnd u n w c e (fi, r, y, o) i)), (3, .int (nI i))] [] (wX h ad dc u (nI n) w (nI c) (zEnd u n w c (fi, r, y, o) i).1 (zEnd u n w c (fi, r, y, o) i).2.1 (zEnd u n w c (fi, r, y, o) i).2.2.1 (zEnd u n w c (fi, r, y, o) i).2.2.2) := by
    intro d
    induction d with
    | zero =>
      intro i hrlp
      obtain rfl : i = e + 1 := by omega
      refine kw_iload_n hg 3 dX0_endingAt_15 rfl rfl ?_
      refine kw_iload_n hg 1 dX0_endingAt_16 rfl rfl ?_
      refine kw_icmp_gt hg 43 dX0_endingAt_17 (by decide) (fun c17 => ?_) (fun c17 => absurd (nI_lt (by omega) (by omega)) c17)
      refine kw_iload_n hg 2 dX0_endingAt_43 rfl rfl ?_
      exact hret _ _ _ _ dX0_endingAt_44 (rfl) (rfl)
    | succ d ihlp =>
      intro i hrlp
      refine kw_iload_n hg 3 dX0_endingAt_15 rfl rfl ?_
      refine kw_iload_n hg 1 dX0_endingAt_16 rfl rfl ?_
      refine kw_icmp_gt hg 43 dX0_endingAt_17 (by decide) (fun c17 => absurd c17 (nI_nlt (by omega) (by omega))) (fun c17 => ?_)
      refine kw_aload_n hg 0 dX0_endingAt_20 rfl rfl ?_
      refine kw_iload_n hg 3 dX0_endingAt_21 rfl rfl ?_
      refine kw_callv hg (mX_runFrom i (by omega) hn hc) kw_J.self (fun _ _ h => h) lx_X0_runFrom ly_X0_runFrom rfl ⟨Nat.le_of_ble_eq_true rfl, Nat.le_of_ble_eq_true rfl⟩ rfl rfl rfl (Nat.le_of_ble_eq_true rfl) dX0_endingAt_22 ?_
      refine kw_aload_n hg 0 dX0_endingAt_25 rfl rfl ?_
      refine kw_iload_n hg 1 dX0_endingAt_26 rfl rfl ?_
      refine kw_calli hg (mX_whole e hn (by omega)) kw_J.self (fun _ _ h => h) lx_X0_whole ly_X0_whole rfl ⟨Nat.le_of_ble_eq_true rfl, Nat.le_of_ble_eq_true rfl⟩ rfl rfl rfl (Nat.le_of_ble_eq_true rfl) dX0_endingAt_27 ?_
      refine kw_istore hg [some 0, some 1, some 2, some 3, none] dX0_endingAt_30 (Nat.le_of_ble_eq_true rfl) rfl (lv2 := [(0, _), (1, _), (2, _), (3, _), (4, _)]) rfl ?_
      refine kw_iload_n hg 2 dX0_endingAt_32 rfl rfl ?_
      refine kw_iload hg 4 dX0_endingAt_33 rfl ?_
      refine kw_iadd hg dX0_endingAt_35 ?_
      refine kw_istore_n hg [some 0, some 1, none, some 3, some 4] dX0_endingAt_36 rfl (Nat.le_of_ble_eq_true rfl) rfl (lv2 := [(0, _), (1, _), (2, _), (3, _), (4, _)]) rfl ?_
      refine kw_iinc (v := nI (i + 1)) hg 3 [some 0, some 1, some 2, none, some 4] dX0_endingAt_37 rfl (nI_1 i) (Nat.le_of_ble_eq_true rfl) rfl (lv2 := [(0, _), (1, _), (2, _), (3, _), (4, _)]) rfl ?_
      refine kw_goto hg 15 dX0_endingAt_40 (by decide) ?_
      refine kw_less [0, 1, 2, 3] (lv' := [(0, _), (1, _), (2, _), (3, _)]) rfl ?_
      exact ihlp (i + 1) (by omega)
  exact lp (e + 1) 0 (by omega)
set_option maxHeartbeats 4000000 in
set_option maxRecDepth 100000 in
theorem mX_beginningAt_out {h : Nat} {ad : Nat → Nat} {dc : Nat → ClassId} {u : Nat → Nat → Int32} {n w c fi : Int32} {r y o : Nat → Int32} (p : Int32) (hp : (decide (p < 0) || decide (¬ p < c)) = true) : kw_I yX0_beginningAt cX0_beginningAt 5 .int 4 93 (tX dc) [.ref h, .int p] (wX h ad dc u n w c fi r y o) (wX h ad dc u n w c fi r y o) (-4) := by
  refine kw_ofI RX0 (by decide) rfl (vp_nar_int _) (Nat.le_of_ble_eq_true rfl) (lv := [(0, .ref h), (1, .int p)]) rfl ?_
  intro g hg hret
  refine kw_aload_n hg 0 dX0_beginningAt_0 rfl rfl ?_
  refine kw_iload_n hg 1 dX0_beginningAt_1 rfl rfl ?_
  refine kw_calli hg (mX_noEvent p) kw_J.self (fun _ _ h => h) lx_X0_noEvent ly_X0_noEvent rfl ⟨Nat.le_of_ble_eq_true rfl, Nat.le_of_ble_eq_true rfl⟩ rfl rfl rfl (Nat.le_of_ble_eq_true rfl) dX0_beginningAt_2 ?_
  refine kw_if_eq hg 11 dX0_beginningAt_5 (by decide) (fun c5 => absurd c5 (by rw [hp]; decide)) (fun c5 => ?_)
  refine kw_bipush (v := -4) hg dX0_beginningAt_8 (by decide) ?_
  exact hret _ _ _ _ dX0_beginningAt_10 (rfl) (rfl)
set_option maxHeartbeats 4000000 in
set_option maxRecDepth 100000 in
theorem mX_beginningAt {h : Nat} {ad : Nat → Nat} {dc : Nat → ClassId} {u : Nat → Nat → Int32} {n c : Nat} {w fi : Int32} {r y o : Nat → Int32} (e : Nat) (he : e < c) (hn : n ≤ 4) (hc : c ≤ 10) : kw_I yX0_beginningAt cX0_beginningAt 5 .int 4 93 (tX dc) [.ref h, .int (nI e)] (wX h ad dc u (nI n) w (nI c) fi r y o) (wX h ad dc u (nI n) w (nI c) (zRun u n w c e (fi, r, y, o)).1 (zRun u n w c e (fi, r, y, o)).2.1 (zRun u n w c e (fi, r, y, o)).2.2.1 (zRun u n w c e (fi, r, y, o)).2.2.2) (xBeg u n w c e (fi, r, y, o)) := by
  refine kw_ofI RX0 (by decide) rfl (vp_nar_int _) (Nat.le_of_ble_eq_true rfl) (lv := [(0, .ref h), (1, .int (nI e))]) rfl ?_
  intro g hg hret
  refine kw_aload_n hg 0 dX0_beginningAt_0 rfl rfl ?_
  refine kw_iload_n hg 1 dX0_beginningAt_1 rfl rfl ?_
  refine kw_calli hg (mX_noEvent (nI e)) kw_J.self (fun _ _ h => h) lx_X0_noEvent ly_X0_noEvent rfl ⟨Nat.le_of_ble_eq_true rfl, Nat.le_of_ble_eq_true rfl⟩ rfl rfl rfl (Nat.le_of_ble_eq_true rfl) dX0_beginningAt_2 ?_
  refine kw_if_eq hg 11 dX0_beginningAt_5 (by decide) (fun c5 => ?_) (fun c5 => absurd (noev_in he hc) c5)
  refine kw_aload_n hg 0 dX0_beginningAt_11 rfl rfl ?_
  refine kw_iload_n hg 1 dX0_beginningAt_12 rfl rfl ?_
  refine kw_callv hg (mX_runFrom e he hn hc) kw_J.self (fun _ _ h => h) lx_X0_runFrom ly_X0_runFrom rfl ⟨Nat.le_of_ble_eq_true rfl, Nat.le_of_ble_eq_true rfl⟩ rfl rfl rfl (Nat.le_of_ble_eq_true rfl) dX0_beginningAt_13 ?_
  refine kw_iconst (v := 0) hg dX0_beginningAt_16 (by decide) ?_
  refine kw_istore_n hg [some 0, some 1, none] dX0_beginningAt_17 rfl (Nat.le_of_ble_eq_true rfl) rfl (lv2 := [(0, _), (1, _), (2, _)]) rfl ?_
  refine kw_iload_n hg 1 dX0_beginningAt_18 rfl rfl ?_
  refine kw_istore_n hg [some 0, some 1, some 2, none] dX0_beginningAt_19 rfl (Nat.le_of_ble_eq_true rfl) rfl (lv2 := [(0, _), (1, _), (2, _), (3, _)]) rfl ?_
  have lp : ∀ d i : Nat, i + d = c - e → kw_W g 20 [(0, .ref h), (1, .int (nI e)), (2, .int (sBeg n (zRun u n w c e (fi, r, y, o)).2.1 e i)), (3, .int (nI (e + i)))] [] (wX h ad dc u (nI n) w (nI c) (zRun u n w c e (fi, r, y, o)).1 (zRun u n w c e (fi, r, y, o)).2.1 (zRun u n w c e (fi, r, y, o)).2.2.1 (zRun u n w c e (fi, r, y, o)).2.2.2) := by
    intro d
    induction d with
    | zero =>
      intro i hrlp
      obtain rfl : i = c - e := by omega
      refine kw_iload_n hg 3 dX0_beginningAt_20 rfl rfl ?_
      refine kw_aload_n hg 0 dX0_beginningAt_21 rfl rfl ?_
      refine gX_count hg dX0_beginningAt_22 ?_
      refine kw_icmp_ge hg 46 dX0_beginningAt_25 (by decide) (fun c25 => ?_) (fun c25 => absurd (nI_le (by omega) (by omega)) c25)
      refine kw_iload_n hg 2 dX0_beginningAt_46 rfl rfl ?_
      exact hret _ _ _ _ dX0_beginningAt_47 (rfl) (rfl)
    | succ d ihlp =>
      intro i hrlp
      refine kw_iload_n hg 3 dX0_beginningAt_20 rfl rfl ?_
      refine kw_aload_n hg 0 dX0_beginningAt_21 rfl rfl ?_
      refine gX_count hg dX0_beginningAt_22 ?_
      refine kw_icmp_ge hg 46 dX0_beginningAt_25 (by decide) (fun c25 => absurd c25 (nI_ge (by omega) (by omega))) (fun c25 => ?_)
      refine kw_aload_n hg 0 dX0_beginningAt_28 rfl rfl ?_
      refine kw_iload_n hg 3 dX0_beginningAt_29 rfl rfl ?_
      refine kw_calli hg (mX_whole (e + i) hn (by omega)) kw_J.self (fun _ _ h => h) lx_X0_whole ly_X0_whole rfl ⟨Nat.le_of_ble_eq_true rfl, Nat.le_of_ble_eq_true rfl⟩ rfl rfl rfl (Nat.le_of_ble_eq_true rfl) dX0_beginningAt_30 ?_
      refine kw_istore hg [some 0, some 1, some 2, some 3, none] dX0_beginningAt_33 (Nat.le_of_ble_eq_true rfl) rfl (lv2 := [(0, _), (1, _), (2, _), (3, _), (4, _)]) rfl ?_
      refine kw_iload_n hg 2 dX0_beginningAt_35 rfl rfl ?_
      refine kw_iload hg 4 dX0_beginningAt_36 rfl ?_
      refine kw_iadd hg dX0_beginningAt_38 ?_
      refine kw_istore_n hg [some 0, some 1, none, some 3, some 4] dX0_beginningAt_39 rfl (Nat.le_of_ble_eq_true rfl) rfl (lv2 := [(0, _), (1, _), (2, _), (3, _), (4, _)]) rfl ?_
      refine kw_iinc (v := nI (e + (i + 1))) hg 3 [some 0, some 1, some 2, none, some 4] dX0_beginningAt_40 rfl (nI_1 (e + i)) (Nat.le_of_ble_eq_true rfl) rfl (lv2 := [(0, _), (1, _), (2, _), (3, _), (4, _)]) rfl ?_
      refine kw_goto hg 20 dX0_beginningAt_43 (by decide) ?_
      refine kw_less [0, 1, 2, 3] (lv' := [(0, _), (1, _), (2, _), (3, _)]) rfl ?_
      exact ihlp (i + 1) (by omega)
  exact lp (c - e) 0 (by omega)
set_option maxHeartbeats 4000000 in
set_option maxRecDepth 100000 in
theorem mX_finds {h : Nat} {ad : Nat → Nat} {dc : Nat → ClassId} {u : Nat → Nat → Int32} {n c : Nat} {w fi : Int32} {r y o : Nat → Int32} (hn : n ≤ 4) (hc : c ≤ 10) : kw_I yX0_finds cX0_finds 4 .int 5 117 (tX dc) [.ref h] (wX h ad dc u (nI n) w (nI c) fi r y o) (wX h ad dc u (nI n) w (nI c) (zEnd u n w c (fi, r, y, o) c).1 (zEnd u n w c (fi, r, y, o) c).2.1 (zEnd u n w c (fi, r, y, o) c).2.2.1 (zEnd u n w c (fi, r, y, o) c).2.2.2) (sFin u n w c (fi, r, y, o) c) := by
  refine kw_ofI RX0 (by decide) rfl (vp_nar_int _) (Nat.le_of_ble_eq_true rfl) (lv := [(0, .ref h)]) rfl ?_
  intro g hg hret
  refine kw_iconst (v := 0) hg dX0_finds_0 (by decide) ?_
  refine kw_istore_n hg [some 0, none] dX0_finds_1 rfl (Nat.le_of_ble_eq_true rfl) rfl (lv2 := [(0, _), (1, _)]) rfl ?_
  refine kw_iconst (v := 0) hg dX0_finds_2 (by decide) ?_
  refine kw_top (nI 0) (nI_0.symm) ?_
  refine kw_istore_n hg [some 0, some 1, none] dX0_finds_3 rfl (Nat.le_of_ble_eq_true rfl) rfl (lv2 := [(0, _), (1, _), (2, _)]) rfl ?_
  have lp : ∀ d i : Nat, i + d = c → kw_W g 4 [(0, .ref h), (1, .int (sFin u n w c (fi, r, y, o) i)), (2, .int (nI i))] [] (wX h ad dc u (nI n) w (nI c) (zEnd u n w c (fi, r, y, o) i).1 (zEnd u n w c (fi, r, y, o) i).2.1 (zEnd u n w c (fi, r, y, o) i).2.2.1 (zEnd u n w c (fi, r, y, o) i).2.2.2) := by
    intro d
    induction d with
    | zero =>
      intro i hrlp
      obtain rfl : c = i := by omega
      refine kw_iload_n hg 2 dX0_finds_4 rfl rfl ?_
      refine kw_aload_n hg 0 dX0_finds_5 rfl rfl ?_
      refine gX_count hg dX0_finds_6 ?_
      refine kw_icmp_ge hg 28 dX0_finds_9 (by decide) (fun c9 => ?_) (fun c9 => absurd (nI_le (by omega) (by omega)) c9)
      refine kw_iload_n hg 1 dX0_finds_28 rfl rfl ?_
      exact hret _ _ _ _ dX0_finds_29 (rfl) (rfl)
    | succ d ihlp =>
      intro i hrlp
      refine kw_iload_n hg 2 dX0_finds_4 rfl rfl ?_
      refine kw_aload_n hg 0 dX0_finds_5 rfl rfl ?_
      refine gX_count hg dX0_finds_6 ?_
      refine kw_icmp_ge hg 28 dX0_finds_9 (by decide) (fun c9 => absurd c9 (nI_ge (by omega) (by omega))) (fun c9 => ?_)
      refine kw_aload_n hg 0 dX0_finds_12 rfl rfl ?_
      refine kw_iload_n hg 2 dX0_finds_13 rfl rfl ?_
      refine kw_calli hg (mX_beginningAt i (by omega) hn hc) kw_J.self (fun _ _ h => h) lx_X0_beginningAt ly_X0_beginningAt rfl ⟨Nat.le_of_ble_eq_true rfl, Nat.le_of_ble_eq_true rfl⟩ rfl rfl rfl (Nat.le_of_ble_eq_true rfl) dX0_finds_14 ?_
      refine kw_istore_n hg [some 0, some 1, some 2, none] dX0_finds_17 rfl (Nat.le_of_ble_eq_true rfl) rfl (lv2 := [(0, _), (1, _), (2, _), (3, _)]) rfl ?_
      refine kw_iload_n hg 1 dX0_finds_18 rfl rfl ?_
      refine kw_iload_n hg 3 dX0_finds_19 rfl rfl ?_
      refine kw_iadd hg dX0_finds_20 ?_
      refine kw_istore_n hg [some 0, none, some 2, some 3] dX0_finds_21 rfl (Nat.le_of_ble_eq_true rfl) rfl (lv2 := [(0, _), (1, _), (2, _), (3, _)]) rfl ?_
      refine kw_iinc (v := nI (i + 1)) hg 2 [some 0, some 1, none, some 3] dX0_finds_22 rfl (nI_1 i) (Nat.le_of_ble_eq_true rfl) rfl (lv2 := [(0, _), (1, _), (2, _), (3, _)]) rfl ?_
      refine kw_goto hg 4 dX0_finds_25 (by decide) ?_
      refine kw_less [0, 1, 2] (lv' := [(0, _), (1, _), (2, _)]) rfl ?_
      exact ihlp (i + 1) (by omega)
  exact lp c 0 (by omega)
set_option maxHeartbeats 4000000 in
set_option maxRecDepth 100000 in
theorem mX_using_out {h : Nat} {ad : Nat → Nat} {dc : Nat → ClassId} {u : Nat → Nat → Int32} {n w c fi : Int32} {r y o : Nat → Int32} (p : Int32) (hp : (decide (p < 0) || decide (¬ p < c)) = true) : kw_I yX0_using cX0_using 5 .int 4 93 (tX dc) [.ref h, .int p] (wX h ad dc u n w c fi r y o) (wX h ad dc u n w c fi r y o) (-4) := by
  refine kw_ofI RX0 (by decide) rfl (vp_nar_int _) (Nat.le_of_ble_eq_true rfl) (lv := [(0, .ref h), (1, .int p)]) rfl ?_
  intro g hg hret
  refine kw_aload_n hg 0 dX0_using_0 rfl rfl ?_
  refine kw_iload_n hg 1 dX0_using_1 rfl rfl ?_
  refine kw_calli hg (mX_noEvent p) kw_J.self (fun _ _ h => h) lx_X0_noEvent ly_X0_noEvent rfl ⟨Nat.le_of_ble_eq_true rfl, Nat.le_of_ble_eq_true rfl⟩ rfl rfl rfl (Nat.le_of_ble_eq_true rfl) dX0_using_2 ?_
  refine kw_if_eq hg 11 dX0_using_5 (by decide) (fun c5 => absurd c5 (by rw [hp]; decide)) (fun c5 => ?_)
  refine kw_bipush (v := -4) hg dX0_using_8 (by decide) ?_
  exact hret _ _ _ _ dX0_using_10 (rfl) (rfl)
set_option maxHeartbeats 4000000 in
set_option maxRecDepth 100000 in
theorem mX_using {h : Nat} {ad : Nat → Nat} {dc : Nat → ClassId} {u : Nat → Nat → Int32} {n c : Nat} {w fi : Int32} {r y o : Nat → Int32} (e : Nat) (he : e < c) (hn : n ≤ 4) (hc : c ≤ 10) : kw_I yX0_using cX0_using 5 .int 4 93 (tX dc) [.ref h, .int (nI e)] (wX h ad dc u (nI n) w (nI c) fi r y o) (wX h ad dc u (nI n) w (nI c) (zUse u n w c (fi, r, y, o) (e + 1)).1 (zUse u n w c (fi, r, y, o) (e + 1)).2.1 (zUse u n w c (fi, r, y, o) (e + 1)).2.2.1 (zUse u n w c (fi, r, y, o) (e + 1)).2.2.2) (sUse u n w c e (fi, r, y, o) (e + 1)) := by
  refine kw_ofI RX0 (by decide) rfl (vp_nar_int _) (Nat.le_of_ble_eq_true rfl) (lv := [(0, .ref h), (1, .int (nI e))]) rfl ?_
  intro g hg hret
  refine kw_aload_n hg 0 dX0_using_0 rfl rfl ?_
  refine kw_iload_n hg 1 dX0_using_1 rfl rfl ?_
  refine kw_calli hg (mX_noEvent (nI e)) kw_J.self (fun _ _ h => h) lx_X0_noEvent ly_X0_noEvent rfl ⟨Nat.le_of_ble_eq_true rfl, Nat.le_of_ble_eq_true rfl⟩ rfl rfl rfl (Nat.le_of_ble_eq_true rfl) dX0_using_2 ?_
  refine kw_if_eq hg 11 dX0_using_5 (by decide) (fun c5 => ?_) (fun c5 => absurd (noev_in he hc) c5)
  refine kw_iconst (v := 0) hg dX0_using_11 (by decide) ?_
  refine kw_istore_n hg [some 0, some 1, none] dX0_using_12 rfl (Nat.le_of_ble_eq_true rfl) rfl (lv2 := [(0, _), (1, _), (2, _)]) rfl ?_
  refine kw_iconst (v := 0) hg dX0_using_13 (by decide) ?_
  refine kw_top (nI 0) (nI_0.symm) ?_
  refine kw_istore_n hg [some 0, some 1, some 2, none] dX0_using_14 rfl (Nat.le_of_ble_eq_true rfl) rfl (lv2 := [(0, _), (1, _), (2, _), (3, _)]) rfl ?_
  have lp : ∀ d i : Nat, i + d = e + 1 → kw_W g 15 [(0, .ref h), (1, .int (nI e)), (2, .int (sUse u n w c e (fi, r, y, o) i)), (3, .int (nI i))] [] (wX h ad dc u (nI n) w (nI c) (zUse u n w c (fi, r, y, o) i).1 (zUse u n w c (fi, r, y, o) i).2.1 (zUse u n w c (fi, r, y, o) i).2.2.1 (zUse u n w c (fi, r, y, o) i).2.2.2) := by
    intro d
    induction d with
    | zero =>
      intro i hrlp
      obtain rfl : i = e + 1 := by omega
      refine kw_iload_n hg 3 dX0_using_15 rfl rfl ?_
      refine kw_iload_n hg 1 dX0_using_16 rfl rfl ?_
      refine kw_icmp_gt hg 82 dX0_using_17 (by decide) (fun c17 => ?_) (fun c17 => absurd (nI_lt (by omega) (by omega)) c17)
      refine kw_iload_n hg 2 dX0_using_82 rfl rfl ?_
      exact hret _ _ _ _ dX0_using_83 (rfl) (rfl)
    | succ d ihlp =>
      intro i hrlp
      refine kw_iload_n hg 3 dX0_using_15 rfl rfl ?_
      refine kw_iload_n hg 1 dX0_using_16 rfl rfl ?_
      refine kw_icmp_gt hg 82 dX0_using_17 (by decide) (fun c17 => absurd c17 (nI_nlt (by omega) (by omega))) (fun c17 => ?_)
      refine kw_aload_n hg 0 dX0_using_20 rfl rfl ?_
      refine kw_iload_n hg 3 dX0_using_21 rfl rfl ?_
      refine kw_callv hg (mX_runFrom i (by omega) hn hc) kw_J.self (fun _ _ h => h) lx_X0_runFrom ly_X0_runFrom rfl ⟨Nat.le_of_ble_eq_true rfl, Nat.le_of_ble_eq_true rfl⟩ rfl rfl rfl (Nat.le_of_ble_eq_true rfl) dX0_using_22 ?_
      refine kw_aload_n hg 0 dX0_using_25 rfl rfl ?_
      refine kw_iload_n hg 3 dX0_using_26 rfl rfl ?_
      refine kw_callv hg (mX_waysFrom i (by omega) hn hc) kw_J.self (fun _ _ h => h) lx_X0_waysFrom ly_X0_waysFrom rfl ⟨Nat.le_of_ble_eq_true rfl, Nat.le_of_ble_eq_true rfl⟩ rfl rfl rfl (Nat.le_of_ble_eq_true rfl) dX0_using_27 ?_
      refine kw_iconst (v := 0) hg dX0_using_30 (by decide) ?_
      refine kw_top (nI 0) (nI_0.symm) ?_
      refine kw_istore hg [some 0, some 1, some 2, some 3, none] dX0_using_31 (Nat.le_of_ble_eq_true rfl) rfl (lv2 := [(0, _), (1, _), (2, _), (3, _), (4, _)]) rfl ?_
      have lk : ∀ d k : Nat, k + d = n → kw_W g 33 [(0, .ref h), (1, .int (nI e)), (2, .int (sUsk (zUse u n w c (fi, r, y, o) (i + 1)).2.1 (zUse u n w c (fi, r, y, o) (i + 1)).2.2.1 e (sUse u n w c e (fi, r, y, o) i) k)), (3, .int (nI i)), (4, .int (nI k))] [] (wX h ad dc u (nI n) w (nI c) (zUse u n w c (fi, r, y, o) (i + 1)).1 (zUse u n w c (fi, r, y, o) (i + 1)).2.1 (zUse u n w c (fi, r, y, o) (i + 1)).2.2.1 (zUse u n w c (fi, r, y, o) (i + 1)).2.2.2) := by
        intro d
        induction d with
        | zero =>
          intro k hrlk
          obtain rfl : n = k := by omega
          refine kw_iload hg 4 dX0_using_33 rfl ?_
          refine kw_aload_n hg 0 dX0_using_35 rfl rfl ?_
          refine gX_steps hg dX0_using_36 ?_
          refine kw_icmp_ge hg 76 dX0_using_39 (by decide) (fun c39 => ?_) (fun c39 => absurd (nI_le (by omega) (by omega)) c39)
          refine kw_iinc (v := nI (i + 1)) hg 3 [some 0, some 1, some 2, none, some 4] dX0_using_76 rfl (nI_1 i) (Nat.le_of_ble_eq_true rfl) rfl (lv2 := [(0, _), (1, _), (2, _), (3, _), (4, _)]) rfl ?_
          refine kw_goto hg 15 dX0_using_79 (by decide) ?_
          refine kw_less [0, 1, 2, 3] (lv' := [(0, _), (1, _), (2, _), (3, _)]) rfl ?_
          exact ihlp (i + 1) (by omega)
        | succ d ihlk =>
          intro k hrlk
          refine kw_iload hg 4 dX0_using_33 rfl ?_
          refine kw_aload_n hg 0 dX0_using_35 rfl rfl ?_
          refine gX_steps hg dX0_using_36 ?_
          refine kw_icmp_ge hg 76 dX0_using_39 (by decide) (fun c39 => absurd c39 (nI_ge (by omega) (by omega))) (fun c39 => ?_)
          refine kw_iload_n hg 2 dX0_using_42 rfl rfl ?_
          refine kw_aload_n hg 0 dX0_using_43 rfl rfl ?_
          refine gX_runs hg dX0_using_44 ?_
          refine kw_iload hg 4 dX0_using_47 rfl ?_
          refine kw_bipush (v := 10) hg dX0_using_49 (by decide) ?_
          refine kw_imul hg dX0_using_51 ?_
          refine kw_iload_n hg 1 dX0_using_52 rfl rfl ?_
          refine kw_iadd hg dX0_using_53 ?_
          refine kw_top (nI (k * 10 + e)) (ni_ix k e) ?_
          refine aX_7 hg _ (by omega) dX0_using_54 ?_
          refine kw_aload_n hg 0 dX0_using_55 rfl rfl ?_
          refine gX_ways hg dX0_using_56 ?_
          refine kw_iload hg 4 dX0_using_59 rfl ?_
          refine kw_bipush (v := 10) hg dX0_using_61 (by decide) ?_
          refine kw_imul hg dX0_using_63 ?_
          refine kw_iload_n hg 1 dX0_using_64 rfl rfl ?_
          refine kw_iadd hg dX0_using_65 ?_
          refine kw_top (nI (k * 10 + e)) (ni_ix k e) ?_
          refine aX_8 hg _ (by omega) dX0_using_66 ?_
          refine kw_imul hg dX0_using_67 ?_
          refine kw_iadd hg dX0_using_68 ?_
          refine kw_istore_n hg [some 0, some 1, none, some 3, some 4] dX0_using_69 rfl (Nat.le_of_ble_eq_true rfl) rfl (lv2 := [(0, _), (1, _), (2, _), (3, _), (4, _)]) rfl ?_
          refine kw_iinc (v := nI (k + 1)) hg 4 [some 0, some 1, some 2, some 3, none] dX0_using_70 rfl (nI_1 k) (Nat.le_of_ble_eq_true rfl) rfl (lv2 := [(0, _), (1, _), (2, _), (3, _), (4, _)]) rfl ?_
          refine kw_goto hg 33 dX0_using_73 (by decide) ?_
          exact ihlk (k + 1) (by omega)
      exact lk n 0 (by omega)
  exact lp (e + 1) 0 (by omega)
set_option maxHeartbeats 4000000 in
set_option maxRecDepth 100000 in
theorem mX_longest {h : Nat} {ad : Nat → Nat} {dc : Nat → ClassId} {u : Nat → Nat → Int32} {n c : Nat} {w fi : Int32} {r y o : Nat → Int32} (hn : n ≤ 4) (hc : c ≤ 10) : kw_I yX0_longest cX0_longest 5 .int 4 93 (tX dc) [.ref h] (wX h ad dc u (nI n) w (nI c) fi r y o) (wX h ad dc u (nI n) w (nI c) (zEnd u n w c (fi, r, y, o) c).1 (zEnd u n w c (fi, r, y, o) c).2.1 (zEnd u n w c (fi, r, y, o) c).2.2.1 (zEnd u n w c (fi, r, y, o) c).2.2.2) (lgO u n w c (fi, r, y, o) c) := by
  refine kw_ofI RX0 (by decide) rfl (vp_nar_int _) (Nat.le_of_ble_eq_true rfl) (lv := [(0, .ref h)]) rfl ?_
  intro g hg hret
  refine kw_bipush (v := -4) hg dX0_longest_0 (by decide) ?_
  refine kw_istore_n hg [some 0, none] dX0_longest_2 rfl (Nat.le_of_ble_eq_true rfl) rfl (lv2 := [(0, _), (1, _)]) rfl ?_
  refine kw_iconst (v := 0) hg dX0_longest_3 (by decide) ?_
  refine kw_top (nI 0) (nI_0.symm) ?_
  refine kw_istore_n hg [some 0, some 1, none] dX0_longest_4 rfl (Nat.le_of_ble_eq_true rfl) rfl (lv2 := [(0, _), (1, _), (2, _)]) rfl ?_
  have lp : ∀ d i : Nat, i + d = c → kw_W g 5 [(0, .ref h), (1, .int (lgO u n w c (fi, r, y, o) i)), (2, .int (nI i))] [] (wX h ad dc u (nI n) w (nI c) (zEnd u n w c (fi, r, y, o) i).1 (zEnd u n w c (fi, r, y, o) i).2.1 (zEnd u n w c (fi, r, y, o) i).2.2.1 (zEnd u n w c (fi, r, y, o) i).2.2.2) := by
    intro d
    induction d with
    | zero =>
      intro i hrlp
      obtain rfl : c = i := by omega
      refine kw_iload_n hg 2 dX0_longest_5 rfl rfl ?_
      refine kw_aload_n hg 0 dX0_longest_6 rfl rfl ?_
      refine gX_count hg dX0_longest_7 ?_
      refine kw_icmp_ge hg 89 dX0_longest_10 (by decide) (fun c10 => ?_) (fun c10 => absurd (nI_le (by omega) (by omega)) c10)
      refine kw_iload_n hg 1 dX0_longest_89 rfl rfl ?_
      exact hret _ _ _ _ dX0_longest_90 (rfl) (rfl)
    | succ d ihlp =>
      intro i hrlp
      refine kw_iload_n hg 2 dX0_longest_5 rfl rfl ?_
      refine kw_aload_n hg 0 dX0_longest_6 rfl rfl ?_
      refine gX_count hg dX0_longest_7 ?_
      refine kw_icmp_ge hg 89 dX0_longest_10 (by decide) (fun c10 => absurd c10 (nI_ge (by omega) (by omega))) (fun c10 => ?_)
      refine kw_aload_n hg 0 dX0_longest_13 rfl rfl ?_
      refine kw_iload_n hg 2 dX0_longest_14 rfl rfl ?_
      refine kw_callv hg (mX_runFrom i (by omega) hn hc) kw_J.self (fun _ _ h => h) lx_X0_runFrom ly_X0_runFrom rfl ⟨Nat.le_of_ble_eq_true rfl, Nat.le_of_ble_eq_true rfl⟩ rfl rfl rfl (Nat.le_of_ble_eq_true rfl) dX0_longest_15 ?_
      refine kw_iload_n hg 2 dX0_longest_18 rfl rfl ?_
      refine kw_istore_n hg [some 0, some 1, some 2, none] dX0_longest_19 rfl (Nat.le_of_ble_eq_true rfl) rfl (lv2 := [(0, _), (1, _), (2, _), (3, _)]) rfl ?_
      have lj : ∀ d j : Nat, j + d = c - i → kw_W g 20 [(0, .ref h), (1, .int (lgI n (zEnd u n w c (fi, r, y, o) (i + 1)).2.1 (zEnd u n w c (fi, r, y, o) (i + 1)).2.2.2 i (lgO u n w c (fi, r, y, o) i) j)), (2, .int (nI i)), (3, .int (nI (i + j)))] [] (wX h ad dc u (nI n) w (nI c) (zEnd u n w c (fi, r, y, o) (i + 1)).1 (zEnd u n w c (fi, r, y, o) (i + 1)).2.1 (zEnd u n w c (fi, r, y, o) (i + 1)).2.2.1 (zEnd u n w c (fi, r, y, o) (i + 1)).2.2.2) := by
        intro d
        induction d with
        | zero =>
          intro j hrlj
          obtain rfl : j = c - i := by omega
          refine kw_iload_n hg 3 dX0_longest_20 rfl rfl ?_
          refine kw_aload_n hg 0 dX0_longest_21 rfl rfl ?_
          refine gX_count hg dX0_longest_22 ?_
          refine kw_icmp_ge hg 83 dX0_longest_25 (by decide) (fun c25 => ?_) (fun c25 => absurd (nI_le (by omega) (by omega)) c25)
          refine kw_iinc (v := nI (i + 1)) hg 2 [some 0, some 1, none, some 3] dX0_longest_83 rfl (nI_1 i) (Nat.le_of_ble_eq_true rfl) rfl (lv2 := [(0, _), (1, _), (2, _), (3, _)]) rfl ?_
          refine kw_goto hg 5 dX0_longest_86 (by decide) ?_
          refine kw_less [0, 1, 2] (lv' := [(0, _), (1, _), (2, _)]) rfl ?_
          exact ihlp (i + 1) (by omega)
        | succ d ihlj =>
          intro j hrlj
          refine kw_iload_n hg 3 dX0_longest_20 rfl rfl ?_
          refine kw_aload_n hg 0 dX0_longest_21 rfl rfl ?_
          refine gX_count hg dX0_longest_22 ?_
          refine kw_icmp_ge hg 83 dX0_longest_25 (by decide) (fun c25 => absurd c25 (nI_ge (by omega) (by omega))) (fun c25 => ?_)
          refine kw_aload_n hg 0 dX0_longest_28 rfl rfl ?_
          refine kw_iload_n hg 3 dX0_longest_29 rfl rfl ?_
          refine kw_calli hg (mX_whole (i + j) hn (by omega)) kw_J.self (fun _ _ h => h) lx_X0_whole ly_X0_whole rfl ⟨Nat.le_of_ble_eq_true rfl, Nat.le_of_ble_eq_true rfl⟩ rfl rfl rfl (Nat.le_of_ble_eq_true rfl) dX0_longest_30 ?_
          refine kw_istore hg [some 0, some 1, some 2, some 3, none] dX0_longest_33 (Nat.le_of_ble_eq_true rfl) rfl (lv2 := [(0, _), (1, _), (2, _), (3, _), (4, _)]) rfl ?_
          refine kw_iload hg 4 dX0_longest_35 rfl ?_
          refine kw_if_le hg 77 dX0_longest_37 (by decide) (fun c37 => ?_) (fun c37 => ?_)
          · refine kw_iinc (v := nI (i + (j + 1))) hg 3 [some 0, some 1, some 2, none, some 4] dX0_longest_77 rfl (nI_1 (i + j)) (Nat.le_of_ble_eq_true rfl) rfl (lv2 := [(0, _), (1, _), (2, _), (3, _), (4, _)]) rfl ?_
            refine kw_goto hg 20 dX0_longest_80 (by decide) ?_
            refine kw_less [0, 1, 2, 3] (lv' := [(0, _), (1, _), (2, _), (3, _)]) rfl ?_
            exact kw_loc (by simp [lgI, c37]) (ihlj (j + 1) (by omega))
          · have hn0 : 0 < n := wh_pos c37
            refine kw_aload_n hg 0 dX0_longest_40 rfl rfl ?_
            refine gX_most hg dX0_longest_41 ?_
            refine kw_aload_n hg 0 dX0_longest_44 rfl rfl ?_
            refine gX_steps hg dX0_longest_45 ?_
            refine kw_iconst (v := 1) hg dX0_longest_48 (by decide) ?_
            refine kw_isub hg dX0_longest_49 ?_
            refine kw_bipush (v := 10) hg dX0_longest_50 (by decide) ?_
            refine kw_imul hg dX0_longest_52 ?_
            refine kw_iload_n hg 3 dX0_longest_53 rfl rfl ?_
            refine kw_iadd hg dX0_longest_54 ?_
            refine kw_top (nI ((n - 1) * 10 + (i + j))) (ni_ixp _ hn0) ?_
            refine aX_9 hg _ (by omega) dX0_longest_55 ?_
            refine kw_iload_n hg 1 dX0_longest_56 rfl rfl ?_
            refine kw_icmp_le hg 77 dX0_longest_57 (by decide) (fun c57 => ?_) (fun c57 => ?_)
            · refine kw_iinc (v := nI (i + (j + 1))) hg 3 [some 0, some 1, some 2, none, some 4] dX0_longest_77 rfl (nI_1 (i + j)) (Nat.le_of_ble_eq_true rfl) rfl (lv2 := [(0, _), (1, _), (2, _), (3, _), (4, _)]) rfl ?_
              refine kw_goto hg 20 dX0_longest_80 (by decide) ?_
              refine kw_less [0, 1, 2, 3] (lv' := [(0, _), (1, _), (2, _), (3, _)]) rfl ?_
              exact kw_loc (by simp [lgI, c37, c57]) (ihlj (j + 1) (by omega))
            · refine kw_aload_n hg 0 dX0_longest_60 rfl rfl ?_
              refine gX_most hg dX0_longest_61 ?_
              refine kw_aload_n hg 0 dX0_longest_64 rfl rfl ?_
              refine gX_steps hg dX0_longest_65 ?_
              refine kw_iconst (v := 1) hg dX0_longest_68 (by decide) ?_
              refine kw_isub hg dX0_longest_69 ?_
              refine kw_bipush (v := 10) hg dX0_longest_70 (by decide) ?_
              refine kw_imul hg dX0_longest_72 ?_
              refine kw_iload_n hg 3 dX0_longest_73 rfl rfl ?_
              refine kw_iadd hg dX0_longest_74 ?_
              refine kw_top (nI ((n - 1) * 10 + (i + j))) (ni_ixp _ hn0) ?_
              refine aX_9 hg _ (by omega) dX0_longest_75 ?_
              refine kw_istore_n hg [some 0, none, some 2, some 3, some 4] dX0_longest_76 rfl (Nat.le_of_ble_eq_true rfl) rfl (lv2 := [(0, _), (1, _), (2, _), (3, _), (4, _)]) rfl ?_
              refine kw_iinc (v := nI (i + (j + 1))) hg 3 [some 0, some 1, some 2, none, some 4] dX0_longest_77 rfl (nI_1 (i + j)) (Nat.le_of_ble_eq_true rfl) rfl (lv2 := [(0, _), (1, _), (2, _), (3, _), (4, _)]) rfl ?_
              refine kw_goto hg 20 dX0_longest_80 (by decide) ?_
              refine kw_less [0, 1, 2, 3] (lv' := [(0, _), (1, _), (2, _), (3, _)]) rfl ?_
              exact kw_loc (by simp [lgI, c37, c57]) (ihlj (j + 1) (by omega))
      exact lj (c - i) 0 (by omega)
  exact lp c 0 (by omega)
set_option maxHeartbeats 4000000 in
set_option maxRecDepth 100000 in
theorem mX_tightest {h : Nat} {ad : Nat → Nat} {dc : Nat → ClassId} {u : Nat → Nat → Int32} {n c : Nat} {w fi : Int32} {r y o : Nat → Int32} (hn : n ≤ 4) (hc : c ≤ 10) : kw_I yX0_tightest cX0_tightest 6 .int 4 93 (tX dc) [.ref h] (wX h ad dc u (nI n) w (nI c) fi r y o) (wX h ad dc u (nI n) w (nI c) (zEnd u n w c (fi, r, y, o) c).1 (zEnd u n w c (fi, r, y, o) c).2.1 (zEnd u n w c (fi, r, y, o) c).2.2.1 (zEnd u n w c (fi, r, y, o) c).2.2.2) (tgO u n w c (fi, r, y, o) c) := by
  refine kw_ofI RX0 (by decide) rfl (vp_nar_int _) (Nat.le_of_ble_eq_true rfl) (lv := [(0, .ref h)]) rfl ?_
  intro g hg hret
  refine kw_bipush (v := -4) hg dX0_tightest_0 (by decide) ?_
  refine kw_istore_n hg [some 0, none] dX0_tightest_2 rfl (Nat.le_of_ble_eq_true rfl) rfl (lv2 := [(0, _), (1, _)]) rfl ?_
  refine kw_iconst (v := 0) hg dX0_tightest_3 (by decide) ?_
  refine kw_top (nI 0) (nI_0.symm) ?_
  refine kw_istore_n hg [some 0, some 1, none] dX0_tightest_4 rfl (Nat.le_of_ble_eq_true rfl) rfl (lv2 := [(0, _), (1, _), (2, _)]) rfl ?_
  have lp : ∀ d i : Nat, i + d = c → kw_W g 5 [(0, .ref h), (1, .int (tgO u n w c (fi, r, y, o) i)), (2, .int (nI i))] [] (wX h ad dc u (nI n) w (nI c) (zEnd u n w c (fi, r, y, o) i).1 (zEnd u n w c (fi, r, y, o) i).2.1 (zEnd u n w c (fi, r, y, o) i).2.2.1 (zEnd u n w c (fi, r, y, o) i).2.2.2) := by
    intro d
    induction d with
    | zero =>
      intro i hrlp
      obtain rfl : c = i := by omega
      refine kw_iload_n hg 2 dX0_tightest_5 rfl rfl ?_
      refine kw_aload_n hg 0 dX0_tightest_6 rfl rfl ?_
      refine gX_count hg dX0_tightest_7 ?_
      refine kw_icmp_ge hg 80 dX0_tightest_10 (by decide) (fun c10 => ?_) (fun c10 => absurd (nI_le (by omega) (by omega)) c10)
      refine kw_iload_n hg 1 dX0_tightest_80 rfl rfl ?_
      exact hret _ _ _ _ dX0_tightest_81 (rfl) (rfl)
    | succ d ihlp =>
      intro i hrlp
      refine kw_iload_n hg 2 dX0_tightest_5 rfl rfl ?_
      refine kw_aload_n hg 0 dX0_tightest_6 rfl rfl ?_
      refine gX_count hg dX0_tightest_7 ?_
      refine kw_icmp_ge hg 80 dX0_tightest_10 (by decide) (fun c10 => absurd c10 (nI_ge (by omega) (by omega))) (fun c10 => ?_)
      refine kw_aload_n hg 0 dX0_tightest_13 rfl rfl ?_
      refine kw_iload_n hg 2 dX0_tightest_14 rfl rfl ?_
      refine kw_callv hg (mX_runFrom i (by omega) hn hc) kw_J.self (fun _ _ h => h) lx_X0_runFrom ly_X0_runFrom rfl ⟨Nat.le_of_ble_eq_true rfl, Nat.le_of_ble_eq_true rfl⟩ rfl rfl rfl (Nat.le_of_ble_eq_true rfl) dX0_tightest_15 ?_
      refine kw_iload_n hg 2 dX0_tightest_18 rfl rfl ?_
      refine kw_istore_n hg [some 0, some 1, some 2, none] dX0_tightest_19 rfl (Nat.le_of_ble_eq_true rfl) rfl (lv2 := [(0, _), (1, _), (2, _), (3, _)]) rfl ?_
      have lj : ∀ d j : Nat, j + d = c - i → kw_W g 20 [(0, .ref h), (1, .int (tgI u n (zEnd u n w c (fi, r, y, o) (i + 1)).2.1 i (tgO u n w c (fi, r, y, o) i) j)), (2, .int (nI i)), (3, .int (nI (i + j)))] [] (wX h ad dc u (nI n) w (nI c) (zEnd u n w c (fi, r, y, o) (i + 1)).1 (zEnd u n w c (fi, r, y, o) (i + 1)).2.1 (zEnd u n w c (fi, r, y, o) (i + 1)).2.2.1 (zEnd u n w c (fi, r, y, o) (i + 1)).2.2.2) := by
        intro d
        induction d with
        | zero =>
          intro j hrlj
          obtain rfl : j = c - i := by omega
          refine kw_iload_n hg 3 dX0_tightest_20 rfl rfl ?_
          refine kw_aload_n hg 0 dX0_tightest_21 rfl rfl ?_
          refine gX_count hg dX0_tightest_22 ?_
          refine kw_icmp_ge hg 74 dX0_tightest_25 (by decide) (fun c25 => ?_) (fun c25 => absurd (nI_le (by omega) (by omega)) c25)
          refine kw_iinc (v := nI (i + 1)) hg 2 [some 0, some 1, none, some 3] dX0_tightest_74 rfl (nI_1 i) (Nat.le_of_ble_eq_true rfl) rfl (lv2 := [(0, _), (1, _), (2, _), (3, _)]) rfl ?_
          refine kw_goto hg 5 dX0_tightest_77 (by decide) ?_
          refine kw_less [0, 1, 2] (lv' := [(0, _), (1, _), (2, _)]) rfl ?_
          exact ihlp (i + 1) (by omega)
        | succ d ihlj =>
          intro j hrlj
          refine kw_iload_n hg 3 dX0_tightest_20 rfl rfl ?_
          refine kw_aload_n hg 0 dX0_tightest_21 rfl rfl ?_
          refine gX_count hg dX0_tightest_22 ?_
          refine kw_icmp_ge hg 74 dX0_tightest_25 (by decide) (fun c25 => absurd c25 (nI_ge (by omega) (by omega))) (fun c25 => ?_)
          refine kw_aload_n hg 0 dX0_tightest_28 rfl rfl ?_
          refine kw_iload_n hg 3 dX0_tightest_29 rfl rfl ?_
          refine kw_calli hg (mX_whole (i + j) hn (by omega)) kw_J.self (fun _ _ h => h) lx_X0_whole ly_X0_whole rfl ⟨Nat.le_of_ble_eq_true rfl, Nat.le_of_ble_eq_true rfl⟩ rfl rfl rfl (Nat.le_of_ble_eq_true rfl) dX0_tightest_30 ?_
          refine kw_istore hg [some 0, some 1, some 2, some 3, none] dX0_tightest_33 (Nat.le_of_ble_eq_true rfl) rfl (lv2 := [(0, _), (1, _), (2, _), (3, _), (4, _)]) rfl ?_
          refine kw_aload_n hg 0 dX0_tightest_35 rfl rfl ?_
          refine gX_time hg dX0_tightest_36 ?_
          refine kw_iload_n hg 3 dX0_tightest_39 rfl rfl ?_
          refine aX_6 hg _ (by omega) dX0_tightest_40 ?_
          refine kw_aload_n hg 0 dX0_tightest_41 rfl rfl ?_
          refine gX_time hg dX0_tightest_42 ?_
          refine kw_iload_n hg 2 dX0_tightest_45 rfl rfl ?_
          refine aX_6 hg _ (by omega) dX0_tightest_46 ?_
          refine kw_isub hg dX0_tightest_47 ?_
          refine kw_istore hg [some 0, some 1, some 2, some 3, some 4, none] dX0_tightest_48 (Nat.le_of_ble_eq_true rfl) rfl (lv2 := [(0, _), (1, _), (2, _), (3, _), (4, _), (5, _)]) rfl ?_
          refine kw_iload hg 4 dX0_tightest_50 rfl ?_
          refine kw_if_le hg 68 dX0_tightest_52 (by decide) (fun c52 => ?_) (fun c52 => ?_)
          · refine kw_iinc (v := nI (i + (j + 1))) hg 3 [some 0, some 1, some 2, none, some 4, some 5] dX0_tightest_68 rfl (nI_1 (i + j)) (Nat.le_of_ble_eq_true rfl) rfl (lv2 := [(0, _), (1, _), (2, _), (3, _), (4, _), (5, _)]) rfl ?_
            refine kw_goto hg 20 dX0_tightest_71 (by decide) ?_
            refine kw_less [0, 1, 2, 3] (lv' := [(0, _), (1, _), (2, _), (3, _)]) rfl ?_
            exact kw_loc (by simp [tgI, c52]) (ihlj (j + 1) (by omega))
          · refine kw_iload_n hg 1 dX0_tightest_55 rfl rfl ?_
            refine kw_if_lt hg 65 dX0_tightest_56 (by decide) (fun c56 => ?_) (fun c56 => ?_)
            · refine kw_iload hg 5 dX0_tightest_65 rfl ?_
              refine kw_istore_n hg [some 0, none, some 2, some 3, some 4, some 5] dX0_tightest_67 rfl (Nat.le_of_ble_eq_true rfl) rfl (lv2 := [(0, _), (1, _), (2, _), (3, _), (4, _), (5, _)]) rfl ?_
              refine kw_iinc (v := nI (i + (j + 1))) hg 3 [some 0, some 1, some 2, none, some 4, some 5] dX0_tightest_68 rfl (nI_1 (i + j)) (Nat.le_of_ble_eq_true rfl) rfl (lv2 := [(0, _), (1, _), (2, _), (3, _), (4, _), (5, _)]) rfl ?_
              refine kw_goto hg 20 dX0_tightest_71 (by decide) ?_
              refine kw_less [0, 1, 2, 3] (lv' := [(0, _), (1, _), (2, _), (3, _)]) rfl ?_
              exact kw_loc (by simp [tgI, c52, c56]) (ihlj (j + 1) (by omega))
            · refine kw_iload hg 5 dX0_tightest_59 rfl ?_
              refine kw_iload_n hg 1 dX0_tightest_61 rfl rfl ?_
              refine kw_icmp_ge hg 68 dX0_tightest_62 (by decide) (fun c62 => ?_) (fun c62 => ?_)
              · refine kw_iinc (v := nI (i + (j + 1))) hg 3 [some 0, some 1, some 2, none, some 4, some 5] dX0_tightest_68 rfl (nI_1 (i + j)) (Nat.le_of_ble_eq_true rfl) rfl (lv2 := [(0, _), (1, _), (2, _), (3, _), (4, _), (5, _)]) rfl ?_
                refine kw_goto hg 20 dX0_tightest_71 (by decide) ?_
                refine kw_less [0, 1, 2, 3] (lv' := [(0, _), (1, _), (2, _), (3, _)]) rfl ?_
                exact kw_loc (by simp [tgI, c52, c56, c62]) (ihlj (j + 1) (by omega))
              · refine kw_iload hg 5 dX0_tightest_65 rfl ?_
                refine kw_istore_n hg [some 0, none, some 2, some 3, some 4, some 5] dX0_tightest_67 rfl (Nat.le_of_ble_eq_true rfl) rfl (lv2 := [(0, _), (1, _), (2, _), (3, _), (4, _), (5, _)]) rfl ?_
                refine kw_iinc (v := nI (i + (j + 1))) hg 3 [some 0, some 1, some 2, none, some 4, some 5] dX0_tightest_68 rfl (nI_1 (i + j)) (Nat.le_of_ble_eq_true rfl) rfl (lv2 := [(0, _), (1, _), (2, _), (3, _), (4, _), (5, _)]) rfl ?_
                refine kw_goto hg 20 dX0_tightest_71 (by decide) ?_
                refine kw_less [0, 1, 2, 3] (lv' := [(0, _), (1, _), (2, _), (3, _)]) rfl ?_
                exact kw_loc (by simp [tgI, c52, c56, c62]) (ihlj (j + 1) (by omega))
      exact lj (c - i) 0 (by omega)
  exact lp c 0 (by omega)
set_option maxHeartbeats 4000000 in
set_option maxRecDepth 100000 in
theorem mX_lastValues {h : Nat} {ad : Nat → Nat} {dc : Nat → ClassId} {u : Nat → Nat → Int32} {n c : Nat} {w fi : Int32} {r y o : Nat → Int32} (hn : n ≤ 4) (hc : c ≤ 10) : kw_I yX0_lastValues cX0_lastValues 4 .int 5 117 (tX dc) [.ref h] (wX h ad dc u (nI n) w (nI c) fi r y o) (wX h ad dc u (nI n) w (nI c) (zLas u n w c (fi, r, y, o) c).1 (zLas u n w c (fi, r, y, o) c).2.1 (zLas u n w c (fi, r, y, o) c).2.2.1 (zLas u n w c (fi, r, y, o) c).2.2.2) (sLas u n w c (fi, r, y, o) c) := by
  refine kw_ofI RX0 (by decide) rfl (vp_nar_int _) (Nat.le_of_ble_eq_true rfl) (lv := [(0, .ref h)]) rfl ?_
  intro g hg hret
  refine kw_iconst (v := 0) hg dX0_lastValues_0 (by decide) ?_
  refine kw_istore_n hg [some 0, none] dX0_lastValues_1 rfl (Nat.le_of_ble_eq_true rfl) rfl (lv2 := [(0, _), (1, _)]) rfl ?_
  refine kw_iconst (v := 0) hg dX0_lastValues_2 (by decide) ?_
  refine kw_top (nI 0) (nI_0.symm) ?_
  refine kw_istore_n hg [some 0, some 1, none] dX0_lastValues_3 rfl (Nat.le_of_ble_eq_true rfl) rfl (lv2 := [(0, _), (1, _), (2, _)]) rfl ?_
  have lp : ∀ d i : Nat, i + d = c → kw_W g 4 [(0, .ref h), (1, .int (sLas u n w c (fi, r, y, o) i)), (2, .int (nI i))] [] (wX h ad dc u (nI n) w (nI c) (zLas u n w c (fi, r, y, o) i).1 (zLas u n w c (fi, r, y, o) i).2.1 (zLas u n w c (fi, r, y, o) i).2.2.1 (zLas u n w c (fi, r, y, o) i).2.2.2) := by
    intro d
    induction d with
    | zero =>
      intro i hrlp
      obtain rfl : c = i := by omega
      refine kw_iload_n hg 2 dX0_lastValues_4 rfl rfl ?_
      refine kw_aload_n hg 0 dX0_lastValues_5 rfl rfl ?_
      refine gX_count hg dX0_lastValues_6 ?_
      refine kw_icmp_ge hg 35 dX0_lastValues_9 (by decide) (fun c9 => ?_) (fun c9 => absurd (nI_le (by omega) (by omega)) c9)
      refine kw_iload_n hg 1 dX0_lastValues_35 rfl rfl ?_
      exact hret _ _ _ _ dX0_lastValues_36 (rfl) (rfl)
    | succ d ihlp =>
      intro i hrlp
      refine kw_iload_n hg 2 dX0_lastValues_4 rfl rfl ?_
      refine kw_aload_n hg 0 dX0_lastValues_5 rfl rfl ?_
      refine gX_count hg dX0_lastValues_6 ?_
      refine kw_icmp_ge hg 35 dX0_lastValues_9 (by decide) (fun c9 => absurd c9 (nI_ge (by omega) (by omega))) (fun c9 => ?_)
      refine kw_aload_n hg 0 dX0_lastValues_12 rfl rfl ?_
      refine kw_iload_n hg 2 dX0_lastValues_13 rfl rfl ?_
      refine kw_calli hg (mX_endingAt i (by omega) hn hc) kw_J.self (fun _ _ h => h) lx_X0_endingAt ly_X0_endingAt rfl ⟨Nat.le_of_ble_eq_true rfl, Nat.le_of_ble_eq_true rfl⟩ rfl rfl rfl (Nat.le_of_ble_eq_true rfl) dX0_lastValues_14 ?_
      refine kw_istore_n hg [some 0, some 1, some 2, none] dX0_lastValues_17 rfl (Nat.le_of_ble_eq_true rfl) rfl (lv2 := [(0, _), (1, _), (2, _), (3, _)]) rfl ?_
      refine kw_iload_n hg 1 dX0_lastValues_18 rfl rfl ?_
      refine kw_iload_n hg 3 dX0_lastValues_19 rfl rfl ?_
      refine kw_aload_n hg 0 dX0_lastValues_20 rfl rfl ?_
      refine gX_value hg dX0_lastValues_21 ?_
      refine kw_iload_n hg 2 dX0_lastValues_24 rfl rfl ?_
      refine aX_5 hg _ (by omega) dX0_lastValues_25 ?_
      refine kw_imul hg dX0_lastValues_26 ?_
      refine kw_iadd hg dX0_lastValues_27 ?_
      refine kw_istore_n hg [some 0, none, some 2, some 3] dX0_lastValues_28 rfl (Nat.le_of_ble_eq_true rfl) rfl (lv2 := [(0, _), (1, _), (2, _), (3, _)]) rfl ?_
      refine kw_iinc (v := nI (i + 1)) hg 2 [some 0, some 1, none, some 3] dX0_lastValues_29 rfl (nI_1 i) (Nat.le_of_ble_eq_true rfl) rfl (lv2 := [(0, _), (1, _), (2, _), (3, _)]) rfl ?_
      refine kw_goto hg 4 dX0_lastValues_32 (by decide) ?_
      refine kw_less [0, 1, 2] (lv' := [(0, _), (1, _), (2, _)]) rfl ?_
      exact ihlp (i + 1) (by omega)
  exact lp c 0 (by omega)
set_option maxHeartbeats 4000000 in
set_option maxRecDepth 100000 in
theorem mX_without_out {h : Nat} {ad : Nat → Nat} {dc : Nat → ClassId} {u : Nat → Nat → Int32} {n w c fi : Int32} {r y o : Nat → Int32} (p : Int32) (hp : (decide (p < 0) || decide (¬ p < c)) = true) : kw_I yX0_without cX0_without 4 .int 6 140 (tX dc) [.ref h, .int p] (wX h ad dc u n w c fi r y o) (wX h ad dc u n w c fi r y o) (-4) := by
  refine kw_ofI RX0 (by decide) rfl (vp_nar_int _) (Nat.le_of_ble_eq_true rfl) (lv := [(0, .ref h), (1, .int p)]) rfl ?_
  intro g hg hret
  refine kw_aload_n hg 0 dX0_without_0 rfl rfl ?_
  refine kw_iload_n hg 1 dX0_without_1 rfl rfl ?_
  refine kw_calli hg (mX_noEvent p) kw_J.self (fun _ _ h => h) lx_X0_noEvent ly_X0_noEvent rfl ⟨Nat.le_of_ble_eq_true rfl, Nat.le_of_ble_eq_true rfl⟩ rfl rfl rfl (Nat.le_of_ble_eq_true rfl) dX0_without_2 ?_
  refine kw_if_eq hg 11 dX0_without_5 (by decide) (fun c5 => absurd c5 (by rw [hp]; decide)) (fun c5 => ?_)
  refine kw_bipush (v := -4) hg dX0_without_8 (by decide) ?_
  exact hret _ _ _ _ dX0_without_10 (rfl) (rfl)
set_option maxHeartbeats 4000000 in
set_option maxRecDepth 100000 in
theorem mX_without {h : Nat} {ad : Nat → Nat} {dc : Nat → ClassId} {u : Nat → Nat → Int32} {n c : Nat} {w fi : Int32} {r y o : Nat → Int32} (e : Nat) (he : e < c) (hn : n ≤ 4) (hc : c ≤ 10) : kw_I yX0_without cX0_without 4 .int 6 140 (tX dc) [.ref h, .int (nI e)] (wX h ad dc u (nI n) w (nI c) fi r y o) (wX h ad dc u (nI n) w (nI c) (zUse u n w c (zEnd u n w c (fi, r, y, o) c) (e + 1)).1 (zUse u n w c (zEnd u n w c (fi, r, y, o) c) (e + 1)).2.1 (zUse u n w c (zEnd u n w c (fi, r, y, o) c) (e + 1)).2.2.1 (zUse u n w c (zEnd u n w c (fi, r, y, o) c) (e + 1)).2.2.2) (sFin u n w c (fi, r, y, o) c - sUse u n w c e (zEnd u n w c (fi, r, y, o) c) (e + 1)) := by
  refine kw_ofI RX0 (by decide) rfl (vp_nar_int _) (Nat.le_of_ble_eq_true rfl) (lv := [(0, .ref h), (1, .int (nI e))]) rfl ?_
  intro g hg hret
  refine kw_aload_n hg 0 dX0_without_0 rfl rfl ?_
  refine kw_iload_n hg 1 dX0_without_1 rfl rfl ?_
  refine kw_calli hg (mX_noEvent (nI e)) kw_J.self (fun _ _ h => h) lx_X0_noEvent ly_X0_noEvent rfl ⟨Nat.le_of_ble_eq_true rfl, Nat.le_of_ble_eq_true rfl⟩ rfl rfl rfl (Nat.le_of_ble_eq_true rfl) dX0_without_2 ?_
  refine kw_if_eq hg 11 dX0_without_5 (by decide) (fun c5 => ?_) (fun c5 => absurd (noev_in he hc) c5)
  refine kw_aload_n hg 0 dX0_without_11 rfl rfl ?_
  refine kw_calli hg (mX_finds hn hc) kw_J.self (fun _ _ h => h) lx_X0_finds ly_X0_finds rfl ⟨Nat.le_of_ble_eq_true rfl, Nat.le_of_ble_eq_true rfl⟩ rfl rfl rfl (Nat.le_of_ble_eq_true rfl) dX0_without_12 ?_
  refine kw_istore_n hg [some 0, some 1, none] dX0_without_15 rfl (Nat.le_of_ble_eq_true rfl) rfl (lv2 := [(0, _), (1, _), (2, _)]) rfl ?_
  refine kw_aload_n hg 0 dX0_without_16 rfl rfl ?_
  refine kw_iload_n hg 1 dX0_without_17 rfl rfl ?_
  refine kw_calli hg (mX_using e he hn hc) kw_J.self (fun _ _ h => h) lx_X0_using ly_X0_using rfl ⟨Nat.le_of_ble_eq_true rfl, Nat.le_of_ble_eq_true rfl⟩ rfl rfl rfl (Nat.le_of_ble_eq_true rfl) dX0_without_18 ?_
  refine kw_istore_n hg [some 0, some 1, some 2, none] dX0_without_21 rfl (Nat.le_of_ble_eq_true rfl) rfl (lv2 := [(0, _), (1, _), (2, _), (3, _)]) rfl ?_
  refine kw_iload_n hg 2 dX0_without_22 rfl rfl ?_
  refine kw_iload_n hg 3 dX0_without_23 rfl rfl ?_
  refine kw_isub hg dX0_without_24 ?_
  exact hret _ _ _ _ dX0_without_25 (rfl) (rfl)
set_option maxHeartbeats 4000000 in
set_option maxRecDepth 100000 in
theorem mX_event_bad {h : Nat} {ad : Nat → Nat} {dc : Nat → ClassId} {u : Nat → Nat → Int32} {n w c fi : Int32} {r y o : Nat → Int32} (t v g0 : Int32) (hok : okE t v g0 = false) : kw_I yX0_event cX0_event 4 .int 5 117 (tX dc) [.ref h, .int t, .int v, .int g0] (wX h ad dc u n w c fi r y o) (wX h ad dc u n w c fi r y o) (-1) := by
  refine kw_ofI RX0 (by decide) rfl (vp_nar_int _) (Nat.le_of_ble_eq_true rfl) (lv := [(0, .ref h), (1, .int t), (2, .int v), (3, .int g0)]) rfl ?_
  intro g hg hret
  refine kw_iload_n hg 1 dX0_event_0 rfl rfl ?_
  refine kw_if_lt hg 28 dX0_event_1 (by decide) (fun c1 => ?_) (fun c1 => ?_)
  · refine kw_iconst (v := -1) hg dX0_event_28 (by decide) ?_
    exact hret _ _ _ _ dX0_event_29 (rfl) (rfl)
  · refine kw_iload_n hg 1 dX0_event_4 rfl rfl ?_
    refine kw_iconst (v := 3) hg dX0_event_5 (by decide) ?_
    refine kw_icmp_gt hg 28 dX0_event_6 (by decide) (fun c6 => ?_) (fun c6 => ?_)
    · refine kw_iconst (v := -1) hg dX0_event_28 (by decide) ?_
      exact hret _ _ _ _ dX0_event_29 (rfl) (rfl)
    · refine kw_iload_n hg 2 dX0_event_9 rfl rfl ?_
      refine kw_if_lt hg 28 dX0_event_10 (by decide) (fun c10 => ?_) (fun c10 => ?_)
      · refine kw_iconst (v := -1) hg dX0_event_28 (by decide) ?_
        exact hret _ _ _ _ dX0_event_29 (rfl) (rfl)
      · refine kw_iload_n hg 2 dX0_event_13 rfl rfl ?_
        refine kw_bipush (v := 9) hg dX0_event_14 (by decide) ?_
        refine kw_icmp_gt hg 28 dX0_event_16 (by decide) (fun c16 => ?_) (fun c16 => ?_)
        · refine kw_iconst (v := -1) hg dX0_event_28 (by decide) ?_
          exact hret _ _ _ _ dX0_event_29 (rfl) (rfl)
        · refine kw_iload_n hg 3 dX0_event_19 rfl rfl ?_
          refine kw_if_lt hg 28 dX0_event_20 (by decide) (fun c20 => ?_) (fun c20 => ?_)
          · refine kw_iconst (v := -1) hg dX0_event_28 (by decide) ?_
            exact hret _ _ _ _ dX0_event_29 (rfl) (rfl)
          · refine kw_iload_n hg 3 dX0_event_23 rfl rfl ?_
            refine kw_iconst (v := 5) hg dX0_event_24 (by decide) ?_
            refine kw_icmp_le hg 30 dX0_event_25 (by decide) (fun c25 => ?_) (fun c25 => ?_)
            · exact absurd hok (by simp [okE, c1, c6, c10, c16, c20, c25])
            · refine kw_iconst (v := -1) hg dX0_event_28 (by decide) ?_
              exact hret _ _ _ _ dX0_event_29 (rfl) (rfl)
set_option maxHeartbeats 4000000 in
set_option maxRecDepth 100000 in
theorem mX_event_full {h : Nat} {ad : Nat → Nat} {dc : Nat → ClassId} {u : Nat → Nat → Int32} {n w fi : Int32} {r y o : Nat → Int32} (t v g0 : Int32) (hok : okE t v g0 = true) : kw_I yX0_event cX0_event 4 .int 5 117 (tX dc) [.ref h, .int t, .int v, .int g0] (wX h ad dc u n w (nI 10) fi r y o) (wX h ad dc u n w (nI 10) fi r y o) (-2) := by
  refine kw_ofI RX0 (by decide) rfl (vp_nar_int _) (Nat.le_of_ble_eq_true rfl) (lv := [(0, .ref h), (1, .int t), (2, .int v), (3, .int g0)]) rfl ?_
  intro g hg hret
  refine kw_iload_n hg 1 dX0_event_0 rfl rfl ?_
  refine kw_if_lt hg 28 dX0_event_1 (by decide) (fun c1 => ?_) (fun c1 => ?_)
  · exact absurd hok (by simp [okE, c1])
  · refine kw_iload_n hg 1 dX0_event_4 rfl rfl ?_
    refine kw_iconst (v := 3) hg dX0_event_5 (by decide) ?_
    refine kw_icmp_gt hg 28 dX0_event_6 (by decide) (fun c6 => ?_) (fun c6 => ?_)
    · exact absurd hok (by simp [okE, c1, c6])
    · refine kw_iload_n hg 2 dX0_event_9 rfl rfl ?_
      refine kw_if_lt hg 28 dX0_event_10 (by decide) (fun c10 => ?_) (fun c10 => ?_)
      · exact absurd hok (by simp [okE, c1, c6, c10])
      · refine kw_iload_n hg 2 dX0_event_13 rfl rfl ?_
        refine kw_bipush (v := 9) hg dX0_event_14 (by decide) ?_
        refine kw_icmp_gt hg 28 dX0_event_16 (by decide) (fun c16 => ?_) (fun c16 => ?_)
        · exact absurd hok (by simp [okE, c1, c6, c10, c16])
        · refine kw_iload_n hg 3 dX0_event_19 rfl rfl ?_
          refine kw_if_lt hg 28 dX0_event_20 (by decide) (fun c20 => ?_) (fun c20 => ?_)
          · exact absurd hok (by simp [okE, c1, c6, c10, c16, c20])
          · refine kw_iload_n hg 3 dX0_event_23 rfl rfl ?_
            refine kw_iconst (v := 5) hg dX0_event_24 (by decide) ?_
            refine kw_icmp_le hg 30 dX0_event_25 (by decide) (fun c25 => ?_) (fun c25 => ?_)
            · refine kw_aload_n hg 0 dX0_event_30 rfl rfl ?_
              refine gX_count hg dX0_event_31 ?_
              refine kw_bipush (v := 10) hg dX0_event_34 (by decide) ?_
              refine kw_icmp_ne hg 42 dX0_event_36 (by decide) (fun c36 => absurd (rfl) c36) (fun c36 => ?_)
              refine kw_bipush (v := -2) hg dX0_event_39 (by decide) ?_
              exact hret _ _ _ _ dX0_event_41 (rfl) (rfl)
            · exact absurd hok (by simp [okE, c1, c6, c10, c16, c20, c25])
set_option maxHeartbeats 4000000 in
set_option maxRecDepth 100000 in
theorem mX_event {h : Nat} {ad : Nat → Nat} {dc : Nat → ClassId} {u : Nat → Nat → Int32} {n c : Nat} {w fi : Int32} {r y o : Nat → Int32} (t v g0 : Int32) (hok : okE t v g0 = true) (hn : n ≤ 4) (hc : c < 10) : kw_I yX0_event cX0_event 4 .int 5 117 (tX dc) [.ref h, .int t, .int v, .int g0] (wX h ad dc u (nI n) w (nI c) fi r y o) (wX h ad dc (evU u c t v g0) (nI n) w (nI (c + 1)) (zEnd (evU u c t v g0) n w (c + 1) (fi, r, y, o) (c + 1)).1 (zEnd (evU u c t v g0) n w (c + 1) (fi, r, y, o) (c + 1)).2.1 (zEnd (evU u c t v g0) n w (c + 1) (fi, r, y, o) (c + 1)).2.2.1 (zEnd (evU u c t v g0) n w (c + 1) (fi, r, y, o) (c + 1)).2.2.2) (sEnd (evU u c t v g0) n w (c + 1) c (fi, r, y, o) (c + 1)) := by
  refine kw_ofI RX0 (by decide) rfl (vp_nar_int _) (Nat.le_of_ble_eq_true rfl) (lv := [(0, .ref h), (1, .int t), (2, .int v), (3, .int g0)]) rfl ?_
  intro g hg hret
  refine kw_iload_n hg 1 dX0_event_0 rfl rfl ?_
  refine kw_if_lt hg 28 dX0_event_1 (by decide) (fun c1 => ?_) (fun c1 => ?_)
  · exact absurd hok (by simp [okE, c1])
  · refine kw_iload_n hg 1 dX0_event_4 rfl rfl ?_
    refine kw_iconst (v := 3) hg dX0_event_5 (by decide) ?_
    refine kw_icmp_gt hg 28 dX0_event_6 (by decide) (fun c6 => ?_) (fun c6 => ?_)
    · exact absurd hok (by simp [okE, c1, c6])
    · refine kw_iload_n hg 2 dX0_event_9 rfl rfl ?_
      refine kw_if_lt hg 28 dX0_event_10 (by decide) (fun c10 => ?_) (fun c10 => ?_)
      · exact absurd hok (by simp [okE, c1, c6, c10])
      · refine kw_iload_n hg 2 dX0_event_13 rfl rfl ?_
        refine kw_bipush (v := 9) hg dX0_event_14 (by decide) ?_
        refine kw_icmp_gt hg 28 dX0_event_16 (by decide) (fun c16 => ?_) (fun c16 => ?_)
        · exact absurd hok (by simp [okE, c1, c6, c10, c16])
        · refine kw_iload_n hg 3 dX0_event_19 rfl rfl ?_
          refine kw_if_lt hg 28 dX0_event_20 (by decide) (fun c20 => ?_) (fun c20 => ?_)
          · exact absurd hok (by simp [okE, c1, c6, c10, c16, c20])
          · refine kw_iload_n hg 3 dX0_event_23 rfl rfl ?_
            refine kw_iconst (v := 5) hg dX0_event_24 (by decide) ?_
            refine kw_icmp_le hg 30 dX0_event_25 (by decide) (fun c25 => ?_) (fun c25 => ?_)
            · refine kw_aload_n hg 0 dX0_event_30 rfl rfl ?_
              refine gX_count hg dX0_event_31 ?_
              refine kw_bipush (v := 10) hg dX0_event_34 (by decide) ?_
              refine kw_icmp_ne hg 42 dX0_event_36 (by decide) (fun c36 => ?_) (fun c36 => absurd c36 (by rw [show (10 : Int32) = nI 10 from rfl, nI_eq (by omega) (by omega)]; omega))
              refine kw_aload_n hg 0 dX0_event_42 rfl rfl ?_
              refine gX_type hg dX0_event_43 ?_
              refine kw_aload_n hg 0 dX0_event_46 rfl rfl ?_
              refine gX_count hg dX0_event_47 ?_
              refine kw_iload_n hg 1 dX0_event_50 rfl rfl ?_
              refine sX_4 hg _ (by omega) dX0_event_51 ?_
              refine kw_aload_n hg 0 dX0_event_52 rfl rfl ?_
              refine gX_value hg dX0_event_53 ?_
              refine kw_aload_n hg 0 dX0_event_56 rfl rfl ?_
              refine gX_count hg dX0_event_57 ?_
              refine kw_iload_n hg 2 dX0_event_60 rfl rfl ?_
              refine sX_5 hg _ (by omega) dX0_event_61 ?_
              rcases Nat.eq_zero_or_pos c with hc0 | hc0
              · refine kw_aload_n hg 0 dX0_event_62 rfl rfl ?_
                refine gX_time hg dX0_event_63 ?_
                refine kw_aload_n hg 0 dX0_event_66 rfl rfl ?_
                refine gX_count hg dX0_event_67 ?_
                refine kw_aload_n hg 0 dX0_event_70 rfl rfl ?_
                refine gX_count hg dX0_event_71 ?_
                refine kw_if_ne hg 81 dX0_event_74 (by decide) (fun c74 => absurd (by rw [hc0]; exact nI_0) c74) (fun c74 => ?_)
                refine kw_iconst (v := 0) hg dX0_event_77 (by decide) ?_
                refine kw_goto hg 92 dX0_event_78 (by decide) ?_
                refine kw_iload_n hg 3 dX0_event_92 rfl rfl ?_
                refine kw_iadd hg dX0_event_93 ?_
                refine kw_top ((if c = 0 then 0 else (up1 (up1 u 4 c t) 5 c v) 6 (c - 1)) + g0) (by rw [if_pos hc0]) ?_
                refine sX_6 hg _ (by omega) dX0_event_94 ?_
                refine kw_aload_n hg 0 dX0_event_95 rfl rfl ?_
                refine kw_dupr hg dX0_event_96 ?_
                refine gX_count hg dX0_event_97 ?_
                refine kw_iconst (v := 1) hg dX0_event_100 (by decide) ?_
                refine kw_iadd hg dX0_event_101 ?_
                refine kw_top (nI (c + 1)) (nI_1 c) ?_
                refine pX_count hg dX0_event_102 ?_
                refine kw_aload_n hg 0 dX0_event_105 rfl rfl ?_
                refine kw_aload_n hg 0 dX0_event_106 rfl rfl ?_
                refine gX_count hg dX0_event_107 ?_
                refine kw_iconst (v := 1) hg dX0_event_110 (by decide) ?_
                refine kw_isub hg dX0_event_111 ?_
                refine kw_top (nI c) (nI_pred c) ?_
                refine kw_calli hg (mX_endingAt (u := evU u c t v g0) (c := c + 1) c (by omega) hn (by omega)) kw_J.self (fun _ _ h => h) lx_X0_endingAt ly_X0_endingAt rfl ⟨Nat.le_of_ble_eq_true rfl, Nat.le_of_ble_eq_true rfl⟩ rfl rfl rfl (Nat.le_of_ble_eq_true rfl) dX0_event_112 ?_
                exact hret _ _ _ _ dX0_event_115 (rfl) (rfl)
              · refine kw_aload_n hg 0 dX0_event_62 rfl rfl ?_
                refine gX_time hg dX0_event_63 ?_
                refine kw_aload_n hg 0 dX0_event_66 rfl rfl ?_
                refine gX_count hg dX0_event_67 ?_
                refine kw_aload_n hg 0 dX0_event_70 rfl rfl ?_
                refine gX_count hg dX0_event_71 ?_
                refine kw_if_ne hg 81 dX0_event_74 (by decide) (fun c74 => ?_) (fun c74 => absurd c74 (nI_ne0 hc0 (by omega)))
                refine kw_aload_n hg 0 dX0_event_81 rfl rfl ?_
                refine gX_time hg dX0_event_82 ?_
                refine kw_aload_n hg 0 dX0_event_85 rfl rfl ?_
                refine gX_count hg dX0_event_86 ?_
                refine kw_iconst (v := 1) hg dX0_event_89 (by decide) ?_
                refine kw_isub hg dX0_event_90 ?_
                refine kw_top (nI (c - 1)) (ni_pr hc0) ?_
                refine aX_6 hg _ (by omega) dX0_event_91 ?_
                refine kw_iload_n hg 3 dX0_event_92 rfl rfl ?_
                refine kw_iadd hg dX0_event_93 ?_
                refine kw_top ((if c = 0 then 0 else (up1 (up1 u 4 c t) 5 c v) 6 (c - 1)) + g0) (by rw [if_neg (Nat.ne_of_gt hc0)]; rfl) ?_
                refine sX_6 hg _ (by omega) dX0_event_94 ?_
                refine kw_aload_n hg 0 dX0_event_95 rfl rfl ?_
                refine kw_dupr hg dX0_event_96 ?_
                refine gX_count hg dX0_event_97 ?_
                refine kw_iconst (v := 1) hg dX0_event_100 (by decide) ?_
                refine kw_iadd hg dX0_event_101 ?_
                refine kw_top (nI (c + 1)) (nI_1 c) ?_
                refine pX_count hg dX0_event_102 ?_
                refine kw_aload_n hg 0 dX0_event_105 rfl rfl ?_
                refine kw_aload_n hg 0 dX0_event_106 rfl rfl ?_
                refine gX_count hg dX0_event_107 ?_
                refine kw_iconst (v := 1) hg dX0_event_110 (by decide) ?_
                refine kw_isub hg dX0_event_111 ?_
                refine kw_top (nI c) (nI_pred c) ?_
                refine kw_calli hg (mX_endingAt (u := evU u c t v g0) (c := c + 1) c (by omega) hn (by omega)) kw_J.self (fun _ _ h => h) lx_X0_endingAt ly_X0_endingAt rfl ⟨Nat.le_of_ble_eq_true rfl, Nat.le_of_ble_eq_true rfl⟩ rfl rfl rfl (Nat.le_of_ble_eq_true rfl) dX0_event_112 ?_
                exact hret _ _ _ _ dX0_event_115 (rfl) (rfl)
            · exact absurd hok (by simp [okE, c1, c6, c10, c16, c20, c25])
end
section
/-! contracts of SequencePatternsModel: the leaves, take, findsOf -/
theorem sm_l : ∀ n, n < 32 → ((nI n &&& 31).toBitVec.smod 32).toNat = n := by decide +kernel
theorem mb_ok {s e : Nat} (hs : s < 2 ^ 31) (he : e < 32) : (nI s >>> (nI e &&& 31)) &&& 1 = nI (mbit s e) := by
  rw [pk_shrN hs _ e (sm_l e he), pk_andN (Nat.lt_of_le_of_lt (Nat.div_le_self _ _) (by omega)) 1 (by decide)]
  rfl
theorem mb_lt (s e : Nat) : mbit s e < 2 := Nat.mod_lt _ (by decide)
theorem mb_t {s e : Nat} (h : nI (mbit s e) = 1) : mbit s e = 1 := by
  have := mb_lt s e
  exact (nI_eq (b := 1) (by omega) (by omega)).mp h
theorem mb_f {s e : Nat} (h : ¬ nI (mbit s e) = 1) : ¬ mbit s e = 1 := fun q => h (by rw [q]; rfl)
theorem sh_ok {c : Nat} (hc : c ≤ 10) : (1 : Int32) <<< (nI c &&& 31) = nI (2 ^ c) := by
  have hp : 2 ^ c ≤ 2 ^ 10 := Nat.pow_le_pow_right (by decide) hc
  rw [show (1 : Int32) = nI 1 from rfl, pk_shlN _ c (sm_l c (by omega)) (by omega), Nat.one_mul]
theorem p2_le {c : Nat} (hc : c ≤ 10) : 1 ≤ 2 ^ c ∧ 2 ^ c ≤ 1024 := ⟨Nat.one_le_two_pow, show 2 ^ c ≤ 2 ^ 10 from Nat.pow_le_pow_right (n := 2) (by decide) hc⟩
theorem mFi_lt (s : Nat) : ∀ d, mFi s d < 10 := by
  intro d
  induction d with
  | zero => simp [mFi]
  | succ d ih =>
    simp only [mFi]
    split
    · omega
    · exact ih
theorem mLa_lt (s : Nat) : ∀ d, d ≤ 10 → mLa s d < 10 := by
  intro d
  induction d with
  | zero => intro _; simp [mLa]
  | succ d ih =>
    intro hd
    simp only [mLa]
    split
    · omega
    · exact ih (by omega)
theorem mSz_le (s : Nat) : ∀ d, mSz s d ≤ d := by
  intro d
  induction d with
  | zero => simp [mSz]
  | succ d ih =>
    have := mb_lt s d
    simp only [mSz]
    omega
theorem mFo_t {u : Nat → Nat → Int32} {n s d : Nat} {q : tyQ} (h : mbit s d = 1) : mFo u n s q (d + 1) = (some d, mTk u n d (mFo u n s q d).1 (mFi s 10) (mFo u n s q d).2) := by simp [mFo, h]
theorem mFo_f {u : Nat → Nat → Int32} {n s d : Nat} {q : tyQ} (h : ¬ mbit s d = 1) : mFo u n s q (d + 1) = mFo u n s q d := by simp [mFo, h]
theorem mFo_lt {u : Nat → Nat → Int32} {n s : Nat} {q : tyQ} : ∀ d j, (mFo u n s q d).1 = some j → j < d := by
  intro d
  induction d with
  | zero => intro j h; simp [mFo] at h
  | succ d ih =>
    intro j h
    by_cases hb : mbit s d = 1
    · rw [mFo_t hb] at h
      have := Option.some.inj h
      omega
    · rw [mFo_f hb] at h
      have := ih j h
      omega
def kM (k : Int32) : Bool := decide ((¬ k < 0 ∧ k ≤ 4) ∨ (¬ k < 8 ∧ ¬ 12 < k))
def okM (t b k : Int32) : Bool := decide (¬ t < 0 ∧ ¬ 4 < t ∧ ¬ b < 0 ∧ ¬ 9 < b ∧ kM k = true)
set_option maxHeartbeats 4000000 in
set_option maxRecDepth 100000 in
theorem mM_isEvent {h : Nat} {ad : Nat → Nat} {dc : Nat → ClassId} {u : Nat → Nat → Int32} {n w c : Int32} {y b : Nat → Int32} (p : Int32) : kw_I yX1_isEvent cX1_isEvent 2 .boolean 0 0 (tM dc) [.ref h, .int p] (wM h ad dc u n w c y b) (wM h ad dc u n w c y b) (bz (decide (¬ p < 0) && decide (¬ c ≤ p))) := by
  refine kw_ofI RX1 (by decide) rfl (bz_nar _) (Nat.le_of_ble_eq_true rfl) (lv := [(0, .ref h), (1, .int p)]) rfl ?_
  intro g hg hret
  refine kw_iload_n hg 1 dX1_isEvent_0 rfl rfl ?_
  refine kw_if_lt hg 16 dX1_isEvent_1 (by decide) (fun c1 => ?_) (fun c1 => ?_)
  · refine kw_iconst (v := 0) hg dX1_isEvent_16 (by decide) ?_
    exact hret _ _ _ _ dX1_isEvent_17 (by simp [bz, c1]) (rfl)
  · refine kw_iload_n hg 1 dX1_isEvent_4 rfl rfl ?_
    refine kw_aload_n hg 0 dX1_isEvent_5 rfl rfl ?_
    refine gM_count hg dX1_isEvent_6 ?_
    refine kw_icmp_ge hg 16 dX1_isEvent_9 (by decide) (fun c9 => ?_) (fun c9 => ?_)
    · refine kw_iconst (v := 0) hg dX1_isEvent_16 (by decide) ?_
      exact hret _ _ _ _ dX1_isEvent_17 (by simp [bz, c1, c9]) (rfl)
    · refine kw_iconst (v := 1) hg dX1_isEvent_12 (by decide) ?_
      refine kw_goto hg 17 dX1_isEvent_13 (by decide) ?_
      exact hret _ _ _ _ dX1_isEvent_17 (by simp [bz, c1, c9]) (rfl)
set_option maxHeartbeats 4000000 in
set_option maxRecDepth 100000 in
theorem mM_begin {h : Nat} {ad : Nat → Nat} {dc : Nat → ClassId} {u : Nat → Nat → Int32} {n w c : Int32} {y b : Nat → Int32} : kw_V yX1_begin cX1_begin 1 0 0 (tM dc) [.ref h] (wM h ad dc u n w c y b) (wM h ad dc u (nI 0) w c y b) := by
  refine kw_ofV RX1 (by decide) rfl (Nat.le_of_ble_eq_true rfl) (lv := [(0, .ref h)]) rfl ?_
  intro g hg hret
  refine kw_aload_n hg 0 dX1_begin_0 rfl rfl ?_
  refine kw_iconst (v := 0) hg dX1_begin_1 (by decide) ?_
  refine pM_steps hg dX1_begin_2 ?_
  exact hret _ _ _ dX1_begin_5 (rfl)
set_option maxHeartbeats 4000000 in
set_option maxRecDepth 100000 in
theorem mM_restart {h : Nat} {ad : Nat → Nat} {dc : Nat → ClassId} {u : Nat → Nat → Int32} {n w c : Int32} {y b : Nat → Int32} : kw_V yX1_restart cX1_restart 1 0 0 (tM dc) [.ref h] (wM h ad dc u n w c y b) (wM h ad dc u n w (nI 0) y b) := by
  refine kw_ofV RX1 (by decide) rfl (Nat.le_of_ble_eq_true rfl) (lv := [(0, .ref h)]) rfl ?_
  intro g hg hret
  refine kw_aload_n hg 0 dX1_restart_0 rfl rfl ?_
  refine kw_iconst (v := 0) hg dX1_restart_1 (by decide) ?_
  refine pM_count hg dX1_restart_2 ?_
  exact hret _ _ _ dX1_restart_5 (rfl)
set_option maxHeartbeats 4000000 in
set_option maxRecDepth 100000 in
theorem mM_events {h : Nat} {ad : Nat → Nat} {dc : Nat → ClassId} {u : Nat → Nat → Int32} {n w c : Int32} {y b : Nat → Int32} : kw_I yX1_events cX1_events 1 .int 0 0 (tM dc) [.ref h] (wM h ad dc u n w c y b) (wM h ad dc u n w c y b) (c) := by
  refine kw_ofI RX1 (by decide) rfl (vp_nar_int _) (Nat.le_of_ble_eq_true rfl) (lv := [(0, .ref h)]) rfl ?_
  intro g hg hret
  refine kw_aload_n hg 0 dX1_events_0 rfl rfl ?_
  refine gM_count hg dX1_events_1 ?_
  exact hret _ _ _ _ dX1_events_4 (rfl) (rfl)
set_option maxHeartbeats 4000000 in
set_option maxRecDepth 100000 in
theorem mM_window {h : Nat} {ad : Nat → Nat} {dc : Nat → ClassId} {u : Nat → Nat → Int32} {n w c : Int32} {y b : Nat → Int32} (p : Int32) : kw_I yX1_window cX1_window 3 .int 0 0 (tM dc) [.ref h, .int p] (wM h ad dc u n w c y b) (wM h ad dc u n (cond (okW p) p w) c y b) (cond (okW p) w (-1)) := by
  refine kw_ofI RX1 (by decide) rfl (vp_nar_int _) (Nat.le_of_ble_eq_true rfl) (lv := [(0, .ref h), (1, .int p)]) rfl ?_
  intro g hg hret
  refine kw_iload_n hg 1 dX1_window_0 rfl rfl ?_
  refine kw_if_lt hg 10 dX1_window_1 (by decide) (fun c1 => ?_) (fun c1 => ?_)
  · refine kw_iconst (v := -1) hg dX1_window_10 (by decide) ?_
    exact hret _ _ _ _ dX1_window_11 (by simp [okW, c1]) (by simp [okW, c1])
  · refine kw_iload_n hg 1 dX1_window_4 rfl rfl ?_
    refine kw_bipush (v := 40) hg dX1_window_5 (by decide) ?_
    refine kw_icmp_le hg 12 dX1_window_7 (by decide) (fun c7 => ?_) (fun c7 => ?_)
    · refine kw_aload_n hg 0 dX1_window_12 rfl rfl ?_
      refine gM_window hg dX1_window_13 ?_
      refine kw_istore_n hg [some 0, some 1, none] dX1_window_16 rfl (Nat.le_of_ble_eq_true rfl) rfl (lv2 := [(0, _), (1, _), (2, _)]) rfl ?_
      refine kw_aload_n hg 0 dX1_window_17 rfl rfl ?_
      refine kw_iload_n hg 1 dX1_window_18 rfl rfl ?_
      refine pM_window hg dX1_window_19 ?_
      refine kw_iload_n hg 2 dX1_window_22 rfl rfl ?_
      exact hret _ _ _ _ dX1_window_23 (by simp [okW, c1, c7]) (by simp [okW, c1, c7])
    · refine kw_iconst (v := -1) hg dX1_window_10 (by decide) ?_
      exact hret _ _ _ _ dX1_window_11 (by simp [okW, c1, c7]) (by simp [okW, c1, c7])
set_option maxHeartbeats 4000000 in
set_option maxRecDepth 100000 in
theorem mM_meets {h : Nat} {ad : Nat → Nat} {dc : Nat → ClassId} {u : Nat → Nat → Int32} {n w c : Int32} {y b : Nat → Int32} (f k : Nat) (l : Option Nat) (e : Nat) (hf : f < 10) (hk : k < 4) (he : e < 10) (hl : ∀ j, l = some j → j < 10) : kw_I yX1_meets cX1_meets 5 .boolean 0 0 (tM dc) [.ref h, .int (nI e), .int (nI k), .int (pb l), .int (nI f)] (wM h ad dc u n w c y b) (wM h ad dc u n w c y b) (bz (mtM u f k l e)) := by
  refine kw_ofI RX1 (by decide) rfl (bz_nar _) (Nat.le_of_ble_eq_true rfl) (lv := [(0, .ref h), (1, .int (nI e)), (2, .int (nI k)), (3, .int (pb l)), (4, .int (nI f))]) rfl ?_
  intro g hg hret
  refine kw_aload_n hg 0 dX1_meets_0 rfl rfl ?_
  refine gM_stepTypes hg dX1_meets_1 ?_
  refine kw_iload_n hg 2 dX1_meets_4 rfl rfl ?_
  refine aM_0 hg _ (by omega) dX1_meets_5 ?_
  refine kw_iconst (v := 4) hg dX1_meets_6 (by decide) ?_
  refine kw_icmp_eq hg 27 dX1_meets_7 (by decide) (fun c7 => ?_) (fun c7 => ?_)
  · refine kw_aload_n hg 0 dX1_meets_27 rfl rfl ?_
    refine gM_kinds hg dX1_meets_28 ?_
    refine kw_iload_n hg 2 dX1_meets_31 rfl rfl ?_
    refine aM_2 hg _ (by omega) dX1_meets_32 ?_
    refine kw_iconst (v := 1) hg dX1_meets_33 (by decide) ?_
    refine kw_icmp_ne hg 62 dX1_meets_34 (by decide) (fun c34 => ?_) (fun c34 => ?_)
    · refine kw_aload_n hg 0 dX1_meets_62 rfl rfl ?_
      refine gM_kinds hg dX1_meets_63 ?_
      refine kw_iload_n hg 2 dX1_meets_66 rfl rfl ?_
      refine aM_2 hg _ (by omega) dX1_meets_67 ?_
      refine kw_iconst (v := 2) hg dX1_meets_68 (by decide) ?_
      refine kw_icmp_ne hg 97 dX1_meets_69 (by decide) (fun c69 => ?_) (fun c69 => ?_)
      · refine kw_aload_n hg 0 dX1_meets_97 rfl rfl ?_
        refine gM_kinds hg dX1_meets_98 ?_
        refine kw_iload_n hg 2 dX1_meets_101 rfl rfl ?_
        refine aM_2 hg _ (by omega) dX1_meets_102 ?_
        refine kw_iconst (v := 3) hg dX1_meets_103 (by decide) ?_
        refine kw_icmp_ne hg 128 dX1_meets_104 (by decide) (fun c104 => ?_) (fun c104 => ?_)
        · refine kw_aload_n hg 0 dX1_meets_128 rfl rfl ?_
          refine gM_kinds hg dX1_meets_129 ?_
          refine kw_iload_n hg 2 dX1_meets_132 rfl rfl ?_
          refine aM_2 hg _ (by omega) dX1_meets_133 ?_
          refine kw_if_eq hg 153 dX1_meets_134 (by decide) (fun c134 => ?_) (fun c134 => ?_)
          · refine kw_iconst (v := 1) hg dX1_meets_153 (by decide) ?_
            refine kw_goto hg 158 dX1_meets_154 (by decide) ?_
            exact hret _ _ _ _ dX1_meets_158 (by simp [bz, mtM, c7, c34, c69, c104, c134]) (rfl)
          · refine kw_aload_n hg 0 dX1_meets_137 rfl rfl ?_
            refine gM_values hg dX1_meets_138 ?_
            refine kw_iload_n hg 1 dX1_meets_141 rfl rfl ?_
            refine aM_5 hg _ (by omega) dX1_meets_142 ?_
            refine kw_aload_n hg 0 dX1_meets_143 rfl rfl ?_
            refine gM_values hg dX1_meets_144 ?_
            refine kw_iload hg 4 dX1_meets_147 rfl ?_
            refine aM_5 hg _ (by omega) dX1_meets_149 ?_
            refine kw_icmp_ne hg 157 dX1_meets_150 (by decide) (fun c150 => ?_) (fun c150 => ?_)
            · refine kw_iconst (v := 0) hg dX1_meets_157 (by decide) ?_
              exact hret _ _ _ _ dX1_meets_158 (by simp [bz, mtM, c7, c34, c69, c104, c134, c150]) (rfl)
            · refine kw_iconst (v := 1) hg dX1_meets_153 (by decide) ?_
              refine kw_goto hg 158 dX1_meets_154 (by decide) ?_
              exact hret _ _ _ _ dX1_meets_158 (by simp [bz, mtM, c7, c34, c69, c104, c134, c150]) (rfl)
        · refine kw_aload_n hg 0 dX1_meets_107 rfl rfl ?_
          refine gM_values hg dX1_meets_108 ?_
          refine kw_iload_n hg 1 dX1_meets_111 rfl rfl ?_
          refine aM_5 hg _ (by omega) dX1_meets_112 ?_
          refine kw_aload_n hg 0 dX1_meets_113 rfl rfl ?_
          refine gM_bounds hg dX1_meets_114 ?_
          refine kw_iload_n hg 2 dX1_meets_117 rfl rfl ?_
          refine aM_1 hg _ (by omega) dX1_meets_118 ?_
          refine kw_icmp_ne hg 126 dX1_meets_119 (by decide) (fun c119 => ?_) (fun c119 => ?_)
          · refine kw_iconst (v := 0) hg dX1_meets_126 (by decide) ?_
            exact hret _ _ _ _ dX1_meets_127 (by simp [bz, mtM, c7, c34, c69, c104, c119]) (rfl)
          · refine kw_iconst (v := 1) hg dX1_meets_122 (by decide) ?_
            refine kw_goto hg 127 dX1_meets_123 (by decide) ?_
            exact hret _ _ _ _ dX1_meets_127 (by simp [bz, mtM, c7, c34, c69, c104, c119]) (rfl)
      · rcases l with _ | j
        · refine kw_iload_n hg 3 dX1_meets_72 rfl rfl ?_
          refine kw_if_lt hg 91 dX1_meets_73 (by decide) (fun c73 => ?_) (fun c73 => absurd (by decide) c73)
          refine kw_iconst (v := 1) hg dX1_meets_91 (by decide) ?_
          refine kw_goto hg 96 dX1_meets_92 (by decide) ?_
          exact hret _ _ _ _ dX1_meets_96 (by simp [bz, mtM, c7, c34, c69, c73]) (rfl)
        · refine kw_iload_n hg 3 dX1_meets_72 rfl rfl ?_
          refine kw_if_lt hg 91 dX1_meets_73 (by decide) (fun c73 => absurd c73 (nI_pos (by have := hl j rfl; omega))) (fun c73 => ?_)
          refine kw_aload_n hg 0 dX1_meets_76 rfl rfl ?_
          refine gM_values hg dX1_meets_77 ?_
          refine kw_iload_n hg 1 dX1_meets_80 rfl rfl ?_
          refine aM_5 hg _ (by omega) dX1_meets_81 ?_
          refine kw_aload_n hg 0 dX1_meets_82 rfl rfl ?_
          refine gM_values hg dX1_meets_83 ?_
          refine kw_iload_n hg 3 dX1_meets_86 rfl rfl ?_
          refine aM_5 hg _ (hl j rfl) dX1_meets_87 ?_
          refine kw_icmp_ge hg 95 dX1_meets_88 (by decide) (fun c88 => ?_) (fun c88 => ?_)
          · refine kw_iconst (v := 0) hg dX1_meets_95 (by decide) ?_
            exact hret _ _ _ _ dX1_meets_96 (by simp [bz, mtM, c7, c34, c69, c73, c88]) (rfl)
          · refine kw_iconst (v := 1) hg dX1_meets_91 (by decide) ?_
            refine kw_goto hg 96 dX1_meets_92 (by decide) ?_
            exact hret _ _ _ _ dX1_meets_96 (by simp [bz, mtM, c7, c34, c69, c73, c88]) (rfl)
    · rcases l with _ | j
      · refine kw_iload_n hg 3 dX1_meets_37 rfl rfl ?_
        refine kw_if_lt hg 56 dX1_meets_38 (by decide) (fun c38 => ?_) (fun c38 => absurd (by decide) c38)
        refine kw_iconst (v := 1) hg dX1_meets_56 (by decide) ?_
        refine kw_goto hg 61 dX1_meets_57 (by decide) ?_
        exact hret _ _ _ _ dX1_meets_61 (by simp [bz, mtM, c7, c34, c38]) (rfl)
      · refine kw_iload_n hg 3 dX1_meets_37 rfl rfl ?_
        refine kw_if_lt hg 56 dX1_meets_38 (by decide) (fun c38 => absurd c38 (nI_pos (by have := hl j rfl; omega))) (fun c38 => ?_)
        refine kw_aload_n hg 0 dX1_meets_41 rfl rfl ?_
        refine gM_values hg dX1_meets_42 ?_
        refine kw_iload_n hg 1 dX1_meets_45 rfl rfl ?_
        refine aM_5 hg _ (by omega) dX1_meets_46 ?_
        refine kw_aload_n hg 0 dX1_meets_47 rfl rfl ?_
        refine gM_values hg dX1_meets_48 ?_
        refine kw_iload_n hg 3 dX1_meets_51 rfl rfl ?_
        refine aM_5 hg _ (hl j rfl) dX1_meets_52 ?_
        refine kw_icmp_le hg 60 dX1_meets_53 (by decide) (fun c53 => ?_) (fun c53 => ?_)
        · refine kw_iconst (v := 0) hg dX1_meets_60 (by decide) ?_
          exact hret _ _ _ _ dX1_meets_61 (by simp [bz, mtM, c7, c34, c38, c53]) (rfl)
        · refine kw_iconst (v := 1) hg dX1_meets_56 (by decide) ?_
          refine kw_goto hg 61 dX1_meets_57 (by decide) ?_
          exact hret _ _ _ _ dX1_meets_61 (by simp [bz, mtM, c7, c34, c38, c53]) (rfl)
  · refine kw_aload_n hg 0 dX1_meets_10 rfl rfl ?_
    refine gM_types hg dX1_meets_11 ?_
    refine kw_iload_n hg 1 dX1_meets_14 rfl rfl ?_
    refine aM_4 hg _ (by omega) dX1_meets_15 ?_
    refine kw_aload_n hg 0 dX1_meets_16 rfl rfl ?_
    refine gM_stepTypes hg dX1_meets_17 ?_
    refine kw_iload_n hg 2 dX1_meets_20 rfl rfl ?_
    refine aM_0 hg _ (by omega) dX1_meets_21 ?_
    refine kw_icmp_eq hg 27 dX1_meets_22 (by decide) (fun c22 => ?_) (fun c22 => ?_)
    · refine kw_aload_n hg 0 dX1_meets_27 rfl rfl ?_
      refine gM_kinds hg dX1_meets_28 ?_
      refine kw_iload_n hg 2 dX1_meets_31 rfl rfl ?_
      refine aM_2 hg _ (by omega) dX1_meets_32 ?_
      refine kw_iconst (v := 1) hg dX1_meets_33 (by decide) ?_
      refine kw_icmp_ne hg 62 dX1_meets_34 (by decide) (fun c34 => ?_) (fun c34 => ?_)
      · refine kw_aload_n hg 0 dX1_meets_62 rfl rfl ?_
        refine gM_kinds hg dX1_meets_63 ?_
        refine kw_iload_n hg 2 dX1_meets_66 rfl rfl ?_
        refine aM_2 hg _ (by omega) dX1_meets_67 ?_
        refine kw_iconst (v := 2) hg dX1_meets_68 (by decide) ?_
        refine kw_icmp_ne hg 97 dX1_meets_69 (by decide) (fun c69 => ?_) (fun c69 => ?_)
        · refine kw_aload_n hg 0 dX1_meets_97 rfl rfl ?_
          refine gM_kinds hg dX1_meets_98 ?_
          refine kw_iload_n hg 2 dX1_meets_101 rfl rfl ?_
          refine aM_2 hg _ (by omega) dX1_meets_102 ?_
          refine kw_iconst (v := 3) hg dX1_meets_103 (by decide) ?_
          refine kw_icmp_ne hg 128 dX1_meets_104 (by decide) (fun c104 => ?_) (fun c104 => ?_)
          · refine kw_aload_n hg 0 dX1_meets_128 rfl rfl ?_
            refine gM_kinds hg dX1_meets_129 ?_
            refine kw_iload_n hg 2 dX1_meets_132 rfl rfl ?_
            refine aM_2 hg _ (by omega) dX1_meets_133 ?_
            refine kw_if_eq hg 153 dX1_meets_134 (by decide) (fun c134 => ?_) (fun c134 => ?_)
            · refine kw_iconst (v := 1) hg dX1_meets_153 (by decide) ?_
              refine kw_goto hg 158 dX1_meets_154 (by decide) ?_
              exact hret _ _ _ _ dX1_meets_158 (by simp [bz, mtM, c7, c22, c34, c69, c104, c134]) (rfl)
            · refine kw_aload_n hg 0 dX1_meets_137 rfl rfl ?_
              refine gM_values hg dX1_meets_138 ?_
              refine kw_iload_n hg 1 dX1_meets_141 rfl rfl ?_
              refine aM_5 hg _ (by omega) dX1_meets_142 ?_
              refine kw_aload_n hg 0 dX1_meets_143 rfl rfl ?_
              refine gM_values hg dX1_meets_144 ?_
              refine kw_iload hg 4 dX1_meets_147 rfl ?_
              refine aM_5 hg _ (by omega) dX1_meets_149 ?_
              refine kw_icmp_ne hg 157 dX1_meets_150 (by decide) (fun c150 => ?_) (fun c150 => ?_)
              · refine kw_iconst (v := 0) hg dX1_meets_157 (by decide) ?_
                exact hret _ _ _ _ dX1_meets_158 (by simp [bz, mtM, c7, c22, c34, c69, c104, c134, c150]) (rfl)
              · refine kw_iconst (v := 1) hg dX1_meets_153 (by decide) ?_
                refine kw_goto hg 158 dX1_meets_154 (by decide) ?_
                exact hret _ _ _ _ dX1_meets_158 (by simp [bz, mtM, c7, c22, c34, c69, c104, c134, c150]) (rfl)
          · refine kw_aload_n hg 0 dX1_meets_107 rfl rfl ?_
            refine gM_values hg dX1_meets_108 ?_
            refine kw_iload_n hg 1 dX1_meets_111 rfl rfl ?_
            refine aM_5 hg _ (by omega) dX1_meets_112 ?_
            refine kw_aload_n hg 0 dX1_meets_113 rfl rfl ?_
            refine gM_bounds hg dX1_meets_114 ?_
            refine kw_iload_n hg 2 dX1_meets_117 rfl rfl ?_
            refine aM_1 hg _ (by omega) dX1_meets_118 ?_
            refine kw_icmp_ne hg 126 dX1_meets_119 (by decide) (fun c119 => ?_) (fun c119 => ?_)
            · refine kw_iconst (v := 0) hg dX1_meets_126 (by decide) ?_
              exact hret _ _ _ _ dX1_meets_127 (by simp [bz, mtM, c7, c22, c34, c69, c104, c119]) (rfl)
            · refine kw_iconst (v := 1) hg dX1_meets_122 (by decide) ?_
              refine kw_goto hg 127 dX1_meets_123 (by decide) ?_
              exact hret _ _ _ _ dX1_meets_127 (by simp [bz, mtM, c7, c22, c34, c69, c104, c119]) (rfl)
        · rcases l with _ | j
          · refine kw_iload_n hg 3 dX1_meets_72 rfl rfl ?_
            refine kw_if_lt hg 91 dX1_meets_73 (by decide) (fun c73 => ?_) (fun c73 => absurd (by decide) c73)
            refine kw_iconst (v := 1) hg dX1_meets_91 (by decide) ?_
            refine kw_goto hg 96 dX1_meets_92 (by decide) ?_
            exact hret _ _ _ _ dX1_meets_96 (by simp [bz, mtM, c7, c22, c34, c69, c73]) (rfl)
          · refine kw_iload_n hg 3 dX1_meets_72 rfl rfl ?_
            refine kw_if_lt hg 91 dX1_meets_73 (by decide) (fun c73 => absurd c73 (nI_pos (by have := hl j rfl; omega))) (fun c73 => ?_)
            refine kw_aload_n hg 0 dX1_meets_76 rfl rfl ?_
            refine gM_values hg dX1_meets_77 ?_
            refine kw_iload_n hg 1 dX1_meets_80 rfl rfl ?_
            refine aM_5 hg _ (by omega) dX1_meets_81 ?_
            refine kw_aload_n hg 0 dX1_meets_82 rfl rfl ?_
            refine gM_values hg dX1_meets_83 ?_
            refine kw_iload_n hg 3 dX1_meets_86 rfl rfl ?_
            refine aM_5 hg _ (hl j rfl) dX1_meets_87 ?_
            refine kw_icmp_ge hg 95 dX1_meets_88 (by decide) (fun c88 => ?_) (fun c88 => ?_)
            · refine kw_iconst (v := 0) hg dX1_meets_95 (by decide) ?_
              exact hret _ _ _ _ dX1_meets_96 (by simp [bz, mtM, c7, c22, c34, c69, c73, c88]) (rfl)
            · refine kw_iconst (v := 1) hg dX1_meets_91 (by decide) ?_
              refine kw_goto hg 96 dX1_meets_92 (by decide) ?_
              exact hret _ _ _ _ dX1_meets_96 (by simp [bz, mtM, c7, c22, c34, c69, c73, c88]) (rfl)
      · rcases l with _ | j
        · refine kw_iload_n hg 3 dX1_meets_37 rfl rfl ?_
          refine kw_if_lt hg 56 dX1_meets_38 (by decide) (fun c38 => ?_) (fun c38 => absurd (by decide) c38)
          refine kw_iconst (v := 1) hg dX1_meets_56 (by decide) ?_
          refine kw_goto hg 61 dX1_meets_57 (by decide) ?_
          exact hret _ _ _ _ dX1_meets_61 (by simp [bz, mtM, c7, c22, c34, c38]) (rfl)
        · refine kw_iload_n hg 3 dX1_meets_37 rfl rfl ?_
          refine kw_if_lt hg 56 dX1_meets_38 (by decide) (fun c38 => absurd c38 (nI_pos (by have := hl j rfl; omega))) (fun c38 => ?_)
          refine kw_aload_n hg 0 dX1_meets_41 rfl rfl ?_
          refine gM_values hg dX1_meets_42 ?_
          refine kw_iload_n hg 1 dX1_meets_45 rfl rfl ?_
          refine aM_5 hg _ (by omega) dX1_meets_46 ?_
          refine kw_aload_n hg 0 dX1_meets_47 rfl rfl ?_
          refine gM_values hg dX1_meets_48 ?_
          refine kw_iload_n hg 3 dX1_meets_51 rfl rfl ?_
          refine aM_5 hg _ (hl j rfl) dX1_meets_52 ?_
          refine kw_icmp_le hg 60 dX1_meets_53 (by decide) (fun c53 => ?_) (fun c53 => ?_)
          · refine kw_iconst (v := 0) hg dX1_meets_60 (by decide) ?_
            exact hret _ _ _ _ dX1_meets_61 (by simp [bz, mtM, c7, c22, c34, c38, c53]) (rfl)
          · refine kw_iconst (v := 1) hg dX1_meets_56 (by decide) ?_
            refine kw_goto hg 61 dX1_meets_57 (by decide) ?_
            exact hret _ _ _ _ dX1_meets_61 (by simp [bz, mtM, c7, c22, c34, c38, c53]) (rfl)
    · refine kw_iconst (v := 0) hg dX1_meets_25 (by decide) ?_
      exact hret _ _ _ _ dX1_meets_26 (by simp [bz, mtM, c7, c22]) (rfl)
set_option maxHeartbeats 4000000 in
set_option maxRecDepth 100000 in
theorem mM_step {h : Nat} {ad : Nat → Nat} {dc : Nat → ClassId} {u : Nat → Nat → Int32} {n : Nat} {w c : Int32} {y b : Nat → Int32} (t bo k : Int32) (hn : n ≤ 4) : kw_I yX1_step cX1_step 5 .int 0 0 (tM dc) [.ref h, .int t, .int bo, .int k] (wM h ad dc u (nI n) w c y b) (wM h ad dc (stU (okM t bo k) u n t bo (k - k / 8 * 8) (if k ≤ 7 then 0 else 1)) (nI (stN (okM t bo k) n)) w c y b) (stR (okM t bo k) n) := by
  refine kw_ofI RX1 (by decide) rfl (vp_nar_int _) (Nat.le_of_ble_eq_true rfl) (lv := [(0, .ref h), (1, .int t), (2, .int bo), (3, .int k)]) rfl ?_
  intro g hg hret
  have t28 : kw_W g 28 [(0, .ref h), (1, .int t), (2, .int bo), (3, .int k), (4, .int (bz (kM k)))] [] (wM h ad dc u (nI n) w c y b) := by
    refine kw_iload_n hg 1 dX1_step_28 rfl rfl ?_
    refine kw_if_lt hg 52 dX1_step_29 (by decide) (fun c29 => ?_) (fun c29 => ?_)
    · refine kw_iconst (v := -1) hg dX1_step_52 (by decide) ?_
      exact hret _ _ _ _ dX1_step_53 (by simp [stR, okM, c29]) (by simp [stU, stN, okM, c29])
    · refine kw_iload_n hg 1 dX1_step_32 rfl rfl ?_
      refine kw_iconst (v := 4) hg dX1_step_33 (by decide) ?_
      refine kw_icmp_gt hg 52 dX1_step_34 (by decide) (fun c34 => ?_) (fun c34 => ?_)
      · refine kw_iconst (v := -1) hg dX1_step_52 (by decide) ?_
        exact hret _ _ _ _ dX1_step_53 (by simp [stR, okM, c29, c34]) (by simp [stU, stN, okM, c29, c34])
      · refine kw_iload_n hg 2 dX1_step_37 rfl rfl ?_
        refine kw_if_lt hg 52 dX1_step_38 (by decide) (fun c38 => ?_) (fun c38 => ?_)
        · refine kw_iconst (v := -1) hg dX1_step_52 (by decide) ?_
          exact hret _ _ _ _ dX1_step_53 (by simp [stR, okM, c29, c34, c38]) (by simp [stU, stN, okM, c29, c34, c38])
        · refine kw_iload_n hg 2 dX1_step_41 rfl rfl ?_
          refine kw_bipush (v := 9) hg dX1_step_42 (by decide) ?_
          refine kw_icmp_gt hg 52 dX1_step_44 (by decide) (fun c44 => ?_) (fun c44 => ?_)
          · refine kw_iconst (v := -1) hg dX1_step_52 (by decide) ?_
            exact hret _ _ _ _ dX1_step_53 (by simp [stR, okM, c29, c34, c38, c44]) (by simp [stU, stN, okM, c29, c34, c38, c44])
          · refine kw_iload hg 4 dX1_step_47 rfl ?_
            refine kw_if_ne hg 54 dX1_step_49 (by decide) (fun c49 => ?_) (fun c49 => ?_)
            · have c49 := bz_t c49
              rcases Nat.lt_or_ge n 4 with hn4 | hn4
              · refine kw_aload_n hg 0 dX1_step_54 rfl rfl ?_
                refine gM_steps hg dX1_step_55 ?_
                refine kw_iconst (v := 4) hg dX1_step_58 (by decide) ?_
                refine kw_icmp_ne hg 65 dX1_step_59 (by decide) (fun c59 => ?_) (fun c59 => absurd c59 (by rw [show (4 : Int32) = nI 4 from rfl, nI_eq (by omega) (by omega)]; omega))
                refine kw_aload_n hg 0 dX1_step_65 rfl rfl ?_
                refine gM_stepTypes hg dX1_step_66 ?_
                refine kw_aload_n hg 0 dX1_step_69 rfl rfl ?_
                refine gM_steps hg dX1_step_70 ?_
                refine kw_iload_n hg 1 dX1_step_73 rfl rfl ?_
                refine sM_0 hg _ (by omega) dX1_step_74 ?_
                refine kw_aload_n hg 0 dX1_step_75 rfl rfl ?_
                refine gM_bounds hg dX1_step_76 ?_
                refine kw_aload_n hg 0 dX1_step_79 rfl rfl ?_
                refine gM_steps hg dX1_step_80 ?_
                refine kw_iload_n hg 2 dX1_step_83 rfl rfl ?_
                refine sM_1 hg _ (by omega) dX1_step_84 ?_
                refine kw_aload_n hg 0 dX1_step_85 rfl rfl ?_
                refine gM_kinds hg dX1_step_86 ?_
                refine kw_aload_n hg 0 dX1_step_89 rfl rfl ?_
                refine gM_steps hg dX1_step_90 ?_
                refine kw_iload_n hg 3 dX1_step_93 rfl rfl ?_
                refine kw_bipush (v := 8) hg dX1_step_94 (by decide) ?_
                refine kw_irem hg dX1_step_96 (by decide) ?_
                refine sM_2 hg _ (by omega) dX1_step_97 ?_
                refine kw_aload_n hg 0 dX1_step_98 rfl rfl ?_
                refine gM_repeats hg dX1_step_99 ?_
                refine kw_aload_n hg 0 dX1_step_102 rfl rfl ?_
                refine gM_steps hg dX1_step_103 ?_
                refine kw_iload_n hg 3 dX1_step_106 rfl rfl ?_
                refine kw_bipush (v := 7) hg dX1_step_107 (by decide) ?_
                refine kw_icmp_le hg 116 dX1_step_109 (by decide) (fun c109 => ?_) (fun c109 => ?_)
                · refine kw_iconst (v := 0) hg dX1_step_116 (by decide) ?_
                  refine sM_3 hg _ (by omega) (by decide) dX1_step_117 ?_
                  refine kw_aload_n hg 0 dX1_step_118 rfl rfl ?_
                  refine kw_dupr hg dX1_step_119 ?_
                  refine gM_steps hg dX1_step_120 ?_
                  refine kw_iconst (v := 1) hg dX1_step_123 (by decide) ?_
                  refine kw_iadd hg dX1_step_124 ?_
                  refine pM_steps hg dX1_step_125 ?_
                  rw [nI_1]
                  refine kw_aload_n hg 0 dX1_step_128 rfl rfl ?_
                  refine gM_steps hg dX1_step_129 ?_
                  exact hret _ _ _ _ dX1_step_132 (by simp [stR, okM, hn4, c29, c34, c38, c44, c49, c59, c109]) (by simp [stU, stN, okM, hn4, up1, c29, c34, c38, c44, c49, c59, c109])
                · refine kw_iconst (v := 1) hg dX1_step_112 (by decide) ?_
                  refine kw_goto hg 117 dX1_step_113 (by decide) ?_
                  refine sM_3 hg _ (by omega) (by decide) dX1_step_117 ?_
                  refine kw_aload_n hg 0 dX1_step_118 rfl rfl ?_
                  refine kw_dupr hg dX1_step_119 ?_
                  refine gM_steps hg dX1_step_120 ?_
                  refine kw_iconst (v := 1) hg dX1_step_123 (by decide) ?_
                  refine kw_iadd hg dX1_step_124 ?_
                  refine pM_steps hg dX1_step_125 ?_
                  rw [nI_1]
                  refine kw_aload_n hg 0 dX1_step_128 rfl rfl ?_
                  refine gM_steps hg dX1_step_129 ?_
                  exact hret _ _ _ _ dX1_step_132 (by simp [stR, okM, hn4, c29, c34, c38, c44, c49, c59, c109]) (by simp [stU, stN, okM, hn4, up1, c29, c34, c38, c44, c49, c59, c109])
              · refine kw_aload_n hg 0 dX1_step_54 rfl rfl ?_
                refine gM_steps hg dX1_step_55 ?_
                refine kw_iconst (v := 4) hg dX1_step_58 (by decide) ?_
                refine kw_icmp_ne hg 65 dX1_step_59 (by decide) (fun c59 => absurd (by rw [show n = 4 by omega]; rfl) c59) (fun c59 => ?_)
                refine kw_bipush (v := -2) hg dX1_step_62 (by decide) ?_
                exact hret _ _ _ _ dX1_step_64 (by simp [stR, okM, c29, c34, c38, c44, c49, Nat.not_lt.mpr hn4, c59]) (by simp [stU, stN, okM, c29, c34, c38, c44, c49, Nat.not_lt.mpr hn4, c59])
            · have c49 := bz_f c49
              refine kw_iconst (v := -1) hg dX1_step_52 (by decide) ?_
              exact hret _ _ _ _ dX1_step_53 (by simp [stR, okM, c29, c34, c38, c44, c49]) (by simp [stU, stN, okM, c29, c34, c38, c44, c49])
  refine kw_iload_n hg 3 dX1_step_0 rfl rfl ?_
  refine kw_if_lt hg 9 dX1_step_1 (by decide) (fun c1 => ?_) (fun c1 => ?_)
  · refine kw_iload_n hg 3 dX1_step_9 rfl rfl ?_
    refine kw_bipush (v := 8) hg dX1_step_10 (by decide) ?_
    refine kw_icmp_lt hg 25 dX1_step_12 (by decide) (fun c12 => ?_) (fun c12 => ?_)
    · refine kw_iconst (v := 0) hg dX1_step_25 (by decide) ?_
      refine kw_top (bz (kM k)) (by simp [bz, kM, c1, c12]) ?_
      refine kw_istore hg [some 0, some 1, some 2, some 3, none] dX1_step_26 (Nat.le_of_ble_eq_true rfl) rfl (lv2 := [(0, _), (1, _), (2, _), (3, _), (4, _)]) rfl ?_
      exact t28
    · refine kw_iload_n hg 3 dX1_step_15 rfl rfl ?_
      refine kw_bipush (v := 12) hg dX1_step_16 (by decide) ?_
      refine kw_icmp_gt hg 25 dX1_step_18 (by decide) (fun c18 => ?_) (fun c18 => ?_)
      · refine kw_iconst (v := 0) hg dX1_step_25 (by decide) ?_
        refine kw_top (bz (kM k)) (by simp [bz, kM, c1, c12, c18]) ?_
        refine kw_istore hg [some 0, some 1, some 2, some 3, none] dX1_step_26 (Nat.le_of_ble_eq_true rfl) rfl (lv2 := [(0, _), (1, _), (2, _), (3, _), (4, _)]) rfl ?_
        exact t28
      · refine kw_iconst (v := 1) hg dX1_step_21 (by decide) ?_
        refine kw_goto hg 26 dX1_step_22 (by decide) ?_
        refine kw_top (bz (kM k)) (by simp [bz, kM, c1, c12, c18]) ?_
        refine kw_istore hg [some 0, some 1, some 2, some 3, none] dX1_step_26 (Nat.le_of_ble_eq_true rfl) rfl (lv2 := [(0, _), (1, _), (2, _), (3, _), (4, _)]) rfl ?_
        exact t28
  · refine kw_iload_n hg 3 dX1_step_4 rfl rfl ?_
    refine kw_iconst (v := 4) hg dX1_step_5 (by decide) ?_
    refine kw_icmp_le hg 21 dX1_step_6 (by decide) (fun c6 => ?_) (fun c6 => ?_)
    · refine kw_iconst (v := 1) hg dX1_step_21 (by decide) ?_
      refine kw_goto hg 26 dX1_step_22 (by decide) ?_
      refine kw_top (bz (kM k)) (by simp [bz, kM, c1, c6]) ?_
      refine kw_istore hg [some 0, some 1, some 2, some 3, none] dX1_step_26 (Nat.le_of_ble_eq_true rfl) rfl (lv2 := [(0, _), (1, _), (2, _), (3, _), (4, _)]) rfl ?_
      exact t28
    · refine kw_iload_n hg 3 dX1_step_9 rfl rfl ?_
      refine kw_bipush (v := 8) hg dX1_step_10 (by decide) ?_
      refine kw_icmp_lt hg 25 dX1_step_12 (by decide) (fun c12 => ?_) (fun c12 => ?_)
      · refine kw_iconst (v := 0) hg dX1_step_25 (by decide) ?_
        refine kw_top (bz (kM k)) (by simp [bz, kM, c1, c6, c12]) ?_
        refine kw_istore hg [some 0, some 1, some 2, some 3, none] dX1_step_26 (Nat.le_of_ble_eq_true rfl) rfl (lv2 := [(0, _), (1, _), (2, _), (3, _), (4, _)]) rfl ?_
        exact t28
      · refine kw_iload_n hg 3 dX1_step_15 rfl rfl ?_
        refine kw_bipush (v := 12) hg dX1_step_16 (by decide) ?_
        refine kw_icmp_gt hg 25 dX1_step_18 (by decide) (fun c18 => ?_) (fun c18 => ?_)
        · refine kw_iconst (v := 0) hg dX1_step_25 (by decide) ?_
          refine kw_top (bz (kM k)) (by simp [bz, kM, c1, c6, c12, c18]) ?_
          refine kw_istore hg [some 0, some 1, some 2, some 3, none] dX1_step_26 (Nat.le_of_ble_eq_true rfl) rfl (lv2 := [(0, _), (1, _), (2, _), (3, _), (4, _)]) rfl ?_
          exact t28
        · refine kw_iconst (v := 1) hg dX1_step_21 (by decide) ?_
          refine kw_goto hg 26 dX1_step_22 (by decide) ?_
          refine kw_top (bz (kM k)) (by simp [bz, kM, c1, c6, c12, c18]) ?_
          refine kw_istore hg [some 0, some 1, some 2, some 3, none] dX1_step_26 (Nat.le_of_ble_eq_true rfl) rfl (lv2 := [(0, _), (1, _), (2, _), (3, _), (4, _)]) rfl ?_
          exact t28
set_option maxHeartbeats 4000000 in
set_option maxRecDepth 100000 in
theorem mM_firstOf {h : Nat} {ad : Nat → Nat} {dc : Nat → ClassId} {u : Nat → Nat → Int32} {n w c : Int32} {y b : Nat → Int32} (s : Nat) (hs : s < 2 ^ 31) : kw_I yX1_firstOf cX1_firstOf 4 .int 0 0 (tM dc) [.ref h, .int (nI s)] (wM h ad dc u n w c y b) (wM h ad dc u n w c y b) (nI (mFi s 10)) := by
  refine kw_ofI RX1 (by decide) rfl (vp_nar_int _) (Nat.le_of_ble_eq_true rfl) (lv := [(0, .ref h), (1, .int (nI s))]) rfl ?_
  intro g hg hret
  refine kw_bipush (v := 9) hg dX1_firstOf_0 (by decide) ?_
  refine kw_top (nI (mFi s 0)) (rfl) ?_
  refine kw_istore_n hg [some 0, some 1, none] dX1_firstOf_2 rfl (Nat.le_of_ble_eq_true rfl) rfl (lv2 := [(0, _), (1, _), (2, _)]) rfl ?_
  refine kw_bipush (v := 9) hg dX1_firstOf_3 (by decide) ?_
  refine kw_top (nI (10 - 0) - 1) (by decide) ?_
  refine kw_istore_n hg [some 0, some 1, some 2, none] dX1_firstOf_5 rfl (Nat.le_of_ble_eq_true rfl) rfl (lv2 := [(0, _), (1, _), (2, _), (3, _)]) rfl ?_
  have lp : ∀ d i : Nat, i + d = 10 → kw_W g 6 [(0, .ref h), (1, .int (nI s)), (2, .int (nI (mFi s i))), (3, .int (nI (10 - i) - 1))] [] (wM h ad dc u n w c y b) := by
    intro d
    induction d with
    | zero =>
      intro i hrlp
      obtain rfl : i = 10 := by omega
      refine kw_iload_n hg 3 dX1_firstOf_6 rfl rfl ?_
      refine kw_if_lt hg 31 dX1_firstOf_7 (by decide) (fun c7 => ?_) (fun c7 => absurd (by decide) c7)
      refine kw_iload_n hg 2 dX1_firstOf_31 rfl rfl ?_
      exact hret _ _ _ _ dX1_firstOf_32 (rfl) (rfl)
    | succ d ihlp =>
      intro i hrlp
      refine kw_iload_n hg 3 dX1_firstOf_6 rfl rfl ?_
      refine kw_if_lt hg 31 dX1_firstOf_7 (by decide) (fun c7 => absurd c7 (by rw [ni_pr (by omega)]; exact nI_pos (by omega))) (fun c7 => ?_)
      refine kw_loc (lv' := [(0, .ref h), (1, .int (nI s)), (2, .int (nI (mFi s i))), (3, .int (nI (9 - i)))]) (by rw [ni_pr (by omega), show 10 - i - 1 = 9 - i by omega]) ?_
      refine kw_iload_n hg 1 dX1_firstOf_10 rfl rfl ?_
      refine kw_iload_n hg 3 dX1_firstOf_11 rfl rfl ?_
      refine kw_ishr hg dX1_firstOf_12 ?_
      refine kw_iconst (v := 1) hg dX1_firstOf_13 (by decide) ?_
      refine kw_iand hg dX1_firstOf_14 ?_
      refine kw_top (nI (mbit s (9 - i))) (mb_ok hs (by omega)) ?_
      refine kw_iconst (v := 1) hg dX1_firstOf_15 (by decide) ?_
      refine kw_icmp_ne hg 23 dX1_firstOf_16 (by decide) (fun c16 => ?_) (fun c16 => ?_)
      · have c16 := mb_f c16
        refine kw_iload_n hg 2 dX1_firstOf_23 rfl rfl ?_
        refine kw_top (nI (mFi s (i + 1))) (by simp [mFi, c16]) ?_
        refine kw_istore_n hg [some 0, some 1, none, some 3] dX1_firstOf_24 rfl (Nat.le_of_ble_eq_true rfl) rfl (lv2 := [(0, _), (1, _), (2, _), (3, _)]) rfl ?_
        refine kw_iinc (v := nI (10 - (i + 1)) - 1) hg 3 [some 0, some 1, some 2, none] dX1_firstOf_25 rfl (by rw [ni_m1, show 10 - (i + 1) = 9 - i by omega]) (Nat.le_of_ble_eq_true rfl) rfl (lv2 := [(0, _), (1, _), (2, _), (3, _)]) rfl ?_
        refine kw_goto hg 6 dX1_firstOf_28 (by decide) ?_
        exact ihlp (i + 1) (by omega)
      · have c16 := mb_t c16
        refine kw_iload_n hg 3 dX1_firstOf_19 rfl rfl ?_
        refine kw_goto hg 24 dX1_firstOf_20 (by decide) ?_
        refine kw_top (nI (mFi s (i + 1))) (by simp [mFi, c16]) ?_
        refine kw_istore_n hg [some 0, some 1, none, some 3] dX1_firstOf_24 rfl (Nat.le_of_ble_eq_true rfl) rfl (lv2 := [(0, _), (1, _), (2, _), (3, _)]) rfl ?_
        refine kw_iinc (v := nI (10 - (i + 1)) - 1) hg 3 [some 0, some 1, some 2, none] dX1_firstOf_25 rfl (by rw [ni_m1, show 10 - (i + 1) = 9 - i by omega]) (Nat.le_of_ble_eq_true rfl) rfl (lv2 := [(0, _), (1, _), (2, _), (3, _)]) rfl ?_
        refine kw_goto hg 6 dX1_firstOf_28 (by decide) ?_
        exact ihlp (i + 1) (by omega)
  exact lp 10 0 (by omega)
set_option maxHeartbeats 4000000 in
set_option maxRecDepth 100000 in
theorem mM_lastOf {h : Nat} {ad : Nat → Nat} {dc : Nat → ClassId} {u : Nat → Nat → Int32} {n w c : Int32} {y b : Nat → Int32} (s : Nat) (hs : s < 2 ^ 31) : kw_I yX1_lastOf cX1_lastOf 4 .int 0 0 (tM dc) [.ref h, .int (nI s)] (wM h ad dc u n w c y b) (wM h ad dc u n w c y b) (nI (mLa s 10)) := by
  refine kw_ofI RX1 (by decide) rfl (vp_nar_int _) (Nat.le_of_ble_eq_true rfl) (lv := [(0, .ref h), (1, .int (nI s))]) rfl ?_
  intro g hg hret
  refine kw_iconst (v := 0) hg dX1_lastOf_0 (by decide) ?_
  refine kw_top (nI (mLa s 0)) (rfl) ?_
  refine kw_istore_n hg [some 0, some 1, none] dX1_lastOf_1 rfl (Nat.le_of_ble_eq_true rfl) rfl (lv2 := [(0, _), (1, _), (2, _)]) rfl ?_
  refine kw_iconst (v := 0) hg dX1_lastOf_2 (by decide) ?_
  refine kw_top (nI 0) (nI_0.symm) ?_
  refine kw_istore_n hg [some 0, some 1, some 2, none] dX1_lastOf_3 rfl (Nat.le_of_ble_eq_true rfl) rfl (lv2 := [(0, _), (1, _), (2, _), (3, _)]) rfl ?_
  have lp : ∀ d i : Nat, i + d = 10 → kw_W g 4 [(0, .ref h), (1, .int (nI s)), (2, .int (nI (mLa s i))), (3, .int (nI i))] [] (wM h ad dc u n w c y b) := by
    intro d
    induction d with
    | zero =>
      intro i hrlp
      obtain rfl : i = 10 := by omega
      refine kw_iload_n hg 3 dX1_lastOf_4 rfl rfl ?_
      refine kw_bipush (v := 10) hg dX1_lastOf_5 (by decide) ?_
      refine kw_icmp_ge hg 31 dX1_lastOf_7 (by decide) (fun c7 => ?_) (fun c7 => absurd (by decide) c7)
      refine kw_iload_n hg 2 dX1_lastOf_31 rfl rfl ?_
      exact hret _ _ _ _ dX1_lastOf_32 (rfl) (rfl)
    | succ d ihlp =>
      intro i hrlp
      refine kw_iload_n hg 3 dX1_lastOf_4 rfl rfl ?_
      refine kw_bipush (v := 10) hg dX1_lastOf_5 (by decide) ?_
      refine kw_icmp_ge hg 31 dX1_lastOf_7 (by decide) (fun c7 => absurd c7 (by rw [show (10 : Int32) = nI 10 from rfl]; exact nI_ge (by omega) (by omega))) (fun c7 => ?_)
      refine kw_iload_n hg 1 dX1_lastOf_10 rfl rfl ?_
      refine kw_iload_n hg 3 dX1_lastOf_11 rfl rfl ?_
      refine kw_ishr hg dX1_lastOf_12 ?_
      refine kw_iconst (v := 1) hg dX1_lastOf_13 (by decide) ?_
      refine kw_iand hg dX1_lastOf_14 ?_
      refine kw_top (nI (mbit s i)) (mb_ok hs (by omega)) ?_
      refine kw_iconst (v := 1) hg dX1_lastOf_15 (by decide) ?_
      refine kw_icmp_ne hg 23 dX1_lastOf_16 (by decide) (fun c16 => ?_) (fun c16 => ?_)
      · have c16 := mb_f c16
        refine kw_iload_n hg 2 dX1_lastOf_23 rfl rfl ?_
        refine kw_top (nI (mLa s (i + 1))) (by simp [mLa, c16]) ?_
        refine kw_istore_n hg [some 0, some 1, none, some 3] dX1_lastOf_24 rfl (Nat.le_of_ble_eq_true rfl) rfl (lv2 := [(0, _), (1, _), (2, _), (3, _)]) rfl ?_
        refine kw_iinc (v := nI (i + 1)) hg 3 [some 0, some 1, some 2, none] dX1_lastOf_25 rfl (nI_1 i) (Nat.le_of_ble_eq_true rfl) rfl (lv2 := [(0, _), (1, _), (2, _), (3, _)]) rfl ?_
        refine kw_goto hg 4 dX1_lastOf_28 (by decide) ?_
        exact ihlp (i + 1) (by omega)
      · have c16 := mb_t c16
        refine kw_iload_n hg 3 dX1_lastOf_19 rfl rfl ?_
        refine kw_goto hg 24 dX1_lastOf_20 (by decide) ?_
        refine kw_top (nI (mLa s (i + 1))) (by simp [mLa, c16]) ?_
        refine kw_istore_n hg [some 0, some 1, none, some 3] dX1_lastOf_24 rfl (Nat.le_of_ble_eq_true rfl) rfl (lv2 := [(0, _), (1, _), (2, _), (3, _)]) rfl ?_
        refine kw_iinc (v := nI (i + 1)) hg 3 [some 0, some 1, some 2, none] dX1_lastOf_25 rfl (nI_1 i) (Nat.le_of_ble_eq_true rfl) rfl (lv2 := [(0, _), (1, _), (2, _), (3, _)]) rfl ?_
        refine kw_goto hg 4 dX1_lastOf_28 (by decide) ?_
        exact ihlp (i + 1) (by omega)
  exact lp 10 0 (by omega)
set_option maxHeartbeats 4000000 in
set_option maxRecDepth 100000 in
theorem mM_sizeOf {h : Nat} {ad : Nat → Nat} {dc : Nat → ClassId} {u : Nat → Nat → Int32} {n w c : Int32} {y b : Nat → Int32} (s : Nat) (hs : s < 2 ^ 31) : kw_I yX1_sizeOf cX1_sizeOf 4 .int 0 0 (tM dc) [.ref h, .int (nI s)] (wM h ad dc u n w c y b) (wM h ad dc u n w c y b) (nI (mSz s 10)) := by
  refine kw_ofI RX1 (by decide) rfl (vp_nar_int _) (Nat.le_of_ble_eq_true rfl) (lv := [(0, .ref h), (1, .int (nI s))]) rfl ?_
  intro g hg hret
  refine kw_iconst (v := 0) hg dX1_sizeOf_0 (by decide) ?_
  refine kw_top (nI (mSz s 0)) (rfl) ?_
  refine kw_istore_n hg [some 0, some 1, none] dX1_sizeOf_1 rfl (Nat.le_of_ble_eq_true rfl) rfl (lv2 := [(0, _), (1, _), (2, _)]) rfl ?_
  refine kw_iconst (v := 0) hg dX1_sizeOf_2 (by decide) ?_
  refine kw_top (nI 0) (nI_0.symm) ?_
  refine kw_istore_n hg [some 0, some 1, some 2, none] dX1_sizeOf_3 rfl (Nat.le_of_ble_eq_true rfl) rfl (lv2 := [(0, _), (1, _), (2, _), (3, _)]) rfl ?_
  have lp : ∀ d i : Nat, i + d = 10 → kw_W g 4 [(0, .ref h), (1, .int (nI s)), (2, .int (nI (mSz s i))), (3, .int (nI i))] [] (wM h ad dc u n w c y b) := by
    intro d
    induction d with
    | zero =>
      intro i hrlp
      obtain rfl : i = 10 := by omega
      refine kw_iload_n hg 3 dX1_sizeOf_4 rfl rfl ?_
      refine kw_bipush (v := 10) hg dX1_sizeOf_5 (by decide) ?_
      refine kw_icmp_ge hg 24 dX1_sizeOf_7 (by decide) (fun c7 => ?_) (fun c7 => absurd (by decide) c7)
      refine kw_iload_n hg 2 dX1_sizeOf_24 rfl rfl ?_
      exact hret _ _ _ _ dX1_sizeOf_25 (rfl) (rfl)
    | succ d ihlp =>
      intro i hrlp
      refine kw_iload_n hg 3 dX1_sizeOf_4 rfl rfl ?_
      refine kw_bipush (v := 10) hg dX1_sizeOf_5 (by decide) ?_
      refine kw_icmp_ge hg 24 dX1_sizeOf_7 (by decide) (fun c7 => absurd c7 (by rw [show (10 : Int32) = nI 10 from rfl]; exact nI_ge (by omega) (by omega))) (fun c7 => ?_)
      refine kw_iload_n hg 2 dX1_sizeOf_10 rfl rfl ?_
      refine kw_iload_n hg 1 dX1_sizeOf_11 rfl rfl ?_
      refine kw_iload_n hg 3 dX1_sizeOf_12 rfl rfl ?_
      refine kw_ishr hg dX1_sizeOf_13 ?_
      refine kw_iconst (v := 1) hg dX1_sizeOf_14 (by decide) ?_
      refine kw_iand hg dX1_sizeOf_15 ?_
      refine kw_top (nI (mbit s i)) (mb_ok hs (by omega)) ?_
      refine kw_iadd hg dX1_sizeOf_16 ?_
      refine kw_top (nI (mSz s (i + 1))) (nI_add _ _) ?_
      refine kw_istore_n hg [some 0, some 1, none, some 3] dX1_sizeOf_17 rfl (Nat.le_of_ble_eq_true rfl) rfl (lv2 := [(0, _), (1, _), (2, _), (3, _)]) rfl ?_
      refine kw_iinc (v := nI (i + 1)) hg 3 [some 0, some 1, some 2, none] dX1_sizeOf_18 rfl (nI_1 i) (Nat.le_of_ble_eq_true rfl) rfl (lv2 := [(0, _), (1, _), (2, _), (3, _)]) rfl ?_
      refine kw_goto hg 4 dX1_sizeOf_21 (by decide) ?_
      exact ihlp (i + 1) (by omega)
  exact lp 10 0 (by omega)
set_option maxHeartbeats 4000000 in
set_option maxRecDepth 100000 in
theorem mM_take {h : Nat} {ad : Nat → Nat} {dc : Nat → ClassId} {u : Nat → Nat → Int32} {n : Nat} {w c : Int32} {y b : Nat → Int32} (e : Nat) (l : Option Nat) (f : Nat) (he : e < 10) (hl : ∀ j, l = some j → j < 10) (hf : f < 10) (hn : n ≤ 4) : kw_V yX1_take cX1_take 6 1 24 (tM dc) [.ref h, .int (nI e), .int (pb l), .int (nI f)] (wM h ad dc u (nI n) w c y b) (wM h ad dc u (nI n) w c (mTk u n e l f (y, b)).1 (mTk u n e l f (y, b)).2) := by
  refine kw_ofV RX1 (by decide) rfl (Nat.le_of_ble_eq_true rfl) (lv := [(0, .ref h), (1, .int (nI e)), (2, .int (pb l)), (3, .int (nI f))]) rfl ?_
  intro g hg hret
  refine kw_iconst (v := 0) hg dX1_take_0 (by decide) ?_
  refine kw_top (nI 0) (nI_0.symm) ?_
  refine kw_istore hg [some 0, some 1, some 2, some 3, none] dX1_take_1 (Nat.le_of_ble_eq_true rfl) rfl (lv2 := [(0, _), (1, _), (2, _), (3, _), (4, _)]) rfl ?_
  have la : ∀ d k : Nat, k + d = n → kw_W g 3 [(0, .ref h), (1, .int (nI e)), (2, .int (pb l)), (3, .int (nI f)), (4, .int (nI k))] [] (wM h ad dc u (nI n) w c y (mB y b k)) := by
    intro d
    induction d with
    | zero =>
      intro k hrla
      obtain rfl : n = k := by omega
      refine kw_iload hg 4 dX1_take_3 rfl ?_
      refine kw_aload_n hg 0 dX1_take_5 rfl rfl ?_
      refine gM_steps hg dX1_take_6 ?_
      refine kw_icmp_ge hg 32 dX1_take_9 (by decide) (fun c9 => ?_) (fun c9 => absurd (nI_le (by omega) (by omega)) c9)
      refine kw_iconst (v := 0) hg dX1_take_32 (by decide) ?_
      refine kw_top (nI 0) (nI_0.symm) ?_
      refine kw_istore hg [some 0, some 1, some 2, some 3, none] dX1_take_33 (Nat.le_of_ble_eq_true rfl) rfl (lv2 := [(0, _), (1, _), (2, _), (3, _), (4, _)]) rfl ?_
      have lb : ∀ d k : Nat, k + d = n → kw_W g 35 [(0, .ref h), (1, .int (nI e)), (2, .int (pb l)), (3, .int (nI f)), (4, .int (nI k))] [] (wM h ad dc u (nI n) w c (mY u e l f (mB y b n) y k) (mB y b n)) := by
        intro d
        induction d with
        | zero =>
          intro k hrlb
          obtain rfl : n = k := by omega
          refine kw_iload hg 4 dX1_take_35 rfl ?_
          refine kw_aload_n hg 0 dX1_take_37 rfl rfl ?_
          refine gM_steps hg dX1_take_38 ?_
          refine kw_icmp_ge hg 143 dX1_take_41 (by decide) (fun c41 => ?_) (fun c41 => absurd (nI_le (by omega) (by omega)) c41)
          exact hret _ _ _ dX1_take_143 (rfl)
        | succ d ihlb =>
          intro k hrlb
          refine kw_iload hg 4 dX1_take_35 rfl ?_
          refine kw_aload_n hg 0 dX1_take_37 rfl rfl ?_
          refine gM_steps hg dX1_take_38 ?_
          refine kw_icmp_ge hg 143 dX1_take_41 (by decide) (fun c41 => absurd c41 (nI_ge (by omega) (by omega))) (fun c41 => ?_)
          have t112 : kw_W g 112 [(0, .ref h), (1, .int (nI e)), (2, .int (pb l)), (3, .int (nI f)), (4, .int (nI k)), (5, .int (mS u l (mB y b n) k))] [] (wM h ad dc u (nI n) w c (mY u e l f (mB y b n) y k) (mB y b n)) := by
            refine kw_aload_n hg 0 dX1_take_112 rfl rfl ?_
            refine gM_ways hg dX1_take_113 ?_
            refine kw_iload hg 4 dX1_take_116 rfl ?_
            refine kw_aload_n hg 0 dX1_take_118 rfl rfl ?_
            refine kw_iload_n hg 1 dX1_take_119 rfl rfl ?_
            refine kw_iload hg 4 dX1_take_120 rfl ?_
            refine kw_iload_n hg 2 dX1_take_122 rfl rfl ?_
            refine kw_iload_n hg 3 dX1_take_123 rfl rfl ?_
            refine kw_calli hg (mM_meets f k l e hf (by omega) he hl) kw_J.self (fun _ _ h => h) lx_X1_meets ly_X1_meets rfl ⟨Nat.le_of_ble_eq_true rfl, Nat.le_of_ble_eq_true rfl⟩ rfl rfl rfl (Nat.le_of_ble_eq_true rfl) dX1_take_124 ?_
            refine kw_if_eq hg 135 dX1_take_127 (by decide) (fun c127 => ?_) (fun c127 => ?_)
            · have c127 := bz_f c127
              refine kw_iconst (v := 0) hg dX1_take_135 (by decide) ?_
              refine kw_top (cond (mtM u f k l e) (mS u l (mB y b n) k) 0) (by rw [c127]; rfl) ?_
              refine sM_7 hg _ (by omega) dX1_take_136 ?_
              refine kw_iinc (v := nI (k + 1)) hg 4 [some 0, some 1, some 2, some 3, none, some 5] dX1_take_137 rfl (nI_1 k) (Nat.le_of_ble_eq_true rfl) rfl (lv2 := [(0, _), (1, _), (2, _), (3, _), (4, _), (5, _)]) rfl ?_
              refine kw_goto hg 35 dX1_take_140 (by decide) ?_
              refine kw_less [0, 1, 2, 3, 4] (lv' := [(0, _), (1, _), (2, _), (3, _), (4, _)]) rfl ?_
              exact ihlb (k + 1) (by omega)
            · have c127 := bz_t c127
              refine kw_iload hg 5 dX1_take_130 rfl ?_
              refine kw_goto hg 136 dX1_take_132 (by decide) ?_
              refine kw_top (cond (mtM u f k l e) (mS u l (mB y b n) k) 0) (by rw [c127]; rfl) ?_
              refine sM_7 hg _ (by omega) dX1_take_136 ?_
              refine kw_iinc (v := nI (k + 1)) hg 4 [some 0, some 1, some 2, some 3, none, some 5] dX1_take_137 rfl (nI_1 k) (Nat.le_of_ble_eq_true rfl) rfl (lv2 := [(0, _), (1, _), (2, _), (3, _), (4, _), (5, _)]) rfl ?_
              refine kw_goto hg 35 dX1_take_140 (by decide) ?_
              refine kw_less [0, 1, 2, 3, 4] (lv' := [(0, _), (1, _), (2, _), (3, _), (4, _)]) rfl ?_
              exact ihlb (k + 1) (by omega)
          have t67 : kw_W g 67 [(0, .ref h), (1, .int (nI e)), (2, .int (pb l)), (3, .int (nI f)), (4, .int (nI k)), (5, .int (if u 3 k = 0 then 0 else (mB y b n) k))] [] (wM h ad dc u (nI n) w c (mY u e l f (mB y b n) y k) (mB y b n)) := by
            rcases Nat.eq_zero_or_pos k with hk0 | hk0
            · refine kw_iload hg 4 dX1_take_67 rfl ?_
              refine kw_if_le hg 87 dX1_take_69 (by decide) (fun c69 => ?_) (fun c69 => absurd (by rw [hk0, nI_0]; decide) c69)
              refine kw_iload hg 5 dX1_take_87 rfl ?_
              refine kw_istore hg [some 0, some 1, some 2, some 3, some 4, none] dX1_take_89 (Nat.le_of_ble_eq_true rfl) rfl (lv2 := [(0, _), (1, _), (2, _), (3, _), (4, _), (5, _)]) rfl ?_
              rcases l with _ | j
              · refine kw_iload_n hg 2 dX1_take_91 rfl rfl ?_
                refine kw_if_ge hg 108 dX1_take_92 (by decide) (fun c92 => absurd c92 (by decide)) (fun c92 => ?_)
                refine kw_iload hg 4 dX1_take_95 rfl ?_
                refine kw_if_ne hg 104 dX1_take_97 (by decide) (fun c97 => absurd (by rw [hk0]; exact nI_0) c97) (fun c97 => ?_)
                refine kw_iconst (v := 1) hg dX1_take_100 (by decide) ?_
                refine kw_goto hg 110 dX1_take_101 (by decide) ?_
                refine kw_top (mS u none (mB y b n) k) (by simp [mS, hk0]) ?_
                refine kw_istore hg [some 0, some 1, some 2, some 3, some 4, none] dX1_take_110 (Nat.le_of_ble_eq_true rfl) rfl (lv2 := [(0, _), (1, _), (2, _), (3, _), (4, _), (5, _)]) rfl ?_
                exact t112
              · refine kw_iload_n hg 2 dX1_take_91 rfl rfl ?_
                refine kw_if_ge hg 108 dX1_take_92 (by decide) (fun c92 => ?_) (fun c92 => absurd (nI_pos' (by have := hl j rfl; omega)) c92)
                refine kw_iload hg 5 dX1_take_108 rfl ?_
                refine kw_top (mS u (some j) (mB y b n) k) (by simp [mS, hk0]) ?_
                refine kw_istore hg [some 0, some 1, some 2, some 3, some 4, none] dX1_take_110 (Nat.le_of_ble_eq_true rfl) rfl (lv2 := [(0, _), (1, _), (2, _), (3, _), (4, _), (5, _)]) rfl ?_
                exact t112
            · refine kw_iload hg 4 dX1_take_67 rfl ?_
              refine kw_if_le hg 87 dX1_take_69 (by decide) (fun c69 => absurd c69 (nI_nle hk0 (by omega))) (fun c69 => ?_)
              refine kw_iload hg 5 dX1_take_72 rfl ?_
              refine kw_aload_n hg 0 dX1_take_74 rfl rfl ?_
              refine gM_before hg dX1_take_75 ?_
              refine kw_iload hg 4 dX1_take_78 rfl ?_
              refine kw_iconst (v := 1) hg dX1_take_80 (by decide) ?_
              refine kw_isub hg dX1_take_81 ?_
              refine kw_top (nI (k - 1)) (ni_pr hk0) ?_
              refine aM_8 hg _ (by omega) dX1_take_82 ?_
              refine kw_iadd hg dX1_take_83 ?_
              refine kw_goto hg 89 dX1_take_84 (by decide) ?_
              refine kw_istore hg [some 0, some 1, some 2, some 3, some 4, none] dX1_take_89 (Nat.le_of_ble_eq_true rfl) rfl (lv2 := [(0, _), (1, _), (2, _), (3, _), (4, _), (5, _)]) rfl ?_
              rcases l with _ | j
              · refine kw_iload_n hg 2 dX1_take_91 rfl rfl ?_
                refine kw_if_ge hg 108 dX1_take_92 (by decide) (fun c92 => absurd c92 (by decide)) (fun c92 => ?_)
                refine kw_iload hg 4 dX1_take_95 rfl ?_
                refine kw_if_ne hg 104 dX1_take_97 (by decide) (fun c97 => ?_) (fun c97 => absurd c97 (nI_ne0 hk0 (by omega)))
                refine kw_iconst (v := 0) hg dX1_take_104 (by decide) ?_
                refine kw_goto hg 110 dX1_take_105 (by decide) ?_
                refine kw_top (mS u none (mB y b n) k) (by simp [mS, Nat.ne_of_gt hk0]) ?_
                refine kw_istore hg [some 0, some 1, some 2, some 3, some 4, none] dX1_take_110 (Nat.le_of_ble_eq_true rfl) rfl (lv2 := [(0, _), (1, _), (2, _), (3, _), (4, _), (5, _)]) rfl ?_
                exact t112
              · refine kw_iload_n hg 2 dX1_take_91 rfl rfl ?_
                refine kw_if_ge hg 108 dX1_take_92 (by decide) (fun c92 => ?_) (fun c92 => absurd (nI_pos' (by have := hl j rfl; omega)) c92)
                refine kw_iload hg 5 dX1_take_108 rfl ?_
                refine kw_top (mS u (some j) (mB y b n) k) (by simp [mS, Nat.ne_of_gt hk0]) ?_
                refine kw_istore hg [some 0, some 1, some 2, some 3, some 4, none] dX1_take_110 (Nat.le_of_ble_eq_true rfl) rfl (lv2 := [(0, _), (1, _), (2, _), (3, _), (4, _), (5, _)]) rfl ?_
                exact t112
          refine kw_aload_n hg 0 dX1_take_44 rfl rfl ?_
          refine gM_repeats hg dX1_take_45 ?_
          refine kw_iload hg 4 dX1_take_48 rfl ?_
          refine aM_3 hg _ (by omega) dX1_take_50 ?_
          refine kw_if_eq hg 64 dX1_take_51 (by decide) (fun c51 => ?_) (fun c51 => ?_)
          · refine kw_iconst (v := 0) hg dX1_take_64 (by decide) ?_
            refine kw_top (if u 3 k = 0 then 0 else (mB y b n) k) (by simp [c51]) ?_
            refine kw_istore hg [some 0, some 1, some 2, some 3, some 4, none] dX1_take_65 (Nat.le_of_ble_eq_true rfl) rfl (lv2 := [(0, _), (1, _), (2, _), (3, _), (4, _), (5, _)]) rfl ?_
            exact t67
          · refine kw_aload_n hg 0 dX1_take_54 rfl rfl ?_
            refine gM_before hg dX1_take_55 ?_
            refine kw_iload hg 4 dX1_take_58 rfl ?_
            refine aM_8 hg _ (by omega) dX1_take_60 ?_
            refine kw_goto hg 65 dX1_take_61 (by decide) ?_
            refine kw_top (if u 3 k = 0 then 0 else (mB y b n) k) (by simp [c51]) ?_
            refine kw_istore hg [some 0, some 1, some 2, some 3, some 4, none] dX1_take_65 (Nat.le_of_ble_eq_true rfl) rfl (lv2 := [(0, _), (1, _), (2, _), (3, _), (4, _), (5, _)]) rfl ?_
            exact t67
      exact lb n 0 (by omega)
    | succ d ihla =>
      intro k hrla
      refine kw_iload hg 4 dX1_take_3 rfl ?_
      refine kw_aload_n hg 0 dX1_take_5 rfl rfl ?_
      refine gM_steps hg dX1_take_6 ?_
      refine kw_icmp_ge hg 32 dX1_take_9 (by decide) (fun c9 => absurd c9 (nI_ge (by omega) (by omega))) (fun c9 => ?_)
      refine kw_aload_n hg 0 dX1_take_12 rfl rfl ?_
      refine gM_before hg dX1_take_13 ?_
      refine kw_iload hg 4 dX1_take_16 rfl ?_
      refine kw_aload_n hg 0 dX1_take_18 rfl rfl ?_
      refine gM_ways hg dX1_take_19 ?_
      refine kw_iload hg 4 dX1_take_22 rfl ?_
      refine aM_7 hg _ (by omega) dX1_take_24 ?_
      refine sM_8 hg _ (by omega) dX1_take_25 ?_
      refine kw_iinc (v := nI (k + 1)) hg 4 [some 0, some 1, some 2, some 3, none] dX1_take_26 rfl (nI_1 k) (Nat.le_of_ble_eq_true rfl) rfl (lv2 := [(0, _), (1, _), (2, _), (3, _), (4, _)]) rfl ?_
      refine kw_goto hg 3 dX1_take_29 (by decide) ?_
      exact ihla (k + 1) (by omega)
  exact la n 0 (by omega)
set_option maxHeartbeats 4000000 in
set_option maxRecDepth 100000 in
theorem mM_findsOf {h : Nat} {ad : Nat → Nat} {dc : Nat → ClassId} {u : Nat → Nat → Int32} {n c : Nat} {w : Int32} {y b : Nat → Int32} (s : Nat) (hs : s < 2 ^ 31) (hn : n ≤ 4) (hc : c ≤ 10) : kw_I yX1_findsOf cX1_findsOf 5 .int 2 49 (tM dc) [.ref h, .int (nI s)] (wM h ad dc u (nI n) w (nI c) y b) (wM h ad dc u (nI n) w (nI c) (mFo u n s (y, b) c).2.1 (mFo u n s (y, b) c).2.2) (mFv u n w c s (y, b)) := by
  refine kw_ofI RX1 (by decide) rfl (vp_nar_int _) (Nat.le_of_ble_eq_true rfl) (lv := [(0, .ref h), (1, .int (nI s))]) rfl ?_
  intro g hg hret
  refine kw_aload_n hg 0 dX1_findsOf_0 rfl rfl ?_
  refine kw_iload_n hg 1 dX1_findsOf_1 rfl rfl ?_
  refine kw_calli hg (mM_firstOf s hs) kw_J.self (fun _ _ h => h) lx_X1_firstOf ly_X1_firstOf rfl ⟨Nat.le_of_ble_eq_true rfl, Nat.le_of_ble_eq_true rfl⟩ rfl rfl rfl (Nat.le_of_ble_eq_true rfl) dX1_findsOf_2 ?_
  refine kw_istore_n hg [some 0, some 1, none] dX1_findsOf_5 rfl (Nat.le_of_ble_eq_true rfl) rfl (lv2 := [(0, _), (1, _), (2, _)]) rfl ?_
  refine kw_iconst (v := -1) hg dX1_findsOf_6 (by decide) ?_
  refine kw_istore_n hg [some 0, some 1, some 2, none] dX1_findsOf_7 rfl (Nat.le_of_ble_eq_true rfl) rfl (lv2 := [(0, _), (1, _), (2, _), (3, _)]) rfl ?_
  refine kw_iconst (v := 0) hg dX1_findsOf_8 (by decide) ?_
  refine kw_top (nI 0) (nI_0.symm) ?_
  refine kw_istore hg [some 0, some 1, some 2, some 3, none] dX1_findsOf_9 (Nat.le_of_ble_eq_true rfl) rfl (lv2 := [(0, _), (1, _), (2, _), (3, _), (4, _)]) rfl ?_
  have lp : ∀ d i : Nat, i + d = c → kw_W g 11 [(0, .ref h), (1, .int (nI s)), (2, .int (nI (mFi s 10))), (3, .int (pb (mFo u n s (y, b) i).1)), (4, .int (nI i))] [] (wM h ad dc u (nI n) w (nI c) (mFo u n s (y, b) i).2.1 (mFo u n s (y, b) i).2.2) := by
    intro d
    induction d with
    | zero =>
      intro i hrlp
      obtain rfl : c = i := by omega
      refine kw_iload hg 4 dX1_findsOf_11 rfl ?_
      refine kw_aload_n hg 0 dX1_findsOf_13 rfl rfl ?_
      refine gM_count hg dX1_findsOf_14 ?_
      refine kw_icmp_ge hg 47 dX1_findsOf_17 (by decide) (fun c17 => ?_) (fun c17 => absurd (nI_le (by omega) (by omega)) c17)
      have hlt := mFo_lt (u := u) (n := n) (s := s) (q := (y, b)) c
      have hv : ∀ x : Int32, x = mFv u n w c s (y, b) → x = mFv u n w c s (y, b) := fun _ h => h
      unfold mFv at hret
      generalize mFo u n s (y, b) c = F at hret hlt ⊢
      obtain ⟨l, qq⟩ := F
      rcases l with _ | j
      · refine kw_iload_n hg 3 dX1_findsOf_47 rfl rfl ?_
        refine kw_if_lt hg 75 dX1_findsOf_48 (by decide) (fun c48 => ?_) (fun c48 => absurd (show pb none < 0 from by decide) c48)
        refine kw_iconst (v := 0) hg dX1_findsOf_75 (by decide) ?_
        refine kw_top (bz false) rfl ?_
        refine kw_istore hg [some 0, some 1, some 2, some 3, none] dX1_findsOf_76 (Nat.le_of_ble_eq_true rfl) rfl (lv2 := [(0, _), (1, _), (2, _), (3, _), (4, _)]) rfl ?_
        refine kw_iload hg 4 dX1_findsOf_78 rfl ?_
        refine kw_if_eq hg 104 dX1_findsOf_80 (by decide) (fun c80 => ?_) (fun c80 => absurd (rfl) c80)
        refine kw_iconst (v := 0) hg dX1_findsOf_104 (by decide) ?_
        exact hret _ _ _ _ dX1_findsOf_105 (rfl) (rfl)
      · have hj : j < c := hlt j rfl
        have hfi := mFi_lt s 10
        refine kw_iload_n hg 3 dX1_findsOf_47 rfl rfl ?_
        refine kw_if_lt hg 75 dX1_findsOf_48 (by decide) (fun c48 => absurd c48 (nI_pos (by omega))) (fun c48 => ?_)
        refine kw_aload_n hg 0 dX1_findsOf_51 rfl rfl ?_
        refine gM_times hg dX1_findsOf_52 ?_
        refine kw_iload_n hg 3 dX1_findsOf_55 rfl rfl ?_
        refine aM_6 hg _ (by omega) dX1_findsOf_56 ?_
        refine kw_aload_n hg 0 dX1_findsOf_57 rfl rfl ?_
        refine gM_times hg dX1_findsOf_58 ?_
        refine kw_iload_n hg 2 dX1_findsOf_61 rfl rfl ?_
        refine aM_6 hg _ (by omega) dX1_findsOf_62 ?_
        refine kw_isub hg dX1_findsOf_63 ?_
        refine kw_aload_n hg 0 dX1_findsOf_64 rfl rfl ?_
        refine gM_window hg dX1_findsOf_65 ?_
        refine kw_icmp_gt hg 75 dX1_findsOf_68 (by decide) (fun c68 => ?_) (fun c68 => ?_)
        · refine kw_iconst (v := 0) hg dX1_findsOf_75 (by decide) ?_
          refine kw_top (bz (iwX u w (mFi s 10) j)) (by simp [bz, iwX, c68]) ?_
          refine kw_istore hg [some 0, some 1, some 2, some 3, none] dX1_findsOf_76 (Nat.le_of_ble_eq_true rfl) rfl (lv2 := [(0, _), (1, _), (2, _), (3, _), (4, _)]) rfl ?_
          refine kw_iload hg 4 dX1_findsOf_78 rfl ?_
          refine kw_if_eq hg 104 dX1_findsOf_80 (by decide) (fun c80 => ?_) (fun c80 => ?_)
          · have c80 := bz_f c80
            refine kw_iconst (v := 0) hg dX1_findsOf_104 (by decide) ?_
            exact hret _ _ _ _ dX1_findsOf_105 (by simp [c80]) (rfl)
          · have c80 := bz_t c80
            rcases Nat.eq_zero_or_pos n with hn0 | hn0
            · subst hn0
              refine kw_aload_n hg 0 dX1_findsOf_83 rfl rfl ?_
              refine gM_steps hg dX1_findsOf_84 ?_
              refine kw_if_le hg 104 dX1_findsOf_87 (by decide) (fun c87 => ?_) (fun c87 => absurd (by rw [nI_0]; decide) c87)
              refine kw_iconst (v := 0) hg dX1_findsOf_104 (by decide) ?_
              exact hret _ _ _ _ dX1_findsOf_105 (by simp [c80]) (rfl)
            · refine kw_aload_n hg 0 dX1_findsOf_83 rfl rfl ?_
              refine gM_steps hg dX1_findsOf_84 ?_
              refine kw_if_le hg 104 dX1_findsOf_87 (by decide) (fun c87 => absurd c87 (nI_nle hn0 (by omega))) (fun c87 => ?_)
              refine kw_aload_n hg 0 dX1_findsOf_90 rfl rfl ?_
              refine gM_ways hg dX1_findsOf_91 ?_
              refine kw_aload_n hg 0 dX1_findsOf_94 rfl rfl ?_
              refine gM_steps hg dX1_findsOf_95 ?_
              refine kw_iconst (v := 1) hg dX1_findsOf_98 (by decide) ?_
              refine kw_isub hg dX1_findsOf_99 ?_
              refine kw_top (nI (n - 1)) (ni_pr hn0) ?_
              refine aM_7 hg _ (by omega) dX1_findsOf_100 ?_
              refine kw_goto hg 105 dX1_findsOf_101 (by decide) ?_
              exact hret _ _ _ _ dX1_findsOf_105 (by simp [c80, hn0]) (rfl)
        · refine kw_iconst (v := 1) hg dX1_findsOf_71 (by decide) ?_
          refine kw_goto hg 76 dX1_findsOf_72 (by decide) ?_
          refine kw_top (bz (iwX u w (mFi s 10) j)) (by simp [bz, iwX, c68]) ?_
          refine kw_istore hg [some 0, some 1, some 2, some 3, none] dX1_findsOf_76 (Nat.le_of_ble_eq_true rfl) rfl (lv2 := [(0, _), (1, _), (2, _), (3, _), (4, _)]) rfl ?_
          refine kw_iload hg 4 dX1_findsOf_78 rfl ?_
          refine kw_if_eq hg 104 dX1_findsOf_80 (by decide) (fun c80 => ?_) (fun c80 => ?_)
          · have c80 := bz_f c80
            refine kw_iconst (v := 0) hg dX1_findsOf_104 (by decide) ?_
            exact hret _ _ _ _ dX1_findsOf_105 (by simp [c80]) (rfl)
          · have c80 := bz_t c80
            rcases Nat.eq_zero_or_pos n with hn0 | hn0
            · subst hn0
              refine kw_aload_n hg 0 dX1_findsOf_83 rfl rfl ?_
              refine gM_steps hg dX1_findsOf_84 ?_
              refine kw_if_le hg 104 dX1_findsOf_87 (by decide) (fun c87 => ?_) (fun c87 => absurd (by rw [nI_0]; decide) c87)
              refine kw_iconst (v := 0) hg dX1_findsOf_104 (by decide) ?_
              exact hret _ _ _ _ dX1_findsOf_105 (by simp [c80]) (rfl)
            · refine kw_aload_n hg 0 dX1_findsOf_83 rfl rfl ?_
              refine gM_steps hg dX1_findsOf_84 ?_
              refine kw_if_le hg 104 dX1_findsOf_87 (by decide) (fun c87 => absurd c87 (nI_nle hn0 (by omega))) (fun c87 => ?_)
              refine kw_aload_n hg 0 dX1_findsOf_90 rfl rfl ?_
              refine gM_ways hg dX1_findsOf_91 ?_
              refine kw_aload_n hg 0 dX1_findsOf_94 rfl rfl ?_
              refine gM_steps hg dX1_findsOf_95 ?_
              refine kw_iconst (v := 1) hg dX1_findsOf_98 (by decide) ?_
              refine kw_isub hg dX1_findsOf_99 ?_
              refine kw_top (nI (n - 1)) (ni_pr hn0) ?_
              refine aM_7 hg _ (by omega) dX1_findsOf_100 ?_
              refine kw_goto hg 105 dX1_findsOf_101 (by decide) ?_
              exact hret _ _ _ _ dX1_findsOf_105 (by simp [c80, hn0]) (rfl)
    | succ d ihlp =>
      intro i hrlp
      refine kw_iload hg 4 dX1_findsOf_11 rfl ?_
      refine kw_aload_n hg 0 dX1_findsOf_13 rfl rfl ?_
      refine gM_count hg dX1_findsOf_14 ?_
      refine kw_icmp_ge hg 47 dX1_findsOf_17 (by decide) (fun c17 => absurd c17 (nI_ge (by omega) (by omega))) (fun c17 => ?_)
      refine kw_iload_n hg 1 dX1_findsOf_20 rfl rfl ?_
      refine kw_iload hg 4 dX1_findsOf_21 rfl ?_
      refine kw_ishr hg dX1_findsOf_23 ?_
      refine kw_iconst (v := 1) hg dX1_findsOf_24 (by decide) ?_
      refine kw_iand hg dX1_findsOf_25 ?_
      refine kw_top (nI (mbit s i)) (mb_ok hs (by omega)) ?_
      refine kw_iconst (v := 1) hg dX1_findsOf_26 (by decide) ?_
      refine kw_icmp_ne hg 41 dX1_findsOf_27 (by decide) (fun c27 => ?_) (fun c27 => ?_)
      · have c27 := mb_f c27
        refine kw_iinc (v := nI (i + 1)) hg 4 [some 0, some 1, some 2, some 3, none] dX1_findsOf_41 rfl (nI_1 i) (Nat.le_of_ble_eq_true rfl) rfl (lv2 := [(0, _), (1, _), (2, _), (3, _), (4, _)]) rfl ?_
        refine kw_goto hg 11 dX1_findsOf_44 (by decide) ?_
        have e1 := ihlp (i + 1) (by omega)
        rw [mFo_f c27] at e1
        exact e1
      · have c27 := mb_t c27
        refine kw_aload_n hg 0 dX1_findsOf_30 rfl rfl ?_
        refine kw_iload hg 4 dX1_findsOf_31 rfl ?_
        refine kw_iload_n hg 3 dX1_findsOf_33 rfl rfl ?_
        refine kw_iload_n hg 2 dX1_findsOf_34 rfl rfl ?_
        refine kw_callv hg (mM_take i _ _ (by omega) (fun j h => by have := mFo_lt _ _ h; omega) (mFi_lt s 10) hn) kw_J.self (fun _ _ h => h) lx_X1_take ly_X1_take rfl ⟨Nat.le_of_ble_eq_true rfl, Nat.le_of_ble_eq_true rfl⟩ rfl rfl rfl (Nat.le_of_ble_eq_true rfl) dX1_findsOf_35 ?_
        refine kw_iload hg 4 dX1_findsOf_38 rfl ?_
        refine kw_istore_n hg [some 0, some 1, some 2, none, some 4] dX1_findsOf_40 rfl (Nat.le_of_ble_eq_true rfl) rfl (lv2 := [(0, _), (1, _), (2, _), (3, _), (4, _)]) rfl ?_
        refine kw_iinc (v := nI (i + 1)) hg 4 [some 0, some 1, some 2, some 3, none] dX1_findsOf_41 rfl (nI_1 i) (Nat.le_of_ble_eq_true rfl) rfl (lv2 := [(0, _), (1, _), (2, _), (3, _), (4, _)]) rfl ?_
        refine kw_goto hg 11 dX1_findsOf_44 (by decide) ?_
        have e1 := ihlp (i + 1) (by omega)
        rw [mFo_t c27] at e1
        exact e1
  exact lp c 0 (by omega)
end
section
/-! contracts of SequencePatternsModel: the questions, and event -/
theorem isev_in {e c : Nat} (h : e < c) (hc : c ≤ 10) : ¬ bz (decide (¬ nI e < 0) && decide (¬ nI c ≤ nI e)) = 0 := by
  have h1 : ¬ nI e < 0 := nI_pos (by omega)
  have h2 : ¬ nI c ≤ nI e := nI_ge h (by omega)
  simp [bz, h1, h2]
theorem isev_out {p c : Int32} (h : (decide (p < 0) || decide (¬ p < c)) = true) : bz (decide (¬ p < 0) && decide (¬ c ≤ p)) = 0 := by
  rcases Bool.or_eq_true _ _ ▸ h with q | q
  · have := of_decide_eq_true q
    simp [bz, this]
  · have := of_decide_eq_true q
    have h2 : c ≤ p := Int32.not_lt.mp this
    simp [bz, h2]
theorem mSum_t {u : Nat → Nat → Int32} {n : Nat} {w : Int32} {c : Nat} {p : Nat → Bool} {q : tyQ} {d : Nat} (h : p (d + 1) = true) : mSum u n w c p q (d + 1) = mSum u n w c p q d + mFv u n w c (d + 1) (mQ u n c p q d) := by simp [mSum, h]
theorem mSum_f {u : Nat → Nat → Int32} {n : Nat} {w : Int32} {c : Nat} {p : Nat → Bool} {q : tyQ} {d : Nat} (h : p (d + 1) = false) : mSum u n w c p q (d + 1) = mSum u n w c p q d := by simp [mSum, h]
theorem mQ_t {u : Nat → Nat → Int32} {n : Nat} {c : Nat} {p : Nat → Bool} {q : tyQ} {d : Nat} (h : p (d + 1) = true) : mQ u n c p q (d + 1) = (mFo u n (d + 1) (mQ u n c p q d) c).2 := by simp [mQ, h]
theorem mQ_f {u : Nat → Nat → Int32} {n : Nat} {c : Nat} {p : Nat → Bool} {q : tyQ} {d : Nat} (h : p (d + 1) = false) : mQ u n c p q (d + 1) = mQ u n c p q d := by simp [mQ, h]
theorem mLg_1 {u : Nat → Nat → Int32} {n : Nat} {w : Int32} {c : Nat} {q : tyQ} {d : Nat} (h : nI (mSz (d + 1) 10) ≤ (mLg u n w c q d).1) : mLg u n w c q (d + 1) = mLg u n w c q d := by simp [mLg, h]
theorem mLg_2 {u : Nat → Nat → Int32} {n : Nat} {w : Int32} {c : Nat} {q : tyQ} {d : Nat} (h : ¬ nI (mSz (d + 1) 10) ≤ (mLg u n w c q d).1) (h2 : mFv u n w c (d + 1) (mLg u n w c q d).2 ≤ 0) : mLg u n w c q (d + 1) = ((mLg u n w c q d).1, (mFo u n (d + 1) (mLg u n w c q d).2 c).2) := by simp [mLg, h, h2]
theorem mLg_3 {u : Nat → Nat → Int32} {n : Nat} {w : Int32} {c : Nat} {q : tyQ} {d : Nat} (h : ¬ nI (mSz (d + 1) 10) ≤ (mLg u n w c q d).1) (h2 : ¬ mFv u n w c (d + 1) (mLg u n w c q d).2 ≤ 0) : mLg u n w c q (d + 1) = (nI (mSz (d + 1) 10), (mFo u n (d + 1) (mLg u n w c q d).2 c).2) := by simp [mLg, h, h2]
theorem mTg_1 {u : Nat → Nat → Int32} {n : Nat} {w : Int32} {c : Nat} {q : tyQ} {d : Nat} (h : ¬ (mTg u n w c q d).1 = -4 ∧ (mTg u n w c q d).1 ≤ mTgt u (d + 1)) : mTg u n w c q (d + 1) = mTg u n w c q d := by simp [mTg, h]
theorem mTg_2 {u : Nat → Nat → Int32} {n : Nat} {w : Int32} {c : Nat} {q : tyQ} {d : Nat} (h : ¬ (¬ (mTg u n w c q d).1 = -4 ∧ (mTg u n w c q d).1 ≤ mTgt u (d + 1))) (h2 : mFv u n w c (d + 1) (mTg u n w c q d).2 ≤ 0) : mTg u n w c q (d + 1) = ((mTg u n w c q d).1, (mFo u n (d + 1) (mTg u n w c q d).2 c).2) := by
  rw [mTg, if_neg h, if_pos h2]
theorem mTg_3 {u : Nat → Nat → Int32} {n : Nat} {w : Int32} {c : Nat} {q : tyQ} {d : Nat} (h : ¬ (¬ (mTg u n w c q d).1 = -4 ∧ (mTg u n w c q d).1 ≤ mTgt u (d + 1))) (h2 : ¬ mFv u n w c (d + 1) (mTg u n w c q d).2 ≤ 0) : mTg u n w c q (d + 1) = (mTgt u (d + 1), (mFo u n (d + 1) (mTg u n w c q d).2 c).2) := by
  rw [mTg, if_neg h, if_neg h2]
set_option maxHeartbeats 4000000 in
set_option maxRecDepth 100000 in
theorem mM_finds {h : Nat} {ad : Nat → Nat} {dc : Nat → ClassId} {u : Nat → Nat → Int32} {n c : Nat} {w : Int32} {y b : Nat → Int32} (hn : n ≤ 4) (hc : c ≤ 10) : kw_I yX1_finds cX1_finds 3 .int 3 73 (tM dc) [.ref h] (wM h ad dc u (nI n) w (nI c) y b) (wM h ad dc u (nI n) w (nI c) (mQ u n c (fun _ => true) (y, b) (2 ^ c - 1)).1 (mQ u n c (fun _ => true) (y, b) (2 ^ c - 1)).2) (mSum u n w c (fun _ => true) (y, b) (2 ^ c - 1)) := by
  refine kw_ofI RX1 (by decide) rfl (vp_nar_int _) (Nat.le_of_ble_eq_true rfl) (lv := [(0, .ref h)]) rfl ?_
  intro g hg hret
  obtain ⟨hp1, hp2⟩ := p2_le hc
  refine kw_iconst (v := 0) hg dX1_finds_0 (by decide) ?_
  refine kw_istore_n hg [some 0, none] dX1_finds_1 rfl (Nat.le_of_ble_eq_true rfl) rfl (lv2 := [(0, _), (1, _)]) rfl ?_
  refine kw_iconst (v := 1) hg dX1_finds_2 (by decide) ?_
  refine kw_top (nI (0 + 1)) (rfl) ?_
  refine kw_istore_n hg [some 0, some 1, none] dX1_finds_3 rfl (Nat.le_of_ble_eq_true rfl) rfl (lv2 := [(0, _), (1, _), (2, _)]) rfl ?_
  have lp : ∀ d i : Nat, i + d = 2 ^ c - 1 → kw_W g 4 [(0, .ref h), (1, .int (mSum u n w c (fun _ => true) (y, b) i)), (2, .int (nI (i + 1)))] [] (wM h ad dc u (nI n) w (nI c) (mQ u n c (fun _ => true) (y, b) i).1 (mQ u n c (fun _ => true) (y, b) i).2) := by
    intro d
    induction d with
    | zero =>
      intro i hrlp
      obtain rfl : i = 2 ^ c - 1 := by omega
      refine kw_iload_n hg 2 dX1_finds_4 rfl rfl ?_
      refine kw_iconst (v := 1) hg dX1_finds_5 (by decide) ?_
      refine kw_aload_n hg 0 dX1_finds_6 rfl rfl ?_
      refine gM_count hg dX1_finds_7 ?_
      refine kw_ishl hg dX1_finds_10 ?_
      refine kw_top (nI (2 ^ c)) (sh_ok hc) ?_
      refine kw_icmp_ge hg 28 dX1_finds_11 (by decide) (fun c11 => ?_) (fun c11 => absurd (nI_le (by omega) (by omega)) c11)
      refine kw_iload_n hg 1 dX1_finds_28 rfl rfl ?_
      exact hret _ _ _ _ dX1_finds_29 (rfl) (rfl)
    | succ d ihlp =>
      intro i hrlp
      refine kw_iload_n hg 2 dX1_finds_4 rfl rfl ?_
      refine kw_iconst (v := 1) hg dX1_finds_5 (by decide) ?_
      refine kw_aload_n hg 0 dX1_finds_6 rfl rfl ?_
      refine gM_count hg dX1_finds_7 ?_
      refine kw_ishl hg dX1_finds_10 ?_
      refine kw_top (nI (2 ^ c)) (sh_ok hc) ?_
      refine kw_icmp_ge hg 28 dX1_finds_11 (by decide) (fun c11 => absurd c11 (nI_ge (by omega) (by omega))) (fun c11 => ?_)
      refine kw_iload_n hg 1 dX1_finds_14 rfl rfl ?_
      refine kw_aload_n hg 0 dX1_finds_15 rfl rfl ?_
      refine kw_iload_n hg 2 dX1_finds_16 rfl rfl ?_
      refine kw_calli hg (mM_findsOf (i + 1) (by omega) hn hc) kw_J.self (fun _ _ h => h) lx_X1_findsOf ly_X1_findsOf rfl ⟨Nat.le_of_ble_eq_true rfl, Nat.le_of_ble_eq_true rfl⟩ rfl rfl rfl (Nat.le_of_ble_eq_true rfl) dX1_finds_17 ?_
      refine kw_iadd hg dX1_finds_20 ?_
      refine kw_istore_n hg [some 0, none, some 2] dX1_finds_21 rfl (Nat.le_of_ble_eq_true rfl) rfl (lv2 := [(0, _), (1, _), (2, _)]) rfl ?_
      refine kw_iinc (v := nI (i + 1 + 1)) hg 2 [some 0, some 1, none] dX1_finds_22 rfl (nI_1 (i + 1)) (Nat.le_of_ble_eq_true rfl) rfl (lv2 := [(0, _), (1, _), (2, _)]) rfl ?_
      refine kw_goto hg 4 dX1_finds_25 (by decide) ?_
      exact ihlp (i + 1) (by omega)
  exact lp (2 ^ c - 1) 0 (by omega)
set_option maxHeartbeats 4000000 in
set_option maxRecDepth 100000 in
theorem mM_endingAt_out {h : Nat} {ad : Nat → Nat} {dc : Nat → ClassId} {u : Nat → Nat → Int32} {n w c : Int32} {y b : Nat → Int32} (p : Int32) (hp : (decide (p < 0) || decide (¬ p < c)) = true) : kw_I yX1_endingAt cX1_endingAt 4 .int 3 73 (tM dc) [.ref h, .int p] (wM h ad dc u n w c y b) (wM h ad dc u n w c y b) (-4) := by
  refine kw_ofI RX1 (by decide) rfl (vp_nar_int _) (Nat.le_of_ble_eq_true rfl) (lv := [(0, .ref h), (1, .int p)]) rfl ?_
  intro g hg hret
  refine kw_aload_n hg 0 dX1_endingAt_0 rfl rfl ?_
  refine kw_iload_n hg 1 dX1_endingAt_1 rfl rfl ?_
  refine kw_calli hg (mM_isEvent p) kw_J.self (fun _ _ h => h) lx_X1_isEvent ly_X1_isEvent rfl ⟨Nat.le_of_ble_eq_true rfl, Nat.le_of_ble_eq_true rfl⟩ rfl rfl rfl (Nat.le_of_ble_eq_true rfl) dX1_endingAt_2 ?_
  refine kw_if_ne hg 11 dX1_endingAt_5 (by decide) (fun c5 => absurd (isev_out hp) c5) (fun c5 => ?_)
  refine kw_bipush (v := -4) hg dX1_endingAt_8 (by decide) ?_
  exact hret _ _ _ _ dX1_endingAt_10 (rfl) (rfl)
set_option maxHeartbeats 4000000 in
set_option maxRecDepth 100000 in
theorem mM_endingAt {h : Nat} {ad : Nat → Nat} {dc : Nat → ClassId} {u : Nat → Nat → Int32} {n c : Nat} {w : Int32} {y b : Nat → Int32} (e : Nat) (he : e < c) (hn : n ≤ 4) (hc : c ≤ 10) : kw_I yX1_endingAt cX1_endingAt 4 .int 3 73 (tM dc) [.ref h, .int (nI e)] (wM h ad dc u (nI n) w (nI c) y b) (wM h ad dc u (nI n) w (nI c) (mQ u n c (fun s => decide (mLa s 10 = e)) (y, b) (2 ^ c - 1)).1 (mQ u n c (fun s => decide (mLa s 10 = e)) (y, b) (2 ^ c - 1)).2) (mSum u n w c (fun s => decide (mLa s 10 = e)) (y, b) (2 ^ c - 1)) := by
  refine kw_ofI RX1 (by decide) rfl (vp_nar_int _) (Nat.le_of_ble_eq_true rfl) (lv := [(0, .ref h), (1, .int (nI e))]) rfl ?_
  intro g hg hret
  obtain ⟨hp1, hp2⟩ := p2_le hc
  refine kw_aload_n hg 0 dX1_endingAt_0 rfl rfl ?_
  refine kw_iload_n hg 1 dX1_endingAt_1 rfl rfl ?_
  refine kw_calli hg (mM_isEvent (nI e)) kw_J.self (fun _ _ h => h) lx_X1_isEvent ly_X1_isEvent rfl ⟨Nat.le_of_ble_eq_true rfl, Nat.le_of_ble_eq_true rfl⟩ rfl rfl rfl (Nat.le_of_ble_eq_true rfl) dX1_endingAt_2 ?_
  refine kw_if_ne hg 11 dX1_endingAt_5 (by decide) (fun c5 => ?_) (fun c5 => absurd c5 (isev_in he hc))
  refine kw_iconst (v := 0) hg dX1_endingAt_11 (by decide) ?_
  refine kw_istore_n hg [some 0, some 1, none] dX1_endingAt_12 rfl (Nat.le_of_ble_eq_true rfl) rfl (lv2 := [(0, _), (1, _), (2, _)]) rfl ?_
  refine kw_iconst (v := 1) hg dX1_endingAt_13 (by decide) ?_
  refine kw_top (nI (0 + 1)) (rfl) ?_
  refine kw_istore_n hg [some 0, some 1, some 2, none] dX1_endingAt_14 rfl (Nat.le_of_ble_eq_true rfl) rfl (lv2 := [(0, _), (1, _), (2, _), (3, _)]) rfl ?_
  have lp : ∀ d i : Nat, i + d = 2 ^ c - 1 → kw_W g 15 [(0, .ref h), (1, .int (nI e)), (2, .int (mSum u n w c (fun s => decide (mLa s 10 = e)) (y, b) i)), (3, .int (nI (i + 1)))] [] (wM h ad dc u (nI n) w (nI c) (mQ u n c (fun s => decide (mLa s 10 = e)) (y, b) i).1 (mQ u n c (fun s => decide (mLa s 10 = e)) (y, b) i).2) := by
    intro d
    induction d with
    | zero =>
      intro i hrlp
      obtain rfl : i = 2 ^ c - 1 := by omega
      refine kw_iload_n hg 3 dX1_endingAt_15 rfl rfl ?_
      refine kw_iconst (v := 1) hg dX1_endingAt_16 (by decide) ?_
      refine kw_aload_n hg 0 dX1_endingAt_17 rfl rfl ?_
      refine gM_count hg dX1_endingAt_18 ?_
      refine kw_ishl hg dX1_endingAt_21 ?_
      refine kw_top (nI (2 ^ c)) (sh_ok hc) ?_
      refine kw_icmp_ge hg 52 dX1_endingAt_22 (by decide) (fun c22 => ?_) (fun c22 => absurd (nI_le (by omega) (by omega)) c22)
      refine kw_iload_n hg 2 dX1_endingAt_52 rfl rfl ?_
      exact hret _ _ _ _ dX1_endingAt_53 (rfl) (rfl)
    | succ d ihlp =>
      intro i hrlp
      refine kw_iload_n hg 3 dX1_endingAt_15 rfl rfl ?_
      refine kw_iconst (v := 1) hg dX1_endingAt_16 (by decide) ?_
      refine kw_aload_n hg 0 dX1_endingAt_17 rfl rfl ?_
      refine gM_count hg dX1_endingAt_18 ?_
      refine kw_ishl hg dX1_endingAt_21 ?_
      refine kw_top (nI (2 ^ c)) (sh_ok hc) ?_
      refine kw_icmp_ge hg 52 dX1_endingAt_22 (by decide) (fun c22 => absurd c22 (nI_ge (by omega) (by omega))) (fun c22 => ?_)
      rcases Decidable.em (mLa (i + 1) 10 = e) with hq | hq
      · refine kw_aload_n hg 0 dX1_endingAt_25 rfl rfl ?_
        refine kw_iload_n hg 3 dX1_endingAt_26 rfl rfl ?_
        refine kw_calli hg (mM_lastOf (i + 1) (by omega)) kw_J.self (fun _ _ h => h) lx_X1_lastOf ly_X1_lastOf rfl ⟨Nat.le_of_ble_eq_true rfl, Nat.le_of_ble_eq_true rfl⟩ rfl rfl rfl (Nat.le_of_ble_eq_true rfl) dX1_endingAt_27 ?_
        refine kw_iload_n hg 1 dX1_endingAt_30 rfl rfl ?_
        refine kw_icmp_ne hg 44 dX1_endingAt_31 (by decide) (fun c31 => absurd (by rw [hq]) c31) (fun c31 => ?_)
        refine kw_iload_n hg 2 dX1_endingAt_34 rfl rfl ?_
        refine kw_aload_n hg 0 dX1_endingAt_35 rfl rfl ?_
        refine kw_iload_n hg 3 dX1_endingAt_36 rfl rfl ?_
        refine kw_calli hg (mM_findsOf (i + 1) (by omega) hn hc) kw_J.self (fun _ _ h => h) lx_X1_findsOf ly_X1_findsOf rfl ⟨Nat.le_of_ble_eq_true rfl, Nat.le_of_ble_eq_true rfl⟩ rfl rfl rfl (Nat.le_of_ble_eq_true rfl) dX1_endingAt_37 ?_
        refine kw_iadd hg dX1_endingAt_40 ?_
        refine kw_goto hg 45 dX1_endingAt_41 (by decide) ?_
        refine kw_istore_n hg [some 0, some 1, none, some 3] dX1_endingAt_45 rfl (Nat.le_of_ble_eq_true rfl) rfl (lv2 := [(0, _), (1, _), (2, _), (3, _)]) rfl ?_
        refine kw_iinc (v := nI (i + 1 + 1)) hg 3 [some 0, some 1, some 2, none] dX1_endingAt_46 rfl (nI_1 (i + 1)) (Nat.le_of_ble_eq_true rfl) rfl (lv2 := [(0, _), (1, _), (2, _), (3, _)]) rfl ?_
        refine kw_goto hg 15 dX1_endingAt_49 (by decide) ?_
        have e1 := ihlp (i + 1) (by omega)
        rw [mSum_t (p := (fun s => decide (mLa s 10 = e))) (decide_eq_true hq), mQ_t (p := (fun s => decide (mLa s 10 = e))) (decide_eq_true hq)] at e1
        exact e1
      · refine kw_aload_n hg 0 dX1_endingAt_25 rfl rfl ?_
        refine kw_iload_n hg 3 dX1_endingAt_26 rfl rfl ?_
        refine kw_calli hg (mM_lastOf (i + 1) (by omega)) kw_J.self (fun _ _ h => h) lx_X1_lastOf ly_X1_lastOf rfl ⟨Nat.le_of_ble_eq_true rfl, Nat.le_of_ble_eq_true rfl⟩ rfl rfl rfl (Nat.le_of_ble_eq_true rfl) dX1_endingAt_27 ?_
        refine kw_iload_n hg 1 dX1_endingAt_30 rfl rfl ?_
        refine kw_icmp_ne hg 44 dX1_endingAt_31 (by decide) (fun c31 => ?_) (fun c31 => absurd c31 (by have := mLa_lt (i + 1) 10 (by omega); rw [nI_eq (by omega) (by omega)]; exact hq))
        refine kw_iload_n hg 2 dX1_endingAt_44 rfl rfl ?_
        refine kw_istore_n hg [some 0, some 1, none, some 3] dX1_endingAt_45 rfl (Nat.le_of_ble_eq_true rfl) rfl (lv2 := [(0, _), (1, _), (2, _), (3, _)]) rfl ?_
        refine kw_iinc (v := nI (i + 1 + 1)) hg 3 [some 0, some 1, some 2, none] dX1_endingAt_46 rfl (nI_1 (i + 1)) (Nat.le_of_ble_eq_true rfl) rfl (lv2 := [(0, _), (1, _), (2, _), (3, _)]) rfl ?_
        refine kw_goto hg 15 dX1_endingAt_49 (by decide) ?_
        have e1 := ihlp (i + 1) (by omega)
        rw [mSum_f (p := (fun s => decide (mLa s 10 = e))) (decide_eq_false hq), mQ_f (p := (fun s => decide (mLa s 10 = e))) (decide_eq_false hq)] at e1
        exact e1
  exact lp (2 ^ c - 1) 0 (by omega)
set_option maxHeartbeats 4000000 in
set_option maxRecDepth 100000 in
theorem mM_beginningAt_out {h : Nat} {ad : Nat → Nat} {dc : Nat → ClassId} {u : Nat → Nat → Int32} {n w c : Int32} {y b : Nat → Int32} (p : Int32) (hp : (decide (p < 0) || decide (¬ p < c)) = true) : kw_I yX1_beginningAt cX1_beginningAt 4 .int 3 73 (tM dc) [.ref h, .int p] (wM h ad dc u n w c y b) (wM h ad dc u n w c y b) (-4) := by
  refine kw_ofI RX1 (by decide) rfl (vp_nar_int _) (Nat.le_of_ble_eq_true rfl) (lv := [(0, .ref h), (1, .int p)]) rfl ?_
  intro g hg hret
  refine kw_aload_n hg 0 dX1_beginningAt_0 rfl rfl ?_
  refine kw_iload_n hg 1 dX1_beginningAt_1 rfl rfl ?_
  refine kw_calli hg (mM_isEvent p) kw_J.self (fun _ _ h => h) lx_X1_isEvent ly_X1_isEvent rfl ⟨Nat.le_of_ble_eq_true rfl, Nat.le_of_ble_eq_true rfl⟩ rfl rfl rfl (Nat.le_of_ble_eq_true rfl) dX1_beginningAt_2 ?_
  refine kw_if_ne hg 11 dX1_beginningAt_5 (by decide) (fun c5 => absurd (isev_out hp) c5) (fun c5 => ?_)
  refine kw_bipush (v := -4) hg dX1_beginningAt_8 (by decide) ?_
  exact hret _ _ _ _ dX1_beginningAt_10 (rfl) (rfl)
set_option maxHeartbeats 4000000 in
set_option maxRecDepth 100000 in
theorem mM_beginningAt {h : Nat} {ad : Nat → Nat} {dc : Nat → ClassId} {u : Nat → Nat → Int32} {n c : Nat} {w : Int32} {y b : Nat → Int32} (e : Nat) (he : e < c) (hn : n ≤ 4) (hc : c ≤ 10) : kw_I yX1_beginningAt cX1_beginningAt 4 .int 3 73 (tM dc) [.ref h, .int (nI e)] (wM h ad dc u (nI n) w (nI c) y b) (wM h ad dc u (nI n) w (nI c) (mQ u n c (fun s => decide (mFi s 10 = e)) (y, b) (2 ^ c - 1)).1 (mQ u n c (fun s => decide (mFi s 10 = e)) (y, b) (2 ^ c - 1)).2) (mSum u n w c (fun s => decide (mFi s 10 = e)) (y, b) (2 ^ c - 1)) := by
  refine kw_ofI RX1 (by decide) rfl (vp_nar_int _) (Nat.le_of_ble_eq_true rfl) (lv := [(0, .ref h), (1, .int (nI e))]) rfl ?_
  intro g hg hret
  obtain ⟨hp1, hp2⟩ := p2_le hc
  refine kw_aload_n hg 0 dX1_beginningAt_0 rfl rfl ?_
  refine kw_iload_n hg 1 dX1_beginningAt_1 rfl rfl ?_
  refine kw_calli hg (mM_isEvent (nI e)) kw_J.self (fun _ _ h => h) lx_X1_isEvent ly_X1_isEvent rfl ⟨Nat.le_of_ble_eq_true rfl, Nat.le_of_ble_eq_true rfl⟩ rfl rfl rfl (Nat.le_of_ble_eq_true rfl) dX1_beginningAt_2 ?_
  refine kw_if_ne hg 11 dX1_beginningAt_5 (by decide) (fun c5 => ?_) (fun c5 => absurd c5 (isev_in he hc))
  refine kw_iconst (v := 0) hg dX1_beginningAt_11 (by decide) ?_
  refine kw_istore_n hg [some 0, some 1, none] dX1_beginningAt_12 rfl (Nat.le_of_ble_eq_true rfl) rfl (lv2 := [(0, _), (1, _), (2, _)]) rfl ?_
  refine kw_iconst (v := 1) hg dX1_beginningAt_13 (by decide) ?_
  refine kw_top (nI (0 + 1)) (rfl) ?_
  refine kw_istore_n hg [some 0, some 1, some 2, none] dX1_beginningAt_14 rfl (Nat.le_of_ble_eq_true rfl) rfl (lv2 := [(0, _), (1, _), (2, _), (3, _)]) rfl ?_
  have lp : ∀ d i : Nat, i + d = 2 ^ c - 1 → kw_W g 15 [(0, .ref h), (1, .int (nI e)), (2, .int (mSum u n w c (fun s => decide (mFi s 10 = e)) (y, b) i)), (3, .int (nI (i + 1)))] [] (wM h ad dc u (nI n) w (nI c) (mQ u n c (fun s => decide (mFi s 10 = e)) (y, b) i).1 (mQ u n c (fun s => decide (mFi s 10 = e)) (y, b) i).2) := by
    intro d
    induction d with
    | zero =>
      intro i hrlp
      obtain rfl : i = 2 ^ c - 1 := by omega
      refine kw_iload_n hg 3 dX1_beginningAt_15 rfl rfl ?_
      refine kw_iconst (v := 1) hg dX1_beginningAt_16 (by decide) ?_
      refine kw_aload_n hg 0 dX1_beginningAt_17 rfl rfl ?_
      refine gM_count hg dX1_beginningAt_18 ?_
      refine kw_ishl hg dX1_beginningAt_21 ?_
      refine kw_top (nI (2 ^ c)) (sh_ok hc) ?_
      refine kw_icmp_ge hg 52 dX1_beginningAt_22 (by decide) (fun c22 => ?_) (fun c22 => absurd (nI_le (by omega) (by omega)) c22)
      refine kw_iload_n hg 2 dX1_beginningAt_52 rfl rfl ?_
      exact hret _ _ _ _ dX1_beginningAt_53 (rfl) (rfl)
    | succ d ihlp =>
      intro i hrlp
      refine kw_iload_n hg 3 dX1_beginningAt_15 rfl rfl ?_
      refine kw_iconst (v := 1) hg dX1_beginningAt_16 (by decide) ?_
      refine kw_aload_n hg 0 dX1_beginningAt_17 rfl rfl ?_
      refine gM_count hg dX1_beginningAt_18 ?_
      refine kw_ishl hg dX1_beginningAt_21 ?_
      refine kw_top (nI (2 ^ c)) (sh_ok hc) ?_
      refine kw_icmp_ge hg 52 dX1_beginningAt_22 (by decide) (fun c22 => absurd c22 (nI_ge (by omega) (by omega))) (fun c22 => ?_)
      rcases Decidable.em (mFi (i + 1) 10 = e) with hq | hq
      · refine kw_aload_n hg 0 dX1_beginningAt_25 rfl rfl ?_
        refine kw_iload_n hg 3 dX1_beginningAt_26 rfl rfl ?_
        refine kw_calli hg (mM_firstOf (i + 1) (by omega)) kw_J.self (fun _ _ h => h) lx_X1_firstOf ly_X1_firstOf rfl ⟨Nat.le_of_ble_eq_true rfl, Nat.le_of_ble_eq_true rfl⟩ rfl rfl rfl (Nat.le_of_ble_eq_true rfl) dX1_beginningAt_27 ?_
        refine kw_iload_n hg 1 dX1_beginningAt_30 rfl rfl ?_
        refine kw_icmp_ne hg 44 dX1_beginningAt_31 (by decide) (fun c31 => absurd (by rw [hq]) c31) (fun c31 => ?_)
        refine kw_iload_n hg 2 dX1_beginningAt_34 rfl rfl ?_
        refine kw_aload_n hg 0 dX1_beginningAt_35 rfl rfl ?_
        refine kw_iload_n hg 3 dX1_beginningAt_36 rfl rfl ?_
        refine kw_calli hg (mM_findsOf (i + 1) (by omega) hn hc) kw_J.self (fun _ _ h => h) lx_X1_findsOf ly_X1_findsOf rfl ⟨Nat.le_of_ble_eq_true rfl, Nat.le_of_ble_eq_true rfl⟩ rfl rfl rfl (Nat.le_of_ble_eq_true rfl) dX1_beginningAt_37 ?_
        refine kw_iadd hg dX1_beginningAt_40 ?_
        refine kw_goto hg 45 dX1_beginningAt_41 (by decide) ?_
        refine kw_istore_n hg [some 0, some 1, none, some 3] dX1_beginningAt_45 rfl (Nat.le_of_ble_eq_true rfl) rfl (lv2 := [(0, _), (1, _), (2, _), (3, _)]) rfl ?_
        refine kw_iinc (v := nI (i + 1 + 1)) hg 3 [some 0, some 1, some 2, none] dX1_beginningAt_46 rfl (nI_1 (i + 1)) (Nat.le_of_ble_eq_true rfl) rfl (lv2 := [(0, _), (1, _), (2, _), (3, _)]) rfl ?_
        refine kw_goto hg 15 dX1_beginningAt_49 (by decide) ?_
        have e1 := ihlp (i + 1) (by omega)
        rw [mSum_t (p := (fun s => decide (mFi s 10 = e))) (decide_eq_true hq), mQ_t (p := (fun s => decide (mFi s 10 = e))) (decide_eq_true hq)] at e1
        exact e1
      · refine kw_aload_n hg 0 dX1_beginningAt_25 rfl rfl ?_
        refine kw_iload_n hg 3 dX1_beginningAt_26 rfl rfl ?_
        refine kw_calli hg (mM_firstOf (i + 1) (by omega)) kw_J.self (fun _ _ h => h) lx_X1_firstOf ly_X1_firstOf rfl ⟨Nat.le_of_ble_eq_true rfl, Nat.le_of_ble_eq_true rfl⟩ rfl rfl rfl (Nat.le_of_ble_eq_true rfl) dX1_beginningAt_27 ?_
        refine kw_iload_n hg 1 dX1_beginningAt_30 rfl rfl ?_
        refine kw_icmp_ne hg 44 dX1_beginningAt_31 (by decide) (fun c31 => ?_) (fun c31 => absurd c31 (by have := mFi_lt (i + 1) 10; rw [nI_eq (by omega) (by omega)]; exact hq))
        refine kw_iload_n hg 2 dX1_beginningAt_44 rfl rfl ?_
        refine kw_istore_n hg [some 0, some 1, none, some 3] dX1_beginningAt_45 rfl (Nat.le_of_ble_eq_true rfl) rfl (lv2 := [(0, _), (1, _), (2, _), (3, _)]) rfl ?_
        refine kw_iinc (v := nI (i + 1 + 1)) hg 3 [some 0, some 1, some 2, none] dX1_beginningAt_46 rfl (nI_1 (i + 1)) (Nat.le_of_ble_eq_true rfl) rfl (lv2 := [(0, _), (1, _), (2, _), (3, _)]) rfl ?_
        refine kw_goto hg 15 dX1_beginningAt_49 (by decide) ?_
        have e1 := ihlp (i + 1) (by omega)
        rw [mSum_f (p := (fun s => decide (mFi s 10 = e))) (decide_eq_false hq), mQ_f (p := (fun s => decide (mFi s 10 = e))) (decide_eq_false hq)] at e1
        exact e1
  exact lp (2 ^ c - 1) 0 (by omega)
set_option maxHeartbeats 4000000 in
set_option maxRecDepth 100000 in
theorem mM_using_out {h : Nat} {ad : Nat → Nat} {dc : Nat → ClassId} {u : Nat → Nat → Int32} {n w c : Int32} {y b : Nat → Int32} (p : Int32) (hp : (decide (p < 0) || decide (¬ p < c)) = true) : kw_I yX1_using cX1_using 4 .int 3 73 (tM dc) [.ref h, .int p] (wM h ad dc u n w c y b) (wM h ad dc u n w c y b) (-4) := by
  refine kw_ofI RX1 (by decide) rfl (vp_nar_int _) (Nat.le_of_ble_eq_true rfl) (lv := [(0, .ref h), (1, .int p)]) rfl ?_
  intro g hg hret
  refine kw_aload_n hg 0 dX1_using_0 rfl rfl ?_
  refine kw_iload_n hg 1 dX1_using_1 rfl rfl ?_
  refine kw_calli hg (mM_isEvent p) kw_J.self (fun _ _ h => h) lx_X1_isEvent ly_X1_isEvent rfl ⟨Nat.le_of_ble_eq_true rfl, Nat.le_of_ble_eq_true rfl⟩ rfl rfl rfl (Nat.le_of_ble_eq_true rfl) dX1_using_2 ?_
  refine kw_if_ne hg 11 dX1_using_5 (by decide) (fun c5 => absurd (isev_out hp) c5) (fun c5 => ?_)
  refine kw_bipush (v := -4) hg dX1_using_8 (by decide) ?_
  exact hret _ _ _ _ dX1_using_10 (rfl) (rfl)
set_option maxHeartbeats 4000000 in
set_option maxRecDepth 100000 in
theorem mM_using {h : Nat} {ad : Nat → Nat} {dc : Nat → ClassId} {u : Nat → Nat → Int32} {n c : Nat} {w : Int32} {y b : Nat → Int32} (e : Nat) (he : e < c) (hn : n ≤ 4) (hc : c ≤ 10) : kw_I yX1_using cX1_using 4 .int 3 73 (tM dc) [.ref h, .int (nI e)] (wM h ad dc u (nI n) w (nI c) y b) (wM h ad dc u (nI n) w (nI c) (mQ u n c (fun s => decide (mbit s e = 1)) (y, b) (2 ^ c - 1)).1 (mQ u n c (fun s => decide (mbit s e = 1)) (y, b) (2 ^ c - 1)).2) (mSum u n w c (fun s => decide (mbit s e = 1)) (y, b) (2 ^ c - 1)) := by
  refine kw_ofI RX1 (by decide) rfl (vp_nar_int _) (Nat.le_of_ble_eq_true rfl) (lv := [(0, .ref h), (1, .int (nI e))]) rfl ?_
  intro g hg hret
  obtain ⟨hp1, hp2⟩ := p2_le hc
  refine kw_aload_n hg 0 dX1_using_0 rfl rfl ?_
  refine kw_iload_n hg 1 dX1_using_1 rfl rfl ?_
  refine kw_calli hg (mM_isEvent (nI e)) kw_J.self (fun _ _ h => h) lx_X1_isEvent ly_X1_isEvent rfl ⟨Nat.le_of_ble_eq_true rfl, Nat.le_of_ble_eq_true rfl⟩ rfl rfl rfl (Nat.le_of_ble_eq_true rfl) dX1_using_2 ?_
  refine kw_if_ne hg 11 dX1_using_5 (by decide) (fun c5 => ?_) (fun c5 => absurd c5 (isev_in he hc))
  refine kw_iconst (v := 0) hg dX1_using_11 (by decide) ?_
  refine kw_istore_n hg [some 0, some 1, none] dX1_using_12 rfl (Nat.le_of_ble_eq_true rfl) rfl (lv2 := [(0, _), (1, _), (2, _)]) rfl ?_
  refine kw_iconst (v := 1) hg dX1_using_13 (by decide) ?_
  refine kw_top (nI (0 + 1)) (rfl) ?_
  refine kw_istore_n hg [some 0, some 1, some 2, none] dX1_using_14 rfl (Nat.le_of_ble_eq_true rfl) rfl (lv2 := [(0, _), (1, _), (2, _), (3, _)]) rfl ?_
  have lp : ∀ d i : Nat, i + d = 2 ^ c - 1 → kw_W g 15 [(0, .ref h), (1, .int (nI e)), (2, .int (mSum u n w c (fun s => decide (mbit s e = 1)) (y, b) i)), (3, .int (nI (i + 1)))] [] (wM h ad dc u (nI n) w (nI c) (mQ u n c (fun s => decide (mbit s e = 1)) (y, b) i).1 (mQ u n c (fun s => decide (mbit s e = 1)) (y, b) i).2) := by
    intro d
    induction d with
    | zero =>
      intro i hrlp
      obtain rfl : i = 2 ^ c - 1 := by omega
      refine kw_iload_n hg 3 dX1_using_15 rfl rfl ?_
      refine kw_iconst (v := 1) hg dX1_using_16 (by decide) ?_
      refine kw_aload_n hg 0 dX1_using_17 rfl rfl ?_
      refine gM_count hg dX1_using_18 ?_
      refine kw_ishl hg dX1_using_21 ?_
      refine kw_top (nI (2 ^ c)) (sh_ok hc) ?_
      refine kw_icmp_ge hg 52 dX1_using_22 (by decide) (fun c22 => ?_) (fun c22 => absurd (nI_le (by omega) (by omega)) c22)
      refine kw_iload_n hg 2 dX1_using_52 rfl rfl ?_
      exact hret _ _ _ _ dX1_using_53 (rfl) (rfl)
    | succ d ihlp =>
      intro i hrlp
      refine kw_iload_n hg 3 dX1_using_15 rfl rfl ?_
      refine kw_iconst (v := 1) hg dX1_using_16 (by decide) ?_
      refine kw_aload_n hg 0 dX1_using_17 rfl rfl ?_
      refine gM_count hg dX1_using_18 ?_
      refine kw_ishl hg dX1_using_21 ?_
      refine kw_top (nI (2 ^ c)) (sh_ok hc) ?_
      refine kw_icmp_ge hg 52 dX1_using_22 (by decide) (fun c22 => absurd c22 (nI_ge (by omega) (by omega))) (fun c22 => ?_)
      rcases Decidable.em (mbit (i + 1) e = 1) with hq | hq
      · refine kw_iload_n hg 3 dX1_using_25 rfl rfl ?_
        refine kw_iload_n hg 1 dX1_using_26 rfl rfl ?_
        refine kw_ishr hg dX1_using_27 ?_
        refine kw_iconst (v := 1) hg dX1_using_28 (by decide) ?_
        refine kw_iand hg dX1_using_29 ?_
        refine kw_top (nI (mbit (i + 1) e)) (mb_ok (by omega) (by omega)) ?_
        refine kw_iconst (v := 1) hg dX1_using_30 (by decide) ?_
        refine kw_icmp_ne hg 44 dX1_using_31 (by decide) (fun c31 => absurd (by rw [hq]; rfl) c31) (fun c31 => ?_)
        refine kw_iload_n hg 2 dX1_using_34 rfl rfl ?_
        refine kw_aload_n hg 0 dX1_using_35 rfl rfl ?_
        refine kw_iload_n hg 3 dX1_using_36 rfl rfl ?_
        refine kw_calli hg (mM_findsOf (i + 1) (by omega) hn hc) kw_J.self (fun _ _ h => h) lx_X1_findsOf ly_X1_findsOf rfl ⟨Nat.le_of_ble_eq_true rfl, Nat.le_of_ble_eq_true rfl⟩ rfl rfl rfl (Nat.le_of_ble_eq_true rfl) dX1_using_37 ?_
        refine kw_iadd hg dX1_using_40 ?_
        refine kw_goto hg 45 dX1_using_41 (by decide) ?_
        refine kw_istore_n hg [some 0, some 1, none, some 3] dX1_using_45 rfl (Nat.le_of_ble_eq_true rfl) rfl (lv2 := [(0, _), (1, _), (2, _), (3, _)]) rfl ?_
        refine kw_iinc (v := nI (i + 1 + 1)) hg 3 [some 0, some 1, some 2, none] dX1_using_46 rfl (nI_1 (i + 1)) (Nat.le_of_ble_eq_true rfl) rfl (lv2 := [(0, _), (1, _), (2, _), (3, _)]) rfl ?_
        refine kw_goto hg 15 dX1_using_49 (by decide) ?_
        have e1 := ihlp (i + 1) (by omega)
        rw [mSum_t (p := (fun s => decide (mbit s e = 1))) (decide_eq_true hq), mQ_t (p := (fun s => decide (mbit s e = 1))) (decide_eq_true hq)] at e1
        exact e1
      · refine kw_iload_n hg 3 dX1_using_25 rfl rfl ?_
        refine kw_iload_n hg 1 dX1_using_26 rfl rfl ?_
        refine kw_ishr hg dX1_using_27 ?_
        refine kw_iconst (v := 1) hg dX1_using_28 (by decide) ?_
        refine kw_iand hg dX1_using_29 ?_
        refine kw_top (nI (mbit (i + 1) e)) (mb_ok (by omega) (by omega)) ?_
        refine kw_iconst (v := 1) hg dX1_using_30 (by decide) ?_
        refine kw_icmp_ne hg 44 dX1_using_31 (by decide) (fun c31 => ?_) (fun c31 => absurd c31 (fun q => hq (mb_t q)))
        refine kw_iload_n hg 2 dX1_using_44 rfl rfl ?_
        refine kw_istore_n hg [some 0, some 1, none, some 3] dX1_using_45 rfl (Nat.le_of_ble_eq_true rfl) rfl (lv2 := [(0, _), (1, _), (2, _), (3, _)]) rfl ?_
        refine kw_iinc (v := nI (i + 1 + 1)) hg 3 [some 0, some 1, some 2, none] dX1_using_46 rfl (nI_1 (i + 1)) (Nat.le_of_ble_eq_true rfl) rfl (lv2 := [(0, _), (1, _), (2, _), (3, _)]) rfl ?_
        refine kw_goto hg 15 dX1_using_49 (by decide) ?_
        have e1 := ihlp (i + 1) (by omega)
        rw [mSum_f (p := (fun s => decide (mbit s e = 1))) (decide_eq_false hq), mQ_f (p := (fun s => decide (mbit s e = 1))) (decide_eq_false hq)] at e1
        exact e1
  exact lp (2 ^ c - 1) 0 (by omega)
set_option maxHeartbeats 4000000 in
set_option maxRecDepth 100000 in
theorem mM_without_out {h : Nat} {ad : Nat → Nat} {dc : Nat → ClassId} {u : Nat → Nat → Int32} {n w c : Int32} {y b : Nat → Int32} (p : Int32) (hp : (decide (p < 0) || decide (¬ p < c)) = true) : kw_I yX1_without cX1_without 4 .int 3 73 (tM dc) [.ref h, .int p] (wM h ad dc u n w c y b) (wM h ad dc u n w c y b) (-4) := by
  refine kw_ofI RX1 (by decide) rfl (vp_nar_int _) (Nat.le_of_ble_eq_true rfl) (lv := [(0, .ref h), (1, .int p)]) rfl ?_
  intro g hg hret
  refine kw_aload_n hg 0 dX1_without_0 rfl rfl ?_
  refine kw_iload_n hg 1 dX1_without_1 rfl rfl ?_
  refine kw_calli hg (mM_isEvent p) kw_J.self (fun _ _ h => h) lx_X1_isEvent ly_X1_isEvent rfl ⟨Nat.le_of_ble_eq_true rfl, Nat.le_of_ble_eq_true rfl⟩ rfl rfl rfl (Nat.le_of_ble_eq_true rfl) dX1_without_2 ?_
  refine kw_if_ne hg 11 dX1_without_5 (by decide) (fun c5 => absurd (isev_out hp) c5) (fun c5 => ?_)
  refine kw_bipush (v := -4) hg dX1_without_8 (by decide) ?_
  exact hret _ _ _ _ dX1_without_10 (rfl) (rfl)
set_option maxHeartbeats 4000000 in
set_option maxRecDepth 100000 in
theorem mM_without {h : Nat} {ad : Nat → Nat} {dc : Nat → ClassId} {u : Nat → Nat → Int32} {n c : Nat} {w : Int32} {y b : Nat → Int32} (e : Nat) (he : e < c) (hn : n ≤ 4) (hc : c ≤ 10) : kw_I yX1_without cX1_without 4 .int 3 73 (tM dc) [.ref h, .int (nI e)] (wM h ad dc u (nI n) w (nI c) y b) (wM h ad dc u (nI n) w (nI c) (mQ u n c (fun s => decide (mbit s e = 0)) (y, b) (2 ^ c - 1)).1 (mQ u n c (fun s => decide (mbit s e = 0)) (y, b) (2 ^ c - 1)).2) (mSum u n w c (fun s => decide (mbit s e = 0)) (y, b) (2 ^ c - 1)) := by
  refine kw_ofI RX1 (by decide) rfl (vp_nar_int _) (Nat.le_of_ble_eq_true rfl) (lv := [(0, .ref h), (1, .int (nI e))]) rfl ?_
  intro g hg hret
  obtain ⟨hp1, hp2⟩ := p2_le hc
  refine kw_aload_n hg 0 dX1_without_0 rfl rfl ?_
  refine kw_iload_n hg 1 dX1_without_1 rfl rfl ?_
  refine kw_calli hg (mM_isEvent (nI e)) kw_J.self (fun _ _ h => h) lx_X1_isEvent ly_X1_isEvent rfl ⟨Nat.le_of_ble_eq_true rfl, Nat.le_of_ble_eq_true rfl⟩ rfl rfl rfl (Nat.le_of_ble_eq_true rfl) dX1_without_2 ?_
  refine kw_if_ne hg 11 dX1_without_5 (by decide) (fun c5 => ?_) (fun c5 => absurd c5 (isev_in he hc))
  refine kw_iconst (v := 0) hg dX1_without_11 (by decide) ?_
  refine kw_istore_n hg [some 0, some 1, none] dX1_without_12 rfl (Nat.le_of_ble_eq_true rfl) rfl (lv2 := [(0, _), (1, _), (2, _)]) rfl ?_
  refine kw_iconst (v := 1) hg dX1_without_13 (by decide) ?_
  refine kw_top (nI (0 + 1)) (rfl) ?_
  refine kw_istore_n hg [some 0, some 1, some 2, none] dX1_without_14 rfl (Nat.le_of_ble_eq_true rfl) rfl (lv2 := [(0, _), (1, _), (2, _), (3, _)]) rfl ?_
  have lp : ∀ d i : Nat, i + d = 2 ^ c - 1 → kw_W g 15 [(0, .ref h), (1, .int (nI e)), (2, .int (mSum u n w c (fun s => decide (mbit s e = 0)) (y, b) i)), (3, .int (nI (i + 1)))] [] (wM h ad dc u (nI n) w (nI c) (mQ u n c (fun s => decide (mbit s e = 0)) (y, b) i).1 (mQ u n c (fun s => decide (mbit s e = 0)) (y, b) i).2) := by
    intro d
    induction d with
    | zero =>
      intro i hrlp
      obtain rfl : i = 2 ^ c - 1 := by omega
      refine kw_iload_n hg 3 dX1_without_15 rfl rfl ?_
      refine kw_iconst (v := 1) hg dX1_without_16 (by decide) ?_
      refine kw_aload_n hg 0 dX1_without_17 rfl rfl ?_
      refine gM_count hg dX1_without_18 ?_
      refine kw_ishl hg dX1_without_21 ?_
      refine kw_top (nI (2 ^ c)) (sh_ok hc) ?_
      refine kw_icmp_ge hg 51 dX1_without_22 (by decide) (fun c22 => ?_) (fun c22 => absurd (nI_le (by omega) (by omega)) c22)
      refine kw_iload_n hg 2 dX1_without_51 rfl rfl ?_
      exact hret _ _ _ _ dX1_without_52 (rfl) (rfl)
    | succ d ihlp =>
      intro i hrlp
      refine kw_iload_n hg 3 dX1_without_15 rfl rfl ?_
      refine kw_iconst (v := 1) hg dX1_without_16 (by decide) ?_
      refine kw_aload_n hg 0 dX1_without_17 rfl rfl ?_
      refine gM_count hg dX1_without_18 ?_
      refine kw_ishl hg dX1_without_21 ?_
      refine kw_top (nI (2 ^ c)) (sh_ok hc) ?_
      refine kw_icmp_ge hg 51 dX1_without_22 (by decide) (fun c22 => absurd c22 (nI_ge (by omega) (by omega))) (fun c22 => ?_)
      rcases Decidable.em (mbit (i + 1) e = 0) with hq | hq
      · refine kw_iload_n hg 3 dX1_without_25 rfl rfl ?_
        refine kw_iload_n hg 1 dX1_without_26 rfl rfl ?_
        refine kw_ishr hg dX1_without_27 ?_
        refine kw_iconst (v := 1) hg dX1_without_28 (by decide) ?_
        refine kw_iand hg dX1_without_29 ?_
        refine kw_top (nI (mbit (i + 1) e)) (mb_ok (by omega) (by omega)) ?_
        refine kw_if_ne hg 43 dX1_without_30 (by decide) (fun c30 => absurd (by rw [hq]; rfl) c30) (fun c30 => ?_)
        refine kw_iload_n hg 2 dX1_without_33 rfl rfl ?_
        refine kw_aload_n hg 0 dX1_without_34 rfl rfl ?_
        refine kw_iload_n hg 3 dX1_without_35 rfl rfl ?_
        refine kw_calli hg (mM_findsOf (i + 1) (by omega) hn hc) kw_J.self (fun _ _ h => h) lx_X1_findsOf ly_X1_findsOf rfl ⟨Nat.le_of_ble_eq_true rfl, Nat.le_of_ble_eq_true rfl⟩ rfl rfl rfl (Nat.le_of_ble_eq_true rfl) dX1_without_36 ?_
        refine kw_iadd hg dX1_without_39 ?_
        refine kw_goto hg 44 dX1_without_40 (by decide) ?_
        refine kw_istore_n hg [some 0, some 1, none, some 3] dX1_without_44 rfl (Nat.le_of_ble_eq_true rfl) rfl (lv2 := [(0, _), (1, _), (2, _), (3, _)]) rfl ?_
        refine kw_iinc (v := nI (i + 1 + 1)) hg 3 [some 0, some 1, some 2, none] dX1_without_45 rfl (nI_1 (i + 1)) (Nat.le_of_ble_eq_true rfl) rfl (lv2 := [(0, _), (1, _), (2, _), (3, _)]) rfl ?_
        refine kw_goto hg 15 dX1_without_48 (by decide) ?_
        have e1 := ihlp (i + 1) (by omega)
        rw [mSum_t (p := (fun s => decide (mbit s e = 0))) (decide_eq_true hq), mQ_t (p := (fun s => decide (mbit s e = 0))) (decide_eq_true hq)] at e1
        exact e1
      · refine kw_iload_n hg 3 dX1_without_25 rfl rfl ?_
        refine kw_iload_n hg 1 dX1_without_26 rfl rfl ?_
        refine kw_ishr hg dX1_without_27 ?_
        refine kw_iconst (v := 1) hg dX1_without_28 (by decide) ?_
        refine kw_iand hg dX1_without_29 ?_
        refine kw_top (nI (mbit (i + 1) e)) (mb_ok (by omega) (by omega)) ?_
        refine kw_if_ne hg 43 dX1_without_30 (by decide) (fun c30 => ?_) (fun c30 => absurd c30 (fun q => hq (by have := mb_lt (i + 1) e; exact (nI_eq (b := 0) (by omega) (by omega)).mp q)))
        refine kw_iload_n hg 2 dX1_without_43 rfl rfl ?_
        refine kw_istore_n hg [some 0, some 1, none, some 3] dX1_without_44 rfl (Nat.le_of_ble_eq_true rfl) rfl (lv2 := [(0, _), (1, _), (2, _), (3, _)]) rfl ?_
        refine kw_iinc (v := nI (i + 1 + 1)) hg 3 [some 0, some 1, some 2, none] dX1_without_45 rfl (nI_1 (i + 1)) (Nat.le_of_ble_eq_true rfl) rfl (lv2 := [(0, _), (1, _), (2, _), (3, _)]) rfl ?_
        refine kw_goto hg 15 dX1_without_48 (by decide) ?_
        have e1 := ihlp (i + 1) (by omega)
        rw [mSum_f (p := (fun s => decide (mbit s e = 0))) (decide_eq_false hq), mQ_f (p := (fun s => decide (mbit s e = 0))) (decide_eq_false hq)] at e1
        exact e1
  exact lp (2 ^ c - 1) 0 (by omega)
set_option maxHeartbeats 4000000 in
set_option maxRecDepth 100000 in
theorem mM_longest {h : Nat} {ad : Nat → Nat} {dc : Nat → ClassId} {u : Nat → Nat → Int32} {n c : Nat} {w : Int32} {y b : Nat → Int32} (hn : n ≤ 4) (hc : c ≤ 10) : kw_I yX1_longest cX1_longest 4 .int 3 73 (tM dc) [.ref h] (wM h ad dc u (nI n) w (nI c) y b) (wM h ad dc u (nI n) w (nI c) (mLg u n w c (y, b) (2 ^ c - 1)).2.1 (mLg u n w c (y, b) (2 ^ c - 1)).2.2) ((mLg u n w c (y, b) (2 ^ c - 1)).1) := by
  refine kw_ofI RX1 (by decide) rfl (vp_nar_int _) (Nat.le_of_ble_eq_true rfl) (lv := [(0, .ref h)]) rfl ?_
  intro g hg hret
  obtain ⟨hp1, hp2⟩ := p2_le hc
  refine kw_bipush (v := -4) hg dX1_longest_0 (by decide) ?_
  refine kw_istore_n hg [some 0, none] dX1_longest_2 rfl (Nat.le_of_ble_eq_true rfl) rfl (lv2 := [(0, _), (1, _)]) rfl ?_
  refine kw_iconst (v := 1) hg dX1_longest_3 (by decide) ?_
  refine kw_top (nI (0 + 1)) (rfl) ?_
  refine kw_istore_n hg [some 0, some 1, none] dX1_longest_4 rfl (Nat.le_of_ble_eq_true rfl) rfl (lv2 := [(0, _), (1, _), (2, _)]) rfl ?_
  have lp : ∀ d i : Nat, i + d = 2 ^ c - 1 → kw_W g 5 [(0, .ref h), (1, .int (mLg u n w c (y, b) i).1), (2, .int (nI (i + 1)))] [] (wM h ad dc u (nI n) w (nI c) (mLg u n w c (y, b) i).2.1 (mLg u n w c (y, b) i).2.2) := by
    intro d
    induction d with
    | zero =>
      intro i hrlp
      obtain rfl : i = 2 ^ c - 1 := by omega
      refine kw_iload_n hg 2 dX1_longest_5 rfl rfl ?_
      refine kw_iconst (v := 1) hg dX1_longest_6 (by decide) ?_
      refine kw_aload_n hg 0 dX1_longest_7 rfl rfl ?_
      refine gM_count hg dX1_longest_8 ?_
      refine kw_ishl hg dX1_longest_11 ?_
      refine kw_top (nI (2 ^ c)) (sh_ok hc) ?_
      refine kw_icmp_ge hg 46 dX1_longest_12 (by decide) (fun c12 => ?_) (fun c12 => absurd (nI_le (by omega) (by omega)) c12)
      refine kw_iload_n hg 1 dX1_longest_46 rfl rfl ?_
      exact hret _ _ _ _ dX1_longest_47 (rfl) (rfl)
    | succ d ihlp =>
      intro i hrlp
      refine kw_iload_n hg 2 dX1_longest_5 rfl rfl ?_
      refine kw_iconst (v := 1) hg dX1_longest_6 (by decide) ?_
      refine kw_aload_n hg 0 dX1_longest_7 rfl rfl ?_
      refine gM_count hg dX1_longest_8 ?_
      refine kw_ishl hg dX1_longest_11 ?_
      refine kw_top (nI (2 ^ c)) (sh_ok hc) ?_
      refine kw_icmp_ge hg 46 dX1_longest_12 (by decide) (fun c12 => absurd c12 (nI_ge (by omega) (by omega))) (fun c12 => ?_)
      refine kw_aload_n hg 0 dX1_longest_15 rfl rfl ?_
      refine kw_iload_n hg 2 dX1_longest_16 rfl rfl ?_
      refine kw_calli hg (mM_sizeOf (i + 1) (by omega)) kw_J.self (fun _ _ h => h) lx_X1_sizeOf ly_X1_sizeOf rfl ⟨Nat.le_of_ble_eq_true rfl, Nat.le_of_ble_eq_true rfl⟩ rfl rfl rfl (Nat.le_of_ble_eq_true rfl) dX1_longest_17 ?_
      refine kw_istore_n hg [some 0, some 1, some 2, none] dX1_longest_20 rfl (Nat.le_of_ble_eq_true rfl) rfl (lv2 := [(0, _), (1, _), (2, _), (3, _)]) rfl ?_
      refine kw_iload_n hg 3 dX1_longest_21 rfl rfl ?_
      refine kw_iload_n hg 1 dX1_longest_22 rfl rfl ?_
      refine kw_icmp_le hg 38 dX1_longest_23 (by decide) (fun c23 => ?_) (fun c23 => ?_)
      · refine kw_iload_n hg 1 dX1_longest_38 rfl rfl ?_
        refine kw_istore_n hg [some 0, none, some 2, some 3] dX1_longest_39 rfl (Nat.le_of_ble_eq_true rfl) rfl (lv2 := [(0, _), (1, _), (2, _), (3, _)]) rfl ?_
        refine kw_iinc (v := nI (i + 1 + 1)) hg 2 [some 0, some 1, none, some 3] dX1_longest_40 rfl (nI_1 (i + 1)) (Nat.le_of_ble_eq_true rfl) rfl (lv2 := [(0, _), (1, _), (2, _), (3, _)]) rfl ?_
        refine kw_goto hg 5 dX1_longest_43 (by decide) ?_
        refine kw_less [0, 1, 2] (lv' := [(0, _), (1, _), (2, _)]) rfl ?_
        have e1 := ihlp (i + 1) (by omega)
        rw [mLg_1 c23] at e1
        exact e1
      · refine kw_aload_n hg 0 dX1_longest_26 rfl rfl ?_
        refine kw_iload_n hg 2 dX1_longest_27 rfl rfl ?_
        refine kw_calli hg (mM_findsOf (i + 1) (by omega) hn hc) kw_J.self (fun _ _ h => h) lx_X1_findsOf ly_X1_findsOf rfl ⟨Nat.le_of_ble_eq_true rfl, Nat.le_of_ble_eq_true rfl⟩ rfl rfl rfl (Nat.le_of_ble_eq_true rfl) dX1_longest_28 ?_
        refine kw_if_le hg 38 dX1_longest_31 (by decide) (fun c31 => ?_) (fun c31 => ?_)
        · refine kw_iload_n hg 1 dX1_longest_38 rfl rfl ?_
          refine kw_istore_n hg [some 0, none, some 2, some 3] dX1_longest_39 rfl (Nat.le_of_ble_eq_true rfl) rfl (lv2 := [(0, _), (1, _), (2, _), (3, _)]) rfl ?_
          refine kw_iinc (v := nI (i + 1 + 1)) hg 2 [some 0, some 1, none, some 3] dX1_longest_40 rfl (nI_1 (i + 1)) (Nat.le_of_ble_eq_true rfl) rfl (lv2 := [(0, _), (1, _), (2, _), (3, _)]) rfl ?_
          refine kw_goto hg 5 dX1_longest_43 (by decide) ?_
          refine kw_less [0, 1, 2] (lv' := [(0, _), (1, _), (2, _)]) rfl ?_
          have e1 := ihlp (i + 1) (by omega)
          rw [mLg_2 c23 c31] at e1
          exact e1
        · refine kw_iload_n hg 3 dX1_longest_34 rfl rfl ?_
          refine kw_goto hg 39 dX1_longest_35 (by decide) ?_
          refine kw_istore_n hg [some 0, none, some 2, some 3] dX1_longest_39 rfl (Nat.le_of_ble_eq_true rfl) rfl (lv2 := [(0, _), (1, _), (2, _), (3, _)]) rfl ?_
          refine kw_iinc (v := nI (i + 1 + 1)) hg 2 [some 0, some 1, none, some 3] dX1_longest_40 rfl (nI_1 (i + 1)) (Nat.le_of_ble_eq_true rfl) rfl (lv2 := [(0, _), (1, _), (2, _), (3, _)]) rfl ?_
          refine kw_goto hg 5 dX1_longest_43 (by decide) ?_
          refine kw_less [0, 1, 2] (lv' := [(0, _), (1, _), (2, _)]) rfl ?_
          have e1 := ihlp (i + 1) (by omega)
          rw [mLg_3 c23 c31] at e1
          exact e1
  exact lp (2 ^ c - 1) 0 (by omega)
set_option maxHeartbeats 4000000 in
set_option maxRecDepth 100000 in
theorem mM_tightest {h : Nat} {ad : Nat → Nat} {dc : Nat → ClassId} {u : Nat → Nat → Int32} {n c : Nat} {w : Int32} {y b : Nat → Int32} (hn : n ≤ 4) (hc : c ≤ 10) : kw_I yX1_tightest cX1_tightest 6 .int 3 73 (tM dc) [.ref h] (wM h ad dc u (nI n) w (nI c) y b) (wM h ad dc u (nI n) w (nI c) (mTg u n w c (y, b) (2 ^ c - 1)).2.1 (mTg u n w c (y, b) (2 ^ c - 1)).2.2) ((mTg u n w c (y, b) (2 ^ c - 1)).1) := by
  refine kw_ofI RX1 (by decide) rfl (vp_nar_int _) (Nat.le_of_ble_eq_true rfl) (lv := [(0, .ref h)]) rfl ?_
  intro g hg hret
  obtain ⟨hp1, hp2⟩ := p2_le hc
  refine kw_bipush (v := -4) hg dX1_tightest_0 (by decide) ?_
  refine kw_istore_n hg [some 0, none] dX1_tightest_2 rfl (Nat.le_of_ble_eq_true rfl) rfl (lv2 := [(0, _), (1, _)]) rfl ?_
  refine kw_iconst (v := 1) hg dX1_tightest_3 (by decide) ?_
  refine kw_top (nI (0 + 1)) (rfl) ?_
  refine kw_istore_n hg [some 0, some 1, none] dX1_tightest_4 rfl (Nat.le_of_ble_eq_true rfl) rfl (lv2 := [(0, _), (1, _), (2, _)]) rfl ?_
  have lp : ∀ d i : Nat, i + d = 2 ^ c - 1 → kw_W g 5 [(0, .ref h), (1, .int (mTg u n w c (y, b) i).1), (2, .int (nI (i + 1)))] [] (wM h ad dc u (nI n) w (nI c) (mTg u n w c (y, b) i).2.1 (mTg u n w c (y, b) i).2.2) := by
    intro d
    induction d with
    | zero =>
      intro i hrlp
      obtain rfl : i = 2 ^ c - 1 := by omega
      refine kw_iload_n hg 2 dX1_tightest_5 rfl rfl ?_
      refine kw_iconst (v := 1) hg dX1_tightest_6 (by decide) ?_
      refine kw_aload_n hg 0 dX1_tightest_7 rfl rfl ?_
      refine gM_count hg dX1_tightest_8 ?_
      refine kw_ishl hg dX1_tightest_11 ?_
      refine kw_top (nI (2 ^ c)) (sh_ok hc) ?_
      refine kw_icmp_ge hg 77 dX1_tightest_12 (by decide) (fun c12 => ?_) (fun c12 => absurd (nI_le (by omega) (by omega)) c12)
      refine kw_iload_n hg 1 dX1_tightest_77 rfl rfl ?_
      exact hret _ _ _ _ dX1_tightest_78 (rfl) (rfl)
    | succ d ihlp =>
      intro i hrlp
      refine kw_iload_n hg 2 dX1_tightest_5 rfl rfl ?_
      refine kw_iconst (v := 1) hg dX1_tightest_6 (by decide) ?_
      refine kw_aload_n hg 0 dX1_tightest_7 rfl rfl ?_
      refine gM_count hg dX1_tightest_8 ?_
      refine kw_ishl hg dX1_tightest_11 ?_
      refine kw_top (nI (2 ^ c)) (sh_ok hc) ?_
      refine kw_icmp_ge hg 77 dX1_tightest_12 (by decide) (fun c12 => absurd c12 (nI_ge (by omega) (by omega))) (fun c12 => ?_)
      refine kw_aload_n hg 0 dX1_tightest_15 rfl rfl ?_
      refine kw_iload_n hg 2 dX1_tightest_16 rfl rfl ?_
      refine kw_calli hg (mM_firstOf (i + 1) (by omega)) kw_J.self (fun _ _ h => h) lx_X1_firstOf ly_X1_firstOf rfl ⟨Nat.le_of_ble_eq_true rfl, Nat.le_of_ble_eq_true rfl⟩ rfl rfl rfl (Nat.le_of_ble_eq_true rfl) dX1_tightest_17 ?_
      refine kw_istore_n hg [some 0, some 1, some 2, none] dX1_tightest_20 rfl (Nat.le_of_ble_eq_true rfl) rfl (lv2 := [(0, _), (1, _), (2, _), (3, _)]) rfl ?_
      refine kw_aload_n hg 0 dX1_tightest_21 rfl rfl ?_
      refine kw_iload_n hg 2 dX1_tightest_22 rfl rfl ?_
      refine kw_calli hg (mM_lastOf (i + 1) (by omega)) kw_J.self (fun _ _ h => h) lx_X1_lastOf ly_X1_lastOf rfl ⟨Nat.le_of_ble_eq_true rfl, Nat.le_of_ble_eq_true rfl⟩ rfl rfl rfl (Nat.le_of_ble_eq_true rfl) dX1_tightest_23 ?_
      refine kw_istore hg [some 0, some 1, some 2, some 3, none] dX1_tightest_26 (Nat.le_of_ble_eq_true rfl) rfl (lv2 := [(0, _), (1, _), (2, _), (3, _), (4, _)]) rfl ?_
      refine kw_aload_n hg 0 dX1_tightest_28 rfl rfl ?_
      refine gM_times hg dX1_tightest_29 ?_
      refine kw_iload hg 4 dX1_tightest_32 rfl ?_
      refine aM_6 hg _ (mLa_lt (i + 1) 10 (by omega)) dX1_tightest_34 ?_
      refine kw_aload_n hg 0 dX1_tightest_35 rfl rfl ?_
      refine gM_times hg dX1_tightest_36 ?_
      refine kw_iload_n hg 3 dX1_tightest_39 rfl rfl ?_
      refine aM_6 hg _ (mFi_lt (i + 1) 10) dX1_tightest_40 ?_
      refine kw_isub hg dX1_tightest_41 ?_
      refine kw_istore hg [some 0, some 1, some 2, some 3, some 4, none] dX1_tightest_42 (Nat.le_of_ble_eq_true rfl) rfl (lv2 := [(0, _), (1, _), (2, _), (3, _), (4, _), (5, _)]) rfl ?_
      refine kw_iload_n hg 1 dX1_tightest_44 rfl rfl ?_
      refine kw_bipush (v := -4) hg dX1_tightest_45 (by decide) ?_
      refine kw_icmp_eq hg 56 dX1_tightest_47 (by decide) (fun c47 => ?_) (fun c47 => ?_)
      · refine kw_aload_n hg 0 dX1_tightest_56 rfl rfl ?_
        refine kw_iload_n hg 2 dX1_tightest_57 rfl rfl ?_
        refine kw_calli hg (mM_findsOf (i + 1) (by omega) hn hc) kw_J.self (fun _ _ h => h) lx_X1_findsOf ly_X1_findsOf rfl ⟨Nat.le_of_ble_eq_true rfl, Nat.le_of_ble_eq_true rfl⟩ rfl rfl rfl (Nat.le_of_ble_eq_true rfl) dX1_tightest_58 ?_
        refine kw_if_le hg 69 dX1_tightest_61 (by decide) (fun c61 => ?_) (fun c61 => ?_)
        · refine kw_iload_n hg 1 dX1_tightest_69 rfl rfl ?_
          refine kw_istore_n hg [some 0, none, some 2, some 3, some 4, some 5] dX1_tightest_70 rfl (Nat.le_of_ble_eq_true rfl) rfl (lv2 := [(0, _), (1, _), (2, _), (3, _), (4, _), (5, _)]) rfl ?_
          refine kw_iinc (v := nI (i + 1 + 1)) hg 2 [some 0, some 1, none, some 3, some 4, some 5] dX1_tightest_71 rfl (nI_1 (i + 1)) (Nat.le_of_ble_eq_true rfl) rfl (lv2 := [(0, _), (1, _), (2, _), (3, _), (4, _), (5, _)]) rfl ?_
          refine kw_goto hg 5 dX1_tightest_74 (by decide) ?_
          refine kw_less [0, 1, 2] (lv' := [(0, _), (1, _), (2, _)]) rfl ?_
          have e1 := ihlp (i + 1) (by omega)
          rw [mTg_2 (fun q => q.1 c47) c61] at e1
          exact e1
        · refine kw_iload hg 5 dX1_tightest_64 rfl ?_
          refine kw_goto hg 70 dX1_tightest_66 (by decide) ?_
          refine kw_istore_n hg [some 0, none, some 2, some 3, some 4, some 5] dX1_tightest_70 rfl (Nat.le_of_ble_eq_true rfl) rfl (lv2 := [(0, _), (1, _), (2, _), (3, _), (4, _), (5, _)]) rfl ?_
          refine kw_iinc (v := nI (i + 1 + 1)) hg 2 [some 0, some 1, none, some 3, some 4, some 5] dX1_tightest_71 rfl (nI_1 (i + 1)) (Nat.le_of_ble_eq_true rfl) rfl (lv2 := [(0, _), (1, _), (2, _), (3, _), (4, _), (5, _)]) rfl ?_
          refine kw_goto hg 5 dX1_tightest_74 (by decide) ?_
          refine kw_less [0, 1, 2] (lv' := [(0, _), (1, _), (2, _)]) rfl ?_
          have e1 := ihlp (i + 1) (by omega)
          rw [mTg_3 (fun q => q.1 c47) c61] at e1
          exact e1
      · refine kw_iload hg 5 dX1_tightest_50 rfl ?_
        refine kw_iload_n hg 1 dX1_tightest_52 rfl rfl ?_
        refine kw_icmp_ge hg 69 dX1_tightest_53 (by decide) (fun c53 => ?_) (fun c53 => ?_)
        · refine kw_iload_n hg 1 dX1_tightest_69 rfl rfl ?_
          refine kw_istore_n hg [some 0, none, some 2, some 3, some 4, some 5] dX1_tightest_70 rfl (Nat.le_of_ble_eq_true rfl) rfl (lv2 := [(0, _), (1, _), (2, _), (3, _), (4, _), (5, _)]) rfl ?_
          refine kw_iinc (v := nI (i + 1 + 1)) hg 2 [some 0, some 1, none, some 3, some 4, some 5] dX1_tightest_71 rfl (nI_1 (i + 1)) (Nat.le_of_ble_eq_true rfl) rfl (lv2 := [(0, _), (1, _), (2, _), (3, _), (4, _), (5, _)]) rfl ?_
          refine kw_goto hg 5 dX1_tightest_74 (by decide) ?_
          refine kw_less [0, 1, 2] (lv' := [(0, _), (1, _), (2, _)]) rfl ?_
          have e1 := ihlp (i + 1) (by omega)
          rw [mTg_1 ⟨c47, c53⟩] at e1
          exact e1
        · refine kw_aload_n hg 0 dX1_tightest_56 rfl rfl ?_
          refine kw_iload_n hg 2 dX1_tightest_57 rfl rfl ?_
          refine kw_calli hg (mM_findsOf (i + 1) (by omega) hn hc) kw_J.self (fun _ _ h => h) lx_X1_findsOf ly_X1_findsOf rfl ⟨Nat.le_of_ble_eq_true rfl, Nat.le_of_ble_eq_true rfl⟩ rfl rfl rfl (Nat.le_of_ble_eq_true rfl) dX1_tightest_58 ?_
          refine kw_if_le hg 69 dX1_tightest_61 (by decide) (fun c61 => ?_) (fun c61 => ?_)
          · refine kw_iload_n hg 1 dX1_tightest_69 rfl rfl ?_
            refine kw_istore_n hg [some 0, none, some 2, some 3, some 4, some 5] dX1_tightest_70 rfl (Nat.le_of_ble_eq_true rfl) rfl (lv2 := [(0, _), (1, _), (2, _), (3, _), (4, _), (5, _)]) rfl ?_
            refine kw_iinc (v := nI (i + 1 + 1)) hg 2 [some 0, some 1, none, some 3, some 4, some 5] dX1_tightest_71 rfl (nI_1 (i + 1)) (Nat.le_of_ble_eq_true rfl) rfl (lv2 := [(0, _), (1, _), (2, _), (3, _), (4, _), (5, _)]) rfl ?_
            refine kw_goto hg 5 dX1_tightest_74 (by decide) ?_
            refine kw_less [0, 1, 2] (lv' := [(0, _), (1, _), (2, _)]) rfl ?_
            have e1 := ihlp (i + 1) (by omega)
            rw [mTg_2 (fun q => c53 q.2) c61] at e1
            exact e1
          · refine kw_iload hg 5 dX1_tightest_64 rfl ?_
            refine kw_goto hg 70 dX1_tightest_66 (by decide) ?_
            refine kw_istore_n hg [some 0, none, some 2, some 3, some 4, some 5] dX1_tightest_70 rfl (Nat.le_of_ble_eq_true rfl) rfl (lv2 := [(0, _), (1, _), (2, _), (3, _), (4, _), (5, _)]) rfl ?_
            refine kw_iinc (v := nI (i + 1 + 1)) hg 2 [some 0, some 1, none, some 3, some 4, some 5] dX1_tightest_71 rfl (nI_1 (i + 1)) (Nat.le_of_ble_eq_true rfl) rfl (lv2 := [(0, _), (1, _), (2, _), (3, _), (4, _), (5, _)]) rfl ?_
            refine kw_goto hg 5 dX1_tightest_74 (by decide) ?_
            refine kw_less [0, 1, 2] (lv' := [(0, _), (1, _), (2, _)]) rfl ?_
            have e1 := ihlp (i + 1) (by omega)
            rw [mTg_3 (fun q => c53 q.2) c61] at e1
            exact e1
  exact lp (2 ^ c - 1) 0 (by omega)
set_option maxHeartbeats 4000000 in
set_option maxRecDepth 100000 in
theorem mM_lastValues {h : Nat} {ad : Nat → Nat} {dc : Nat → ClassId} {u : Nat → Nat → Int32} {n c : Nat} {w : Int32} {y b : Nat → Int32} (hn : n ≤ 4) (hc : c ≤ 10) : kw_I yX1_lastValues cX1_lastValues 4 .int 3 73 (tM dc) [.ref h] (wM h ad dc u (nI n) w (nI c) y b) (wM h ad dc u (nI n) w (nI c) (mQ u n c (fun _ => true) (y, b) (2 ^ c - 1)).1 (mQ u n c (fun _ => true) (y, b) (2 ^ c - 1)).2) (mLas u n w c (y, b) (2 ^ c - 1)) := by
  refine kw_ofI RX1 (by decide) rfl (vp_nar_int _) (Nat.le_of_ble_eq_true rfl) (lv := [(0, .ref h)]) rfl ?_
  intro g hg hret
  obtain ⟨hp1, hp2⟩ := p2_le hc
  refine kw_iconst (v := 0) hg dX1_lastValues_0 (by decide) ?_
  refine kw_istore_n hg [some 0, none] dX1_lastValues_1 rfl (Nat.le_of_ble_eq_true rfl) rfl (lv2 := [(0, _), (1, _)]) rfl ?_
  refine kw_iconst (v := 1) hg dX1_lastValues_2 (by decide) ?_
  refine kw_top (nI (0 + 1)) (rfl) ?_
  refine kw_istore_n hg [some 0, some 1, none] dX1_lastValues_3 rfl (Nat.le_of_ble_eq_true rfl) rfl (lv2 := [(0, _), (1, _), (2, _)]) rfl ?_
  have lp : ∀ d i : Nat, i + d = 2 ^ c - 1 → kw_W g 4 [(0, .ref h), (1, .int (mLas u n w c (y, b) i)), (2, .int (nI (i + 1)))] [] (wM h ad dc u (nI n) w (nI c) (mQ u n c (fun _ => true) (y, b) i).1 (mQ u n c (fun _ => true) (y, b) i).2) := by
    intro d
    induction d with
    | zero =>
      intro i hrlp
      obtain rfl : i = 2 ^ c - 1 := by omega
      refine kw_iload_n hg 2 dX1_lastValues_4 rfl rfl ?_
      refine kw_iconst (v := 1) hg dX1_lastValues_5 (by decide) ?_
      refine kw_aload_n hg 0 dX1_lastValues_6 rfl rfl ?_
      refine gM_count hg dX1_lastValues_7 ?_
      refine kw_ishl hg dX1_lastValues_10 ?_
      refine kw_top (nI (2 ^ c)) (sh_ok hc) ?_
      refine kw_icmp_ge hg 41 dX1_lastValues_11 (by decide) (fun c11 => ?_) (fun c11 => absurd (nI_le (by omega) (by omega)) c11)
      refine kw_iload_n hg 1 dX1_lastValues_41 rfl rfl ?_
      exact hret _ _ _ _ dX1_lastValues_42 (rfl) (rfl)
    | succ d ihlp =>
      intro i hrlp
      refine kw_iload_n hg 2 dX1_lastValues_4 rfl rfl ?_
      refine kw_iconst (v := 1) hg dX1_lastValues_5 (by decide) ?_
      refine kw_aload_n hg 0 dX1_lastValues_6 rfl rfl ?_
      refine gM_count hg dX1_lastValues_7 ?_
      refine kw_ishl hg dX1_lastValues_10 ?_
      refine kw_top (nI (2 ^ c)) (sh_ok hc) ?_
      refine kw_icmp_ge hg 41 dX1_lastValues_11 (by decide) (fun c11 => absurd c11 (nI_ge (by omega) (by omega))) (fun c11 => ?_)
      refine kw_aload_n hg 0 dX1_lastValues_14 rfl rfl ?_
      refine kw_iload_n hg 2 dX1_lastValues_15 rfl rfl ?_
      refine kw_calli hg (mM_lastOf (i + 1) (by omega)) kw_J.self (fun _ _ h => h) lx_X1_lastOf ly_X1_lastOf rfl ⟨Nat.le_of_ble_eq_true rfl, Nat.le_of_ble_eq_true rfl⟩ rfl rfl rfl (Nat.le_of_ble_eq_true rfl) dX1_lastValues_16 ?_
      refine kw_istore_n hg [some 0, some 1, some 2, none] dX1_lastValues_19 rfl (Nat.le_of_ble_eq_true rfl) rfl (lv2 := [(0, _), (1, _), (2, _), (3, _)]) rfl ?_
      refine kw_iload_n hg 1 dX1_lastValues_20 rfl rfl ?_
      refine kw_aload_n hg 0 dX1_lastValues_21 rfl rfl ?_
      refine gM_values hg dX1_lastValues_22 ?_
      refine kw_iload_n hg 3 dX1_lastValues_25 rfl rfl ?_
      refine aM_5 hg _ (mLa_lt (i + 1) 10 (by omega)) dX1_lastValues_26 ?_
      refine kw_aload_n hg 0 dX1_lastValues_27 rfl rfl ?_
      refine kw_iload_n hg 2 dX1_lastValues_28 rfl rfl ?_
      refine kw_calli hg (mM_findsOf (i + 1) (by omega) hn hc) kw_J.self (fun _ _ h => h) lx_X1_findsOf ly_X1_findsOf rfl ⟨Nat.le_of_ble_eq_true rfl, Nat.le_of_ble_eq_true rfl⟩ rfl rfl rfl (Nat.le_of_ble_eq_true rfl) dX1_lastValues_29 ?_
      refine kw_imul hg dX1_lastValues_32 ?_
      refine kw_iadd hg dX1_lastValues_33 ?_
      refine kw_istore_n hg [some 0, none, some 2, some 3] dX1_lastValues_34 rfl (Nat.le_of_ble_eq_true rfl) rfl (lv2 := [(0, _), (1, _), (2, _), (3, _)]) rfl ?_
      refine kw_iinc (v := nI (i + 1 + 1)) hg 2 [some 0, some 1, none, some 3] dX1_lastValues_35 rfl (nI_1 (i + 1)) (Nat.le_of_ble_eq_true rfl) rfl (lv2 := [(0, _), (1, _), (2, _), (3, _)]) rfl ?_
      refine kw_goto hg 4 dX1_lastValues_38 (by decide) ?_
      refine kw_less [0, 1, 2] (lv' := [(0, _), (1, _), (2, _)]) rfl ?_
      exact ihlp (i + 1) (by omega)
  exact lp (2 ^ c - 1) 0 (by omega)
set_option maxHeartbeats 4000000 in
set_option maxRecDepth 100000 in
theorem mM_event_bad {h : Nat} {ad : Nat → Nat} {dc : Nat → ClassId} {u : Nat → Nat → Int32} {n w c : Int32} {y b : Nat → Int32} (t v g0 : Int32) (hok : okE t v g0 = false) : kw_I yX1_event cX1_event 4 .int 4 96 (tM dc) [.ref h, .int t, .int v, .int g0] (wM h ad dc u n w c y b) (wM h ad dc u n w c y b) (-1) := by
  refine kw_ofI RX1 (by decide) rfl (vp_nar_int _) (Nat.le_of_ble_eq_true rfl) (lv := [(0, .ref h), (1, .int t), (2, .int v), (3, .int g0)]) rfl ?_
  intro g hg hret
  refine kw_iload_n hg 1 dX1_event_0 rfl rfl ?_
  refine kw_if_lt hg 28 dX1_event_1 (by decide) (fun c1 => ?_) (fun c1 => ?_)
  · refine kw_iconst (v := -1) hg dX1_event_28 (by decide) ?_
    exact hret _ _ _ _ dX1_event_29 (rfl) (rfl)
  · refine kw_iload_n hg 1 dX1_event_4 rfl rfl ?_
    refine kw_iconst (v := 3) hg dX1_event_5 (by decide) ?_
    refine kw_icmp_gt hg 28 dX1_event_6 (by decide) (fun c6 => ?_) (fun c6 => ?_)
    · refine kw_iconst (v := -1) hg dX1_event_28 (by decide) ?_
      exact hret _ _ _ _ dX1_event_29 (rfl) (rfl)
    · refine kw_iload_n hg 2 dX1_event_9 rfl rfl ?_
      refine kw_if_lt hg 28 dX1_event_10 (by decide) (fun c10 => ?_) (fun c10 => ?_)
      · refine kw_iconst (v := -1) hg dX1_event_28 (by decide) ?_
        exact hret _ _ _ _ dX1_event_29 (rfl) (rfl)
      · refine kw_iload_n hg 2 dX1_event_13 rfl rfl ?_
        refine kw_bipush (v := 9) hg dX1_event_14 (by decide) ?_
        refine kw_icmp_gt hg 28 dX1_event_16 (by decide) (fun c16 => ?_) (fun c16 => ?_)
        · refine kw_iconst (v := -1) hg dX1_event_28 (by decide) ?_
          exact hret _ _ _ _ dX1_event_29 (rfl) (rfl)
        · refine kw_iload_n hg 3 dX1_event_19 rfl rfl ?_
          refine kw_if_lt hg 28 dX1_event_20 (by decide) (fun c20 => ?_) (fun c20 => ?_)
          · refine kw_iconst (v := -1) hg dX1_event_28 (by decide) ?_
            exact hret _ _ _ _ dX1_event_29 (rfl) (rfl)
          · refine kw_iload_n hg 3 dX1_event_23 rfl rfl ?_
            refine kw_iconst (v := 5) hg dX1_event_24 (by decide) ?_
            refine kw_icmp_le hg 30 dX1_event_25 (by decide) (fun c25 => ?_) (fun c25 => ?_)
            · exact absurd hok (by simp [okE, c1, c6, c10, c16, c20, c25])
            · refine kw_iconst (v := -1) hg dX1_event_28 (by decide) ?_
              exact hret _ _ _ _ dX1_event_29 (rfl) (rfl)
set_option maxHeartbeats 4000000 in
set_option maxRecDepth 100000 in
theorem mM_event_full {h : Nat} {ad : Nat → Nat} {dc : Nat → ClassId} {u : Nat → Nat → Int32} {n w : Int32} {y b : Nat → Int32} (t v g0 : Int32) (hok : okE t v g0 = true) : kw_I yX1_event cX1_event 4 .int 4 96 (tM dc) [.ref h, .int t, .int v, .int g0] (wM h ad dc u n w (nI 10) y b) (wM h ad dc u n w (nI 10) y b) (-2) := by
  refine kw_ofI RX1 (by decide) rfl (vp_nar_int _) (Nat.le_of_ble_eq_true rfl) (lv := [(0, .ref h), (1, .int t), (2, .int v), (3, .int g0)]) rfl ?_
  intro g hg hret
  refine kw_iload_n hg 1 dX1_event_0 rfl rfl ?_
  refine kw_if_lt hg 28 dX1_event_1 (by decide) (fun c1 => ?_) (fun c1 => ?_)
  · exact absurd hok (by simp [okE, c1])
  · refine kw_iload_n hg 1 dX1_event_4 rfl rfl ?_
    refine kw_iconst (v := 3) hg dX1_event_5 (by decide) ?_
    refine kw_icmp_gt hg 28 dX1_event_6 (by decide) (fun c6 => ?_) (fun c6 => ?_)
    · exact absurd hok (by simp [okE, c1, c6])
    · refine kw_iload_n hg 2 dX1_event_9 rfl rfl ?_
      refine kw_if_lt hg 28 dX1_event_10 (by decide) (fun c10 => ?_) (fun c10 => ?_)
      · exact absurd hok (by simp [okE, c1, c6, c10])
      · refine kw_iload_n hg 2 dX1_event_13 rfl rfl ?_
        refine kw_bipush (v := 9) hg dX1_event_14 (by decide) ?_
        refine kw_icmp_gt hg 28 dX1_event_16 (by decide) (fun c16 => ?_) (fun c16 => ?_)
        · exact absurd hok (by simp [okE, c1, c6, c10, c16])
        · refine kw_iload_n hg 3 dX1_event_19 rfl rfl ?_
          refine kw_if_lt hg 28 dX1_event_20 (by decide) (fun c20 => ?_) (fun c20 => ?_)
          · exact absurd hok (by simp [okE, c1, c6, c10, c16, c20])
          · refine kw_iload_n hg 3 dX1_event_23 rfl rfl ?_
            refine kw_iconst (v := 5) hg dX1_event_24 (by decide) ?_
            refine kw_icmp_le hg 30 dX1_event_25 (by decide) (fun c25 => ?_) (fun c25 => ?_)
            · refine kw_aload_n hg 0 dX1_event_30 rfl rfl ?_
              refine gM_count hg dX1_event_31 ?_
              refine kw_bipush (v := 10) hg dX1_event_34 (by decide) ?_
              refine kw_icmp_ne hg 42 dX1_event_36 (by decide) (fun c36 => absurd (rfl) c36) (fun c36 => ?_)
              refine kw_bipush (v := -2) hg dX1_event_39 (by decide) ?_
              exact hret _ _ _ _ dX1_event_41 (rfl) (rfl)
            · exact absurd hok (by simp [okE, c1, c6, c10, c16, c20, c25])
set_option maxHeartbeats 4000000 in
set_option maxRecDepth 100000 in
theorem mM_event {h : Nat} {ad : Nat → Nat} {dc : Nat → ClassId} {u : Nat → Nat → Int32} {n c : Nat} {w : Int32} {y b : Nat → Int32} (t v g0 : Int32) (hok : okE t v g0 = true) (hn : n ≤ 4) (hc : c < 10) : kw_I yX1_event cX1_event 4 .int 4 96 (tM dc) [.ref h, .int t, .int v, .int g0] (wM h ad dc u (nI n) w (nI c) y b) (wM h ad dc (evU u c t v g0) (nI n) w (nI (c + 1)) (mQ (evU u c t v g0) n (c + 1) (fun s => decide (mLa s 10 = c)) (y, b) (2 ^ (c + 1) - 1)).1 (mQ (evU u c t v g0) n (c + 1) (fun s => decide (mLa s 10 = c)) (y, b) (2 ^ (c + 1) - 1)).2) (mSum (evU u c t v g0) n w (c + 1) (fun s => decide (mLa s 10 = c)) (y, b) (2 ^ (c + 1) - 1)) := by
  refine kw_ofI RX1 (by decide) rfl (vp_nar_int _) (Nat.le_of_ble_eq_true rfl) (lv := [(0, .ref h), (1, .int t), (2, .int v), (3, .int g0)]) rfl ?_
  intro g hg hret
  refine kw_iload_n hg 1 dX1_event_0 rfl rfl ?_
  refine kw_if_lt hg 28 dX1_event_1 (by decide) (fun c1 => ?_) (fun c1 => ?_)
  · exact absurd hok (by simp [okE, c1])
  · refine kw_iload_n hg 1 dX1_event_4 rfl rfl ?_
    refine kw_iconst (v := 3) hg dX1_event_5 (by decide) ?_
    refine kw_icmp_gt hg 28 dX1_event_6 (by decide) (fun c6 => ?_) (fun c6 => ?_)
    · exact absurd hok (by simp [okE, c1, c6])
    · refine kw_iload_n hg 2 dX1_event_9 rfl rfl ?_
      refine kw_if_lt hg 28 dX1_event_10 (by decide) (fun c10 => ?_) (fun c10 => ?_)
      · exact absurd hok (by simp [okE, c1, c6, c10])
      · refine kw_iload_n hg 2 dX1_event_13 rfl rfl ?_
        refine kw_bipush (v := 9) hg dX1_event_14 (by decide) ?_
        refine kw_icmp_gt hg 28 dX1_event_16 (by decide) (fun c16 => ?_) (fun c16 => ?_)
        · exact absurd hok (by simp [okE, c1, c6, c10, c16])
        · refine kw_iload_n hg 3 dX1_event_19 rfl rfl ?_
          refine kw_if_lt hg 28 dX1_event_20 (by decide) (fun c20 => ?_) (fun c20 => ?_)
          · exact absurd hok (by simp [okE, c1, c6, c10, c16, c20])
          · refine kw_iload_n hg 3 dX1_event_23 rfl rfl ?_
            refine kw_iconst (v := 5) hg dX1_event_24 (by decide) ?_
            refine kw_icmp_le hg 30 dX1_event_25 (by decide) (fun c25 => ?_) (fun c25 => ?_)
            · refine kw_aload_n hg 0 dX1_event_30 rfl rfl ?_
              refine gM_count hg dX1_event_31 ?_
              refine kw_bipush (v := 10) hg dX1_event_34 (by decide) ?_
              refine kw_icmp_ne hg 42 dX1_event_36 (by decide) (fun c36 => ?_) (fun c36 => absurd c36 (by rw [show (10 : Int32) = nI 10 from rfl, nI_eq (by omega) (by omega)]; omega))
              refine kw_aload_n hg 0 dX1_event_42 rfl rfl ?_
              refine gM_types hg dX1_event_43 ?_
              refine kw_aload_n hg 0 dX1_event_46 rfl rfl ?_
              refine gM_count hg dX1_event_47 ?_
              refine kw_iload_n hg 1 dX1_event_50 rfl rfl ?_
              refine sM_4 hg _ (by omega) dX1_event_51 ?_
              refine kw_aload_n hg 0 dX1_event_52 rfl rfl ?_
              refine gM_values hg dX1_event_53 ?_
              refine kw_aload_n hg 0 dX1_event_56 rfl rfl ?_
              refine gM_count hg dX1_event_57 ?_
              refine kw_iload_n hg 2 dX1_event_60 rfl rfl ?_
              refine sM_5 hg _ (by omega) dX1_event_61 ?_
              rcases Nat.eq_zero_or_pos c with hc0 | hc0
              · refine kw_aload_n hg 0 dX1_event_62 rfl rfl ?_
                refine gM_times hg dX1_event_63 ?_
                refine kw_aload_n hg 0 dX1_event_66 rfl rfl ?_
                refine gM_count hg dX1_event_67 ?_
                refine kw_aload_n hg 0 dX1_event_70 rfl rfl ?_
                refine gM_count hg dX1_event_71 ?_
                refine kw_if_ne hg 81 dX1_event_74 (by decide) (fun c74 => absurd (by rw [hc0]; exact nI_0) c74) (fun c74 => ?_)
                refine kw_iconst (v := 0) hg dX1_event_77 (by decide) ?_
                refine kw_goto hg 92 dX1_event_78 (by decide) ?_
                refine kw_iload_n hg 3 dX1_event_92 rfl rfl ?_
                refine kw_iadd hg dX1_event_93 ?_
                refine kw_top ((if c = 0 then 0 else (up1 (up1 u 4 c t) 5 c v) 6 (c - 1)) + g0) (by rw [if_pos hc0]) ?_
                refine sM_6 hg _ (by omega) dX1_event_94 ?_
                refine kw_aload_n hg 0 dX1_event_95 rfl rfl ?_
                refine kw_dupr hg dX1_event_96 ?_
                refine gM_count hg dX1_event_97 ?_
                refine kw_iconst (v := 1) hg dX1_event_100 (by decide) ?_
                refine kw_iadd hg dX1_event_101 ?_
                refine kw_top (nI (c + 1)) (nI_1 c) ?_
                refine pM_count hg dX1_event_102 ?_
                refine kw_aload_n hg 0 dX1_event_105 rfl rfl ?_
                refine kw_aload_n hg 0 dX1_event_106 rfl rfl ?_
                refine gM_count hg dX1_event_107 ?_
                refine kw_iconst (v := 1) hg dX1_event_110 (by decide) ?_
                refine kw_isub hg dX1_event_111 ?_
                refine kw_top (nI c) (nI_pred c) ?_
                refine kw_calli hg (mM_endingAt (u := evU u c t v g0) (c := c + 1) c (by omega) hn (by omega)) kw_J.self (fun _ _ h => h) lx_X1_endingAt ly_X1_endingAt rfl ⟨Nat.le_of_ble_eq_true rfl, Nat.le_of_ble_eq_true rfl⟩ rfl rfl rfl (Nat.le_of_ble_eq_true rfl) dX1_event_112 ?_
                exact hret _ _ _ _ dX1_event_115 (rfl) (rfl)
              · refine kw_aload_n hg 0 dX1_event_62 rfl rfl ?_
                refine gM_times hg dX1_event_63 ?_
                refine kw_aload_n hg 0 dX1_event_66 rfl rfl ?_
                refine gM_count hg dX1_event_67 ?_
                refine kw_aload_n hg 0 dX1_event_70 rfl rfl ?_
                refine gM_count hg dX1_event_71 ?_
                refine kw_if_ne hg 81 dX1_event_74 (by decide) (fun c74 => ?_) (fun c74 => absurd c74 (nI_ne0 hc0 (by omega)))
                refine kw_aload_n hg 0 dX1_event_81 rfl rfl ?_
                refine gM_times hg dX1_event_82 ?_
                refine kw_aload_n hg 0 dX1_event_85 rfl rfl ?_
                refine gM_count hg dX1_event_86 ?_
                refine kw_iconst (v := 1) hg dX1_event_89 (by decide) ?_
                refine kw_isub hg dX1_event_90 ?_
                refine kw_top (nI (c - 1)) (ni_pr hc0) ?_
                refine aM_6 hg _ (by omega) dX1_event_91 ?_
                refine kw_iload_n hg 3 dX1_event_92 rfl rfl ?_
                refine kw_iadd hg dX1_event_93 ?_
                refine kw_top ((if c = 0 then 0 else (up1 (up1 u 4 c t) 5 c v) 6 (c - 1)) + g0) (by rw [if_neg (Nat.ne_of_gt hc0)]; rfl) ?_
                refine sM_6 hg _ (by omega) dX1_event_94 ?_
                refine kw_aload_n hg 0 dX1_event_95 rfl rfl ?_
                refine kw_dupr hg dX1_event_96 ?_
                refine gM_count hg dX1_event_97 ?_
                refine kw_iconst (v := 1) hg dX1_event_100 (by decide) ?_
                refine kw_iadd hg dX1_event_101 ?_
                refine kw_top (nI (c + 1)) (nI_1 c) ?_
                refine pM_count hg dX1_event_102 ?_
                refine kw_aload_n hg 0 dX1_event_105 rfl rfl ?_
                refine kw_aload_n hg 0 dX1_event_106 rfl rfl ?_
                refine gM_count hg dX1_event_107 ?_
                refine kw_iconst (v := 1) hg dX1_event_110 (by decide) ?_
                refine kw_isub hg dX1_event_111 ?_
                refine kw_top (nI c) (nI_pred c) ?_
                refine kw_calli hg (mM_endingAt (u := evU u c t v g0) (c := c + 1) c (by omega) hn (by omega)) kw_J.self (fun _ _ h => h) lx_X1_endingAt ly_X1_endingAt rfl ⟨Nat.le_of_ble_eq_true rfl, Nat.le_of_ble_eq_true rfl⟩ rfl rfl rfl (Nat.le_of_ble_eq_true rfl) dX1_event_112 ?_
                exact hret _ _ _ _ dX1_event_115 (rfl) (rfl)
            · exact absurd hok (by simp [okE, c1, c6, c10, c16, c20, c25])
end
section
/-! the constructors: the object's cells come, in any place -/
abbrev tyAD : Type := (Nat → Nat) × (Nat → ClassId)
def u00 : Nat → Nat → Int32 := up1 (fun _ _ => 0) 0 0 4
set_option maxHeartbeats 4000000 in
set_option maxRecDepth 100000 in
theorem mX_init (l : Launch) (D : va_G) (h sz : Nat) : Met l yX0_init (ws_ yX0_init cX0_init 1 none) ({ frames := 1, cells := 10, slots := 166, locals := 12 }) (va_Pc [.ref h] (fun U => U.heap.size = sz ∧ va_P D vwCl [(h, .inr (0, [.int 0, .null, .null, .null, .null, .int 0, .int 0, .null, .null, .null, .int 0, .null, .null, .null]))] U.heap ∧ va_K D vwCl [] U ∧ va_D (fun _ => True) [(h, .inr (0, [.int 0, .null, .null, .null, .null, .int 0, .int 0, .null, .null, .null, .int 0, .null, .null, .null]))])) (va_Qv (fun (_ : tyAD) => True) (fun u t => va_P D vwCl (wX h u.1 u.2 u00 (nI 1) 10 (nI 0) 0 (fun _ => 0) (fun _ => 0) (fun _ => 0)) t.heap ∧ va_K D vwCl (tX u.2) t ∧ va_D (va_A [(h, .inr (0, [.int 0, .null, .null, .null, .null, .int 0, .int 0, .null, .null, .null, .int 0, .null, .null, .null]))] sz) (wX h u.1 u.2 u00 (nI 1) 10 (nI 0) 0 (fun _ => 0) (fun _ => 0) (fun _ => 0))) (va_A [(h, .inr (0, [.int 0, .null, .null, .null, .null, .int 0, .int 0, .null, .null, .null, .int 0, .null, .null, .null]))] sz)) 10 166 (va_A [(h, .inr (0, [.int 0, .null, .null, .null, .null, .int 0, .int 0, .null, .null, .null, .int 0, .null, .null, .null]))] sz) := by
  refine Met.ofW (cc := cX0_init) (maxL := 1) (ret := none) (by decide) rfl ?_
  intro p e s m args below meth c s₁ B hml hv
  obtain ⟨rfl, hsz, hP, hK, hD0⟩ := hv
  have hx := B.exec
  have hb := B.bytes
  have hr := B.returns
  have hts := atoms_spec (ws := ws_ yX0_init cX0_init 1 none) B.pre
  have hts : ∀ w ∈ lw_all, w.before _ s = true := fun w h => hts w (List.mem_cons_of_mem _ h)
  have hown : s.vm.findClass RX0 = some m.cls := findClass_of_methodNamed B.named
  have hlocks := B.notSynchronized
  have hin : meth.name = "<init>" := (name_of_methodNamed B.named B.method).1
  subst hsz
  have hD := hD0.self (sz := s.heap.size)
  generalize hAe : va_A [(h, .inr (0, [.int 0, .null, .null, .null, .null, .int 0, .int 0, .null, .null, .null, .int 0, .null, .null, .null]))] s.heap.size = A at hD ⊢
  have hA : ∀ q : Nat, s.heap.size ≤ q → A q := fun q h => by rw [← hAe]; exact Or.inr h
  have hS : va_S A s.heap s.heap [] := va_S.rf
  have hl := lv_entry ([.ref h]) (n := 1) (Nat.le_of_ble_eq_true rfl)
  rw [lg_entry_eq]
  generalize (lg_sl ([.ref h]) ++ List.replicate (1 - (lg_sl ([.ref h])).length) Slot.unset).toArray = ls at hl ⊢
  have hl : lv_has ls 1 [(0, .ref h)] := hl
  refine lv_aload_n hx hb dX0_init_0 rfl (lv_at hl 0 rfl) ?_
  refine W.objInit hx hb hown (hts _ q25) (hts _ q26) (hts _ q27) rfl (by rw [hml]; exact hl.1) rfl dX0_init_1 (Nat.le_of_ble_eq_true rfl) (Nat.le_of_ble_eq_true rfl) ?_
  refine W.eq (g2 := F0 m 4 ls []) rfl ?_
  refine lv_aload_n hx hb dX0_init_4 rfl (lv_at hl 0 rfl) ?_
  refine lv_iconst (v := 4) hx hb dX0_init_5 (by decide) ?_
  refine va_newa (atype := .int) (ty := .int) (N' := 4) (a0 := (4, .inl (fun _ => 0))) hx hb (hts _ q71) rfl hK hP hD hS hA (fun _ => rfl) (by decide) (by decide) (by decide) (Nat.le_of_ble_eq_true rfl) (Nat.le_of_ble_eq_true rfl) dX0_init_6 (fun q_0 d_0 H hK hP hD hS => ?_)
  have hP : va_P D vwCl [(h, .inr (0, [.int 0, .null, .null, .null, .null, .int 0, .int 0, .null, .null, .null, .int 0, .null, .null, .null])), (q_0, .inl (d_0, 4, .inl (fun _ => 0)))] H := hP
  have hD : va_D A [(h, .inr (0, [.int 0, .null, .null, .null, .null, .int 0, .int 0, .null, .null, .null, .int 0, .null, .null, .null])), (q_0, .inl (d_0, 4, .inl (fun _ => 0)))] := hD
  have hK : va_K D vwCl [(d_0, .int)] s := hK
  refine W.widen (k := 1) (n := 4) (Nat.le_refl _) (Nat.le_refl _) ?_
  refine va_putF (D := D) (ci := 0) (v := .ref q_0) (ty := .array .int) (C := RX0) (T := TX0) (N := 14) hx hb hts in_X0 tyX0 tyX0_ok nmX0 hown hK hP hD hS 0 rfl rfl 1 (by decide) (hts _ q29) (fun _ h9 => h9) rfl hin rfl (by decide +kernel) rfl rfl (Nat.le_of_ble_eq_true rfl) dX0_init_8 (fun H locs hP hD hS => ?_)
  have hP : va_P D vwCl [(h, .inr (0, [.int 0, .ref q_0, .null, .null, .null, .int 0, .int 0, .null, .null, .null, .int 0, .null, .null, .null])), (q_0, .inl (d_0, 4, .inl (fun _ => 0)))] H := hP
  have hD : va_D A [(h, .inr (0, [.int 0, .ref q_0, .null, .null, .null, .int 0, .int 0, .null, .null, .null, .int 0, .null, .null, .null])), (q_0, .inl (d_0, 4, .inl (fun _ => 0)))] := hD
  refine lv_aload_n hx hb dX0_init_11 rfl (lv_at hl 0 rfl) ?_
  refine lv_iconst (v := 4) hx hb dX0_init_12 (by decide) ?_
  refine va_newa (atype := .int) (ty := .int) (N' := 4) (a0 := (4, .inl (fun _ => 0))) hx hb (hts _ q71) rfl hK hP hD hS hA (fun _ => rfl) (by decide) (by decide) (by decide) (Nat.le_of_ble_eq_true rfl) (Nat.le_of_ble_eq_true rfl) dX0_init_13 (fun q_1 d_1 H hK hP hD hS => ?_)
  have hP : va_P D vwCl [(h, .inr (0, [.int 0, .ref q_0, .null, .null, .null, .int 0, .int 0, .null, .null, .null, .int 0, .null, .null, .null])), (q_0, .inl (d_0, 4, .inl (fun _ => 0))), (q_1, .inl (d_1, 4, .inl (fun _ => 0)))] H := hP
  have hD : va_D A [(h, .inr (0, [.int 0, .ref q_0, .null, .null, .null, .int 0, .int 0, .null, .null, .null, .int 0, .null, .null, .null])), (q_0, .inl (d_0, 4, .inl (fun _ => 0))), (q_1, .inl (d_1, 4, .inl (fun _ => 0)))] := hD
  have hK : va_K D vwCl [(d_0, .int), (d_1, .int)] s := hK
  refine W.widen (k := 2) (n := 8) (Nat.le_refl _) (Nat.le_refl _) ?_
  refine va_putF (D := D) (ci := 0) (v := .ref q_1) (ty := .array .int) (C := RX0) (T := TX0) (N := 14) hx hb hts in_X0 tyX0 tyX0_ok nmX0 hown hK hP hD hS 0 rfl rfl 2 (by decide) (hts _ q30) (fun _ h9 => h9) rfl hin rfl (by decide +kernel) rfl rfl (Nat.le_of_ble_eq_true rfl) dX0_init_15 (fun H locs hP hD hS => ?_)
  have hP : va_P D vwCl [(h, .inr (0, [.int 0, .ref q_0, .ref q_1, .null, .null, .int 0, .int 0, .null, .null, .null, .int 0, .null, .null, .null])), (q_0, .inl (d_0, 4, .inl (fun _ => 0))), (q_1, .inl (d_1, 4, .inl (fun _ => 0)))] H := hP
  have hD : va_D A [(h, .inr (0, [.int 0, .ref q_0, .ref q_1, .null, .null, .int 0, .int 0, .null, .null, .null, .int 0, .null, .null, .null])), (q_0, .inl (d_0, 4, .inl (fun _ => 0))), (q_1, .inl (d_1, 4, .inl (fun _ => 0)))] := hD
  refine lv_aload_n hx hb dX0_init_18 rfl (lv_at hl 0 rfl) ?_
  refine lv_iconst (v := 4) hx hb dX0_init_19 (by decide) ?_
  refine va_newa (atype := .int) (ty := .int) (N' := 4) (a0 := (4, .inl (fun _ => 0))) hx hb (hts _ q71) rfl hK hP hD hS hA (fun _ => rfl) (by decide) (by decide) (by decide) (Nat.le_of_ble_eq_true rfl) (Nat.le_of_ble_eq_true rfl) dX0_init_20 (fun q_2 d_2 H hK hP hD hS => ?_)
  have hP : va_P D vwCl [(h, .inr (0, [.int 0, .ref q_0, .ref q_1, .null, .null, .int 0, .int 0, .null, .null, .null, .int 0, .null, .null, .null])), (q_0, .inl (d_0, 4, .inl (fun _ => 0))), (q_1, .inl (d_1, 4, .inl (fun _ => 0))), (q_2, .inl (d_2, 4, .inl (fun _ => 0)))] H := hP
  have hD : va_D A [(h, .inr (0, [.int 0, .ref q_0, .ref q_1, .null, .null, .int 0, .int 0, .null, .null, .null, .int 0, .null, .null, .null])), (q_0, .inl (d_0, 4, .inl (fun _ => 0))), (q_1, .inl (d_1, 4, .inl (fun _ => 0))), (q_2, .inl (d_2, 4, .inl (fun _ => 0)))] := hD
  have hK : va_K D vwCl [(d_0, .int), (d_1, .int), (d_2, .int)] s := hK
  refine W.widen (k := 3) (n := 12) (Nat.le_refl _) (Nat.le_refl _) ?_
  refine va_putF (D := D) (ci := 0) (v := .ref q_2) (ty := .array .int) (C := RX0) (T := TX0) (N := 14) hx hb hts in_X0 tyX0 tyX0_ok nmX0 hown hK hP hD hS 0 rfl rfl 3 (by decide) (hts _ q31) (fun _ h9 => h9) rfl hin rfl (by decide +kernel) rfl rfl (Nat.le_of_ble_eq_true rfl) dX0_init_22 (fun H locs hP hD hS => ?_)
  have hP : va_P D vwCl [(h, .inr (0, [.int 0, .ref q_0, .ref q_1, .ref q_2, .null, .int 0, .int 0, .null, .null, .null, .int 0, .null, .null, .null])), (q_0, .inl (d_0, 4, .inl (fun _ => 0))), (q_1, .inl (d_1, 4, .inl (fun _ => 0))), (q_2, .inl (d_2, 4, .inl (fun _ => 0)))] H := hP
  have hD : va_D A [(h, .inr (0, [.int 0, .ref q_0, .ref q_1, .ref q_2, .null, .int 0, .int 0, .null, .null, .null, .int 0, .null, .null, .null])), (q_0, .inl (d_0, 4, .inl (fun _ => 0))), (q_1, .inl (d_1, 4, .inl (fun _ => 0))), (q_2, .inl (d_2, 4, .inl (fun _ => 0)))] := hD
  refine lv_aload_n hx hb dX0_init_25 rfl (lv_at hl 0 rfl) ?_
  refine lv_iconst (v := 4) hx hb dX0_init_26 (by decide) ?_
  refine va_newa (atype := .boolean) (ty := .boolean) (N' := 4) (a0 := (4, .inl (fun _ => 0))) hx hb (hts _ q72) rfl hK hP hD hS hA (fun _ => rfl) (by decide) (by decide) (by decide) (Nat.le_of_ble_eq_true rfl) (Nat.le_of_ble_eq_true rfl) dX0_init_27 (fun q_3 d_3 H hK hP hD hS => ?_)
  have hP : va_P D vwCl [(h, .inr (0, [.int 0, .ref q_0, .ref q_1, .ref q_2, .null, .int 0, .int 0, .null, .null, .null, .int 0, .null, .null, .null])), (q_0, .inl (d_0, 4, .inl (fun _ => 0))), (q_1, .inl (d_1, 4, .inl (fun _ => 0))), (q_2, .inl (d_2, 4, .inl (fun _ => 0))), (q_3, .inl (d_3, 4, .inl (fun _ => 0)))] H := hP
  have hD : va_D A [(h, .inr (0, [.int 0, .ref q_0, .ref q_1, .ref q_2, .null, .int 0, .int 0, .null, .null, .null, .int 0, .null, .null, .null])), (q_0, .inl (d_0, 4, .inl (fun _ => 0))), (q_1, .inl (d_1, 4, .inl (fun _ => 0))), (q_2, .inl (d_2, 4, .inl (fun _ => 0))), (q_3, .inl (d_3, 4, .inl (fun _ => 0)))] := hD
  have hK : va_K D vwCl [(d_0, .int), (d_1, .int), (d_2, .int), (d_3, .boolean)] s := hK
  refine W.widen (k := 4) (n := 16) (Nat.le_refl _) (Nat.le_refl _) ?_
  refine va_putF (D := D) (ci := 0) (v := .ref q_3) (ty := .array .boolean) (C := RX0) (T := TX0) (N := 14) hx hb hts in_X0 tyX0 tyX0_ok nmX0 hown hK hP hD hS 0 rfl rfl 4 (by decide) (hts _ q32) (fun _ h9 => h9) rfl hin rfl (by decide +kernel) rfl rfl (Nat.le_of_ble_eq_true rfl) dX0_init_29 (fun H locs hP hD hS => ?_)
  have hP : va_P D vwCl [(h, .inr (0, [.int 0, .ref q_0, .ref q_1, .ref q_2, .ref q_3, .int 0, .int 0, .null, .null, .null, .int 0, .null, .null, .null])), (q_0, .inl (d_0, 4, .inl (fun _ => 0))), (q_1, .inl (d_1, 4, .inl (fun _ => 0))), (q_2, .inl (d_2, 4, .inl (fun _ => 0))), (q_3, .inl (d_3, 4, .inl (fun _ => 0)))] H := hP
  have hD : va_D A [(h, .inr (0, [.int 0, .ref q_0, .ref q_1, .ref q_2, .ref q_3, .int 0, .int 0, .null, .null, .null, .int 0, .null, .null, .null])), (q_0, .inl (d_0, 4, .inl (fun _ => 0))), (q_1, .inl (d_1, 4, .inl (fun _ => 0))), (q_2, .inl (d_2, 4, .inl (fun _ => 0))), (q_3, .inl (d_3, 4, .inl (fun _ => 0)))] := hD
  refine lv_aload_n hx hb dX0_init_32 rfl (lv_at hl 0 rfl) ?_
  refine lv_bipush (v := 10) hx hb dX0_init_33 (by decide) ?_
  refine va_newa (atype := .int) (ty := .int) (N' := 10) (a0 := (10, .inl (fun _ => 0))) hx hb (hts _ q71) rfl hK hP hD hS hA (fun _ => rfl) (by decide) (by decide) (by decide) (Nat.le_of_ble_eq_true rfl) (Nat.le_of_ble_eq_true rfl) dX0_init_35 (fun q_4 d_4 H hK hP hD hS => ?_)
  have hP : va_P D vwCl [(h, .inr (0, [.int 0, .ref q_0, .ref q_1, .ref q_2, .ref q_3, .int 0, .int 0, .null, .null, .null, .int 0, .null, .null, .null])), (q_0, .inl (d_0, 4, .inl (fun _ => 0))), (q_1, .inl (d_1, 4, .inl (fun _ => 0))), (q_2, .inl (d_2, 4, .inl (fun _ => 0))), (q_3, .inl (d_3, 4, .inl (fun _ => 0))), (q_4, .inl (d_4, 10, .inl (fun _ => 0)))] H := hP
  have hD : va_D A [(h, .inr (0, [.int 0, .ref q_0, .ref q_1, .ref q_2, .ref q_3, .int 0, .int 0, .null, .null, .null, .int 0, .null, .null, .null])), (q_0, .inl (d_0, 4, .inl (fun _ => 0))), (q_1, .inl (d_1, 4, .inl (fun _ => 0))), (q_2, .inl (d_2, 4, .inl (fun _ => 0))), (q_3, .inl (d_3, 4, .inl (fun _ => 0))), (q_4, .inl (d_4, 10, .inl (fun _ => 0)))] := hD
  have hK : va_K D vwCl [(d_0, .int), (d_1, .int), (d_2, .int), (d_3, .boolean), (d_4, .int)] s := hK
  refine W.widen (k := 5) (n := 26) (Nat.le_refl _) (Nat.le_refl _) ?_
  refine va_putF (D := D) (ci := 0) (v := .ref q_4) (ty := .array .int) (C := RX0) (T := TX0) (N := 14) hx hb hts in_X0 tyX0 tyX0_ok nmX0 hown hK hP hD hS 0 rfl rfl 7 (by decide) (hts _ q35) (fun _ h9 => h9) rfl hin rfl (by decide +kernel) rfl rfl (Nat.le_of_ble_eq_true rfl) dX0_init_37 (fun H locs hP hD hS => ?_)
  have hP : va_P D vwCl [(h, .inr (0, [.int 0, .ref q_0, .ref q_1, .ref q_2, .ref q_3, .int 0, .int 0, .ref q_4, .null, .null, .int 0, .null, .null, .null])), (q_0, .inl (d_0, 4, .inl (fun _ => 0))), (q_1, .inl (d_1, 4, .inl (fun _ => 0))), (q_2, .inl (d_2, 4, .inl (fun _ => 0))), (q_3, .inl (d_3, 4, .inl (fun _ => 0))), (q_4, .inl (d_4, 10, .inl (fun _ => 0)))] H := hP
  have hD : va_D A [(h, .inr (0, [.int 0, .ref q_0, .ref q_1, .ref q_2, .ref q_3, .int 0, .int 0, .ref q_4, .null, .null, .int 0, .null, .null, .null])), (q_0, .inl (d_0, 4, .inl (fun _ => 0))), (q_1, .inl (d_1, 4, .inl (fun _ => 0))), (q_2, .inl (d_2, 4, .inl (fun _ => 0))), (q_3, .inl (d_3, 4, .inl (fun _ => 0))), (q_4, .inl (d_4, 10, .inl (fun _ => 0)))] := hD
  refine lv_aload_n hx hb dX0_init_40 rfl (lv_at hl 0 rfl) ?_
  refine lv_bipush (v := 10) hx hb dX0_init_41 (by decide) ?_
  refine va_newa (atype := .int) (ty := .int) (N' := 10) (a0 := (10, .inl (fun _ => 0))) hx hb (hts _ q71) rfl hK hP hD hS hA (fun _ => rfl) (by decide) (by decide) (by decide) (Nat.le_of_ble_eq_true rfl) (Nat.le_of_ble_eq_true rfl) dX0_init_43 (fun q_5 d_5 H hK hP hD hS => ?_)
  have hP : va_P D vwCl [(h, .inr (0, [.int 0, .ref q_0, .ref q_1, .ref q_2, .ref q_3, .int 0, .int 0, .ref q_4, .null, .null, .int 0, .null, .null, .null])), (q_0, .inl (d_0, 4, .inl (fun _ => 0))), (q_1, .inl (d_1, 4, .inl (fun _ => 0))), (q_2, .inl (d_2, 4, .inl (fun _ => 0))), (q_3, .inl (d_3, 4, .inl (fun _ => 0))), (q_4, .inl (d_4, 10, .inl (fun _ => 0))), (q_5, .inl (d_5, 10, .inl (fun _ => 0)))] H := hP
  have hD : va_D A [(h, .inr (0, [.int 0, .ref q_0, .ref q_1, .ref q_2, .ref q_3, .int 0, .int 0, .ref q_4, .null, .null, .int 0, .null, .null, .null])), (q_0, .inl (d_0, 4, .inl (fun _ => 0))), (q_1, .inl (d_1, 4, .inl (fun _ => 0))), (q_2, .inl (d_2, 4, .inl (fun _ => 0))), (q_3, .inl (d_3, 4, .inl (fun _ => 0))), (q_4, .inl (d_4, 10, .inl (fun _ => 0))), (q_5, .inl (d_5, 10, .inl (fun _ => 0)))] := hD
  have hK : va_K D vwCl [(d_0, .int), (d_1, .int), (d_2, .int), (d_3, .boolean), (d_4, .int), (d_5, .int)] s := hK
  refine W.widen (k := 6) (n := 36) (Nat.le_refl _) (Nat.le_refl _) ?_
  refine va_putF (D := D) (ci := 0) (v := .ref q_5) (ty := .array .int) (C := RX0) (T := TX0) (N := 14) hx hb hts in_X0 tyX0 tyX0_ok nmX0 hown hK hP hD hS 0 rfl rfl 8 (by decide) (hts _ q36) (fun _ h9 => h9) rfl hin rfl (by decide +kernel) rfl rfl (Nat.le_of_ble_eq_true rfl) dX0_init_45 (fun H locs hP hD hS => ?_)
  have hP : va_P D vwCl [(h, .inr (0, [.int 0, .ref q_0, .ref q_1, .ref q_2, .ref q_3, .int 0, .int 0, .ref q_4, .ref q_5, .null, .int 0, .null, .null, .null])), (q_0, .inl (d_0, 4, .inl (fun _ => 0))), (q_1, .inl (d_1, 4, .inl (fun _ => 0))), (q_2, .inl (d_2, 4, .inl (fun _ => 0))), (q_3, .inl (d_3, 4, .inl (fun _ => 0))), (q_4, .inl (d_4, 10, .inl (fun _ => 0))), (q_5, .inl (d_5, 10, .inl (fun _ => 0)))] H := hP
  have hD : va_D A [(h, .inr (0, [.int 0, .ref q_0, .ref q_1, .ref q_2, .ref q_3, .int 0, .int 0, .ref q_4, .ref q_5, .null, .int 0, .null, .null, .null])), (q_0, .inl (d_0, 4, .inl (fun _ => 0))), (q_1, .inl (d_1, 4, .inl (fun _ => 0))), (q_2, .inl (d_2, 4, .inl (fun _ => 0))), (q_3, .inl (d_3, 4, .inl (fun _ => 0))), (q_4, .inl (d_4, 10, .inl (fun _ => 0))), (q_5, .inl (d_5, 10, .inl (fun _ => 0)))] := hD
  refine lv_aload_n hx hb dX0_init_48 rfl (lv_at hl 0 rfl) ?_
  refine lv_bipush (v := 10) hx hb dX0_init_49 (by decide) ?_
  refine va_newa (atype := .int) (ty := .int) (N' := 10) (a0 := (10, .inl (fun _ => 0))) hx hb (hts _ q71) rfl hK hP hD hS hA (fun _ => rfl) (by decide) (by decide) (by decide) (Nat.le_of_ble_eq_true rfl) (Nat.le_of_ble_eq_true rfl) dX0_init_51 (fun q_6 d_6 H hK hP hD hS => ?_)
  have hP : va_P D vwCl [(h, .inr (0, [.int 0, .ref q_0, .ref q_1, .ref q_2, .ref q_3, .int 0, .int 0, .ref q_4, .ref q_5, .null, .int 0, .null, .null, .null])), (q_0, .inl (d_0, 4, .inl (fun _ => 0))), (q_1, .inl (d_1, 4, .inl (fun _ => 0))), (q_2, .inl (d_2, 4, .inl (fun _ => 0))), (q_3, .inl (d_3, 4, .inl (fun _ => 0))), (q_4, .inl (d_4, 10, .inl (fun _ => 0))), (q_5, .inl (d_5, 10, .inl (fun _ => 0))), (q_6, .inl (d_6, 10, .inl (fun _ => 0)))] H := hP
  have hD : va_D A [(h, .inr (0, [.int 0, .ref q_0, .ref q_1, .ref q_2, .ref q_3, .int 0, .int 0, .ref q_4, .ref q_5, .null, .int 0, .null, .null, .null])), (q_0, .inl (d_0, 4, .inl (fun _ => 0))), (q_1, .inl (d_1, 4, .inl (fun _ => 0))), (q_2, .inl (d_2, 4, .inl (fun _ => 0))), (q_3, .inl (d_3, 4, .inl (fun _ => 0))), (q_4, .inl (d_4, 10, .inl (fun _ => 0))), (q_5, .inl (d_5, 10, .inl (fun _ => 0))), (q_6, .inl (d_6, 10, .inl (fun _ => 0)))] := hD
  have hK : va_K D vwCl [(d_0, .int), (d_1, .int), (d_2, .int), (d_3, .boolean), (d_4, .int), (d_5, .int), (d_6, .int)] s := hK
  refine W.widen (k := 7) (n := 46) (Nat.le_refl _) (Nat.le_refl _) ?_
  refine va_putF (D := D) (ci := 0) (v := .ref q_6) (ty := .array .int) (C := RX0) (T := TX0) (N := 14) hx hb hts in_X0 tyX0 tyX0_ok nmX0 hown hK hP hD hS 0 rfl rfl 9 (by decide) (hts _ q37) (fun _ h9 => h9) rfl hin rfl (by decide +kernel) rfl rfl (Nat.le_of_ble_eq_true rfl) dX0_init_53 (fun H locs hP hD hS => ?_)
  have hP : va_P D vwCl [(h, .inr (0, [.int 0, .ref q_0, .ref q_1, .ref q_2, .ref q_3, .int 0, .int 0, .ref q_4, .ref q_5, .ref q_6, .int 0, .null, .null, .null])), (q_0, .inl (d_0, 4, .inl (fun _ => 0))), (q_1, .inl (d_1, 4, .inl (fun _ => 0))), (q_2, .inl (d_2, 4, .inl (fun _ => 0))), (q_3, .inl (d_3, 4, .inl (fun _ => 0))), (q_4, .inl (d_4, 10, .inl (fun _ => 0))), (q_5, .inl (d_5, 10, .inl (fun _ => 0))), (q_6, .inl (d_6, 10, .inl (fun _ => 0)))] H := hP
  have hD : va_D A [(h, .inr (0, [.int 0, .ref q_0, .ref q_1, .ref q_2, .ref q_3, .int 0, .int 0, .ref q_4, .ref q_5, .ref q_6, .int 0, .null, .null, .null])), (q_0, .inl (d_0, 4, .inl (fun _ => 0))), (q_1, .inl (d_1, 4, .inl (fun _ => 0))), (q_2, .inl (d_2, 4, .inl (fun _ => 0))), (q_3, .inl (d_3, 4, .inl (fun _ => 0))), (q_4, .inl (d_4, 10, .inl (fun _ => 0))), (q_5, .inl (d_5, 10, .inl (fun _ => 0))), (q_6, .inl (d_6, 10, .inl (fun _ => 0)))] := hD
  refine lv_aload_n hx hb dX0_init_56 rfl (lv_at hl 0 rfl) ?_
  refine lv_bipush (v := 40) hx hb dX0_init_57 (by decide) ?_
  refine va_newa (atype := .int) (ty := .int) (N' := 40) (a0 := (40, .inl (fun _ => 0))) hx hb (hts _ q71) rfl hK hP hD hS hA (fun _ => rfl) (by decide) (by decide) (by decide) (Nat.le_of_ble_eq_true rfl) (Nat.le_of_ble_eq_true rfl) dX0_init_59 (fun q_7 d_7 H hK hP hD hS => ?_)
  have hP : va_P D vwCl [(h, .inr (0, [.int 0, .ref q_0, .ref q_1, .ref q_2, .ref q_3, .int 0, .int 0, .ref q_4, .ref q_5, .ref q_6, .int 0, .null, .null, .null])), (q_0, .inl (d_0, 4, .inl (fun _ => 0))), (q_1, .inl (d_1, 4, .inl (fun _ => 0))), (q_2, .inl (d_2, 4, .inl (fun _ => 0))), (q_3, .inl (d_3, 4, .inl (fun _ => 0))), (q_4, .inl (d_4, 10, .inl (fun _ => 0))), (q_5, .inl (d_5, 10, .inl (fun _ => 0))), (q_6, .inl (d_6, 10, .inl (fun _ => 0))), (q_7, .inl (d_7, 40, .inl (fun _ => 0)))] H := hP
  have hD : va_D A [(h, .inr (0, [.int 0, .ref q_0, .ref q_1, .ref q_2, .ref q_3, .int 0, .int 0, .ref q_4, .ref q_5, .ref q_6, .int 0, .null, .null, .null])), (q_0, .inl (d_0, 4, .inl (fun _ => 0))), (q_1, .inl (d_1, 4, .inl (fun _ => 0))), (q_2, .inl (d_2, 4, .inl (fun _ => 0))), (q_3, .inl (d_3, 4, .inl (fun _ => 0))), (q_4, .inl (d_4, 10, .inl (fun _ => 0))), (q_5, .inl (d_5, 10, .inl (fun _ => 0))), (q_6, .inl (d_6, 10, .inl (fun _ => 0))), (q_7, .inl (d_7, 40, .inl (fun _ => 0)))] := hD
  have hK : va_K D vwCl [(d_0, .int), (d_1, .int), (d_2, .int), (d_3, .boolean), (d_4, .int), (d_5, .int), (d_6, .int), (d_7, .int)] s := hK
  refine W.widen (k := 8) (n := 86) (Nat.le_refl _) (Nat.le_refl _) ?_
  refine va_putF (D := D) (ci := 0) (v := .ref q_7) (ty := .array .int) (C := RX0) (T := TX0) (N := 14) hx hb hts in_X0 tyX0 tyX0_ok nmX0 hown hK hP hD hS 0 rfl rfl 11 (by decide) (hts _ q39) (fun _ h9 => h9) rfl hin rfl (by decide +kernel) rfl rfl (Nat.le_of_ble_eq_true rfl) dX0_init_61 (fun H locs hP hD hS => ?_)
  have hP : va_P D vwCl [(h, .inr (0, [.int 0, .ref q_0, .ref q_1, .ref q_2, .ref q_3, .int 0, .int 0, .ref q_4, .ref q_5, .ref q_6, .int 0, .ref q_7, .null, .null])), (q_0, .inl (d_0, 4, .inl (fun _ => 0))), (q_1, .inl (d_1, 4, .inl (fun _ => 0))), (q_2, .inl (d_2, 4, .inl (fun _ => 0))), (q_3, .inl (d_3, 4, .inl (fun _ => 0))), (q_4, .inl (d_4, 10, .inl (fun _ => 0))), (q_5, .inl (d_5, 10, .inl (fun _ => 0))), (q_6, .inl (d_6, 10, .inl (fun _ => 0))), (q_7, .inl (d_7, 40, .inl (fun _ => 0)))] H := hP
  have hD : va_D A [(h, .inr (0, [.int 0, .ref q_0, .ref q_1, .ref q_2, .ref q_3, .int 0, .int 0, .ref q_4, .ref q_5, .ref q_6, .int 0, .ref q_7, .null, .null])), (q_0, .inl (d_0, 4, .inl (fun _ => 0))), (q_1, .inl (d_1, 4, .inl (fun _ => 0))), (q_2, .inl (d_2, 4, .inl (fun _ => 0))), (q_3, .inl (d_3, 4, .inl (fun _ => 0))), (q_4, .inl (d_4, 10, .inl (fun _ => 0))), (q_5, .inl (d_5, 10, .inl (fun _ => 0))), (q_6, .inl (d_6, 10, .inl (fun _ => 0))), (q_7, .inl (d_7, 40, .inl (fun _ => 0)))] := hD
  refine lv_aload_n hx hb dX0_init_64 rfl (lv_at hl 0 rfl) ?_
  refine lv_bipush (v := 40) hx hb dX0_init_65 (by decide) ?_
  refine va_newa (atype := .int) (ty := .int) (N' := 40) (a0 := (40, .inl (fun _ => 0))) hx hb (hts _ q71) rfl hK hP hD hS hA (fun _ => rfl) (by decide) (by decide) (by decide) (Nat.le_of_ble_eq_true rfl) (Nat.le_of_ble_eq_true rfl) dX0_init_67 (fun q_8 d_8 H hK hP hD hS => ?_)
  have hP : va_P D vwCl [(h, .inr (0, [.int 0, .ref q_0, .ref q_1, .ref q_2, .ref q_3, .int 0, .int 0, .ref q_4, .ref q_5, .ref q_6, .int 0, .ref q_7, .null, .null])), (q_0, .inl (d_0, 4, .inl (fun _ => 0))), (q_1, .inl (d_1, 4, .inl (fun _ => 0))), (q_2, .inl (d_2, 4, .inl (fun _ => 0))), (q_3, .inl (d_3, 4, .inl (fun _ => 0))), (q_4, .inl (d_4, 10, .inl (fun _ => 0))), (q_5, .inl (d_5, 10, .inl (fun _ => 0))), (q_6, .inl (d_6, 10, .inl (fun _ => 0))), (q_7, .inl (d_7, 40, .inl (fun _ => 0))), (q_8, .inl (d_8, 40, .inl (fun _ => 0)))] H := hP
  have hD : va_D A [(h, .inr (0, [.int 0, .ref q_0, .ref q_1, .ref q_2, .ref q_3, .int 0, .int 0, .ref q_4, .ref q_5, .ref q_6, .int 0, .ref q_7, .null, .null])), (q_0, .inl (d_0, 4, .inl (fun _ => 0))), (q_1, .inl (d_1, 4, .inl (fun _ => 0))), (q_2, .inl (d_2, 4, .inl (fun _ => 0))), (q_3, .inl (d_3, 4, .inl (fun _ => 0))), (q_4, .inl (d_4, 10, .inl (fun _ => 0))), (q_5, .inl (d_5, 10, .inl (fun _ => 0))), (q_6, .inl (d_6, 10, .inl (fun _ => 0))), (q_7, .inl (d_7, 40, .inl (fun _ => 0))), (q_8, .inl (d_8, 40, .inl (fun _ => 0)))] := hD
  have hK : va_K D vwCl [(d_0, .int), (d_1, .int), (d_2, .int), (d_3, .boolean), (d_4, .int), (d_5, .int), (d_6, .int), (d_7, .int), (d_8, .int)] s := hK
  refine W.widen (k := 9) (n := 126) (Nat.le_refl _) (Nat.le_refl _) ?_
  refine va_putF (D := D) (ci := 0) (v := .ref q_8) (ty := .array .int) (C := RX0) (T := TX0) (N := 14) hx hb hts in_X0 tyX0 tyX0_ok nmX0 hown hK hP hD hS 0 rfl rfl 12 (by decide) (hts _ q40) (fun _ h9 => h9) rfl hin rfl (by decide +kernel) rfl rfl (Nat.le_of_ble_eq_true rfl) dX0_init_69 (fun H locs hP hD hS => ?_)
  have hP : va_P D vwCl [(h, .inr (0, [.int 0, .ref q_0, .ref q_1, .ref q_2, .ref q_3, .int 0, .int 0, .ref q_4, .ref q_5, .ref q_6, .int 0, .ref q_7, .ref q_8, .null])), (q_0, .inl (d_0, 4, .inl (fun _ => 0))), (q_1, .inl (d_1, 4, .inl (fun _ => 0))), (q_2, .inl (d_2, 4, .inl (fun _ => 0))), (q_3, .inl (d_3, 4, .inl (fun _ => 0))), (q_4, .inl (d_4, 10, .inl (fun _ => 0))), (q_5, .inl (d_5, 10, .inl (fun _ => 0))), (q_6, .inl (d_6, 10, .inl (fun _ => 0))), (q_7, .inl (d_7, 40, .inl (fun _ => 0))), (q_8, .inl (d_8, 40, .inl (fun _ => 0)))] H := hP
  have hD : va_D A [(h, .inr (0, [.int 0, .ref q_0, .ref q_1, .ref q_2, .ref q_3, .int 0, .int 0, .ref q_4, .ref q_5, .ref q_6, .int 0, .ref q_7, .ref q_8, .null])), (q_0, .inl (d_0, 4, .inl (fun _ => 0))), (q_1, .inl (d_1, 4, .inl (fun _ => 0))), (q_2, .inl (d_2, 4, .inl (fun _ => 0))), (q_3, .inl (d_3, 4, .inl (fun _ => 0))), (q_4, .inl (d_4, 10, .inl (fun _ => 0))), (q_5, .inl (d_5, 10, .inl (fun _ => 0))), (q_6, .inl (d_6, 10, .inl (fun _ => 0))), (q_7, .inl (d_7, 40, .inl (fun _ => 0))), (q_8, .inl (d_8, 40, .inl (fun _ => 0)))] := hD
  refine lv_aload_n hx hb dX0_init_72 rfl (lv_at hl 0 rfl) ?_
  refine lv_bipush (v := 40) hx hb dX0_init_73 (by decide) ?_
  refine va_newa (atype := .int) (ty := .int) (N' := 40) (a0 := (40, .inl (fun _ => 0))) hx hb (hts _ q71) rfl hK hP hD hS hA (fun _ => rfl) (by decide) (by decide) (by decide) (Nat.le_of_ble_eq_true rfl) (Nat.le_of_ble_eq_true rfl) dX0_init_75 (fun q_9 d_9 H hK hP hD hS => ?_)
  have hP : va_P D vwCl [(h, .inr (0, [.int 0, .ref q_0, .ref q_1, .ref q_2, .ref q_3, .int 0, .int 0, .ref q_4, .ref q_5, .ref q_6, .int 0, .ref q_7, .ref q_8, .null])), (q_0, .inl (d_0, 4, .inl (fun _ => 0))), (q_1, .inl (d_1, 4, .inl (fun _ => 0))), (q_2, .inl (d_2, 4, .inl (fun _ => 0))), (q_3, .inl (d_3, 4, .inl (fun _ => 0))), (q_4, .inl (d_4, 10, .inl (fun _ => 0))), (q_5, .inl (d_5, 10, .inl (fun _ => 0))), (q_6, .inl (d_6, 10, .inl (fun _ => 0))), (q_7, .inl (d_7, 40, .inl (fun _ => 0))), (q_8, .inl (d_8, 40, .inl (fun _ => 0))), (q_9, .inl (d_9, 40, .inl (fun _ => 0)))] H := hP
  have hD : va_D A [(h, .inr (0, [.int 0, .ref q_0, .ref q_1, .ref q_2, .ref q_3, .int 0, .int 0, .ref q_4, .ref q_5, .ref q_6, .int 0, .ref q_7, .ref q_8, .null])), (q_0, .inl (d_0, 4, .inl (fun _ => 0))), (q_1, .inl (d_1, 4, .inl (fun _ => 0))), (q_2, .inl (d_2, 4, .inl (fun _ => 0))), (q_3, .inl (d_3, 4, .inl (fun _ => 0))), (q_4, .inl (d_4, 10, .inl (fun _ => 0))), (q_5, .inl (d_5, 10, .inl (fun _ => 0))), (q_6, .inl (d_6, 10, .inl (fun _ => 0))), (q_7, .inl (d_7, 40, .inl (fun _ => 0))), (q_8, .inl (d_8, 40, .inl (fun _ => 0))), (q_9, .inl (d_9, 40, .inl (fun _ => 0)))] := hD
  have hK : va_K D vwCl [(d_0, .int), (d_1, .int), (d_2, .int), (d_3, .boolean), (d_4, .int), (d_5, .int), (d_6, .int), (d_7, .int), (d_8, .int), (d_9, .int)] s := hK
  refine W.widen (k := 10) (n := 166) (Nat.le_refl _) (Nat.le_refl _) ?_
  refine va_putF (D := D) (ci := 0) (v := .ref q_9) (ty := .array .int) (C := RX0) (T := TX0) (N := 14) hx hb hts in_X0 tyX0 tyX0_ok nmX0 hown hK hP hD hS 0 rfl rfl 13 (by decide) (hts _ q41) (fun _ h9 => h9) rfl hin rfl (by decide +kernel) rfl rfl (Nat.le_of_ble_eq_true rfl) dX0_init_77 (fun H locs hP hD hS => ?_)
  have hP : va_P D vwCl [(h, .inr (0, [.int 0, .ref q_0, .ref q_1, .ref q_2, .ref q_3, .int 0, .int 0, .ref q_4, .ref q_5, .ref q_6, .int 0, .ref q_7, .ref q_8, .ref q_9])), (q_0, .inl (d_0, 4, .inl (fun _ => 0))), (q_1, .inl (d_1, 4, .inl (fun _ => 0))), (q_2, .inl (d_2, 4, .inl (fun _ => 0))), (q_3, .inl (d_3, 4, .inl (fun _ => 0))), (q_4, .inl (d_4, 10, .inl (fun _ => 0))), (q_5, .inl (d_5, 10, .inl (fun _ => 0))), (q_6, .inl (d_6, 10, .inl (fun _ => 0))), (q_7, .inl (d_7, 40, .inl (fun _ => 0))), (q_8, .inl (d_8, 40, .inl (fun _ => 0))), (q_9, .inl (d_9, 40, .inl (fun _ => 0)))] H := hP
  have hD : va_D A [(h, .inr (0, [.int 0, .ref q_0, .ref q_1, .ref q_2, .ref q_3, .int 0, .int 0, .ref q_4, .ref q_5, .ref q_6, .int 0, .ref q_7, .ref q_8, .ref q_9])), (q_0, .inl (d_0, 4, .inl (fun _ => 0))), (q_1, .inl (d_1, 4, .inl (fun _ => 0))), (q_2, .inl (d_2, 4, .inl (fun _ => 0))), (q_3, .inl (d_3, 4, .inl (fun _ => 0))), (q_4, .inl (d_4, 10, .inl (fun _ => 0))), (q_5, .inl (d_5, 10, .inl (fun _ => 0))), (q_6, .inl (d_6, 10, .inl (fun _ => 0))), (q_7, .inl (d_7, 40, .inl (fun _ => 0))), (q_8, .inl (d_8, 40, .inl (fun _ => 0))), (q_9, .inl (d_9, 40, .inl (fun _ => 0)))] := hD
  refine lv_aload_n hx hb dX0_init_80 rfl (lv_at hl 0 rfl) ?_
  refine lv_iconst (v := 1) hx hb dX0_init_81 (by decide) ?_
  refine va_put (D := D) (ci := 0) (v := .int 1) (ty := .int) (C := RX0) (T := TX0) (N := 14) hx hb hts in_X0 tyX0 tyX0_ok nmX0 hown hK hP hD hS 0 rfl rfl 0 (by decide) (hts _ q28) (fun _ h9 => h9) rfl (by decide +kernel) rfl rfl (Nat.le_of_ble_eq_true rfl) dX0_init_82 (fun H locs hP hD hS => ?_)
  have hP : va_P D vwCl [(h, .inr (0, [.int 1, .ref q_0, .ref q_1, .ref q_2, .ref q_3, .int 0, .int 0, .ref q_4, .ref q_5, .ref q_6, .int 0, .ref q_7, .ref q_8, .ref q_9])), (q_0, .inl (d_0, 4, .inl (fun _ => 0))), (q_1, .inl (d_1, 4, .inl (fun _ => 0))), (q_2, .inl (d_2, 4, .inl (fun _ => 0))), (q_3, .inl (d_3, 4, .inl (fun _ => 0))), (q_4, .inl (d_4, 10, .inl (fun _ => 0))), (q_5, .inl (d_5, 10, .inl (fun _ => 0))), (q_6, .inl (d_6, 10, .inl (fun _ => 0))), (q_7, .inl (d_7, 40, .inl (fun _ => 0))), (q_8, .inl (d_8, 40, .inl (fun _ => 0))), (q_9, .inl (d_9, 40, .inl (fun _ => 0)))] H := hP
  have hD : va_D A [(h, .inr (0, [.int 1, .ref q_0, .ref q_1, .ref q_2, .ref q_3, .int 0, .int 0, .ref q_4, .ref q_5, .ref q_6, .int 0, .ref q_7, .ref q_8, .ref q_9])), (q_0, .inl (d_0, 4, .inl (fun _ => 0))), (q_1, .inl (d_1, 4, .inl (fun _ => 0))), (q_2, .inl (d_2, 4, .inl (fun _ => 0))), (q_3, .inl (d_3, 4, .inl (fun _ => 0))), (q_4, .inl (d_4, 10, .inl (fun _ => 0))), (q_5, .inl (d_5, 10, .inl (fun _ => 0))), (q_6, .inl (d_6, 10, .inl (fun _ => 0))), (q_7, .inl (d_7, 40, .inl (fun _ => 0))), (q_8, .inl (d_8, 40, .inl (fun _ => 0))), (q_9, .inl (d_9, 40, .inl (fun _ => 0)))] := hD
  refine lv_aload_n hx hb dX0_init_85 rfl (lv_at hl 0 rfl) ?_
  refine va_get (D := D) (ci := 0) (v := .ref q_0) (C := RX0) (T := TX0) (N := 14) hx hb hts in_X0 hown hK hP 0 rfl rfl 1 (by decide) (hts _ q29) (fun _ h9 => h9) rfl dX0_init_86 ?_
  refine lv_iconst (v := 0) hx hb dX0_init_89 (by decide) ?_
  refine lv_iconst (v := 4) hx hb dX0_init_90 (by decide) ?_
  refine va_iast hx hb hK hP hD hS 1 0 rfl rfl (i := 0) (show vp_in (nI 0) 4 from vp_in_nI (by decide) (by decide)) dX0_init_91 (fun H locs hP hD hS => ?_)
  have hP : va_P D vwCl [(h, .inr (0, [.int 1, .ref q_0, .ref q_1, .ref q_2, .ref q_3, .int 0, .int 0, .ref q_4, .ref q_5, .ref q_6, .int 0, .ref q_7, .ref q_8, .ref q_9])), (q_0, .inl (d_0, 4, .inl (upd (fun _ => 0) 0 4))), (q_1, .inl (d_1, 4, .inl (fun _ => 0))), (q_2, .inl (d_2, 4, .inl (fun _ => 0))), (q_3, .inl (d_3, 4, .inl (fun _ => 0))), (q_4, .inl (d_4, 10, .inl (fun _ => 0))), (q_5, .inl (d_5, 10, .inl (fun _ => 0))), (q_6, .inl (d_6, 10, .inl (fun _ => 0))), (q_7, .inl (d_7, 40, .inl (fun _ => 0))), (q_8, .inl (d_8, 40, .inl (fun _ => 0))), (q_9, .inl (d_9, 40, .inl (fun _ => 0)))] H := hP
  have hD : va_D A [(h, .inr (0, [.int 1, .ref q_0, .ref q_1, .ref q_2, .ref q_3, .int 0, .int 0, .ref q_4, .ref q_5, .ref q_6, .int 0, .ref q_7, .ref q_8, .ref q_9])), (q_0, .inl (d_0, 4, .inl (upd (fun _ => 0) 0 4))), (q_1, .inl (d_1, 4, .inl (fun _ => 0))), (q_2, .inl (d_2, 4, .inl (fun _ => 0))), (q_3, .inl (d_3, 4, .inl (fun _ => 0))), (q_4, .inl (d_4, 10, .inl (fun _ => 0))), (q_5, .inl (d_5, 10, .inl (fun _ => 0))), (q_6, .inl (d_6, 10, .inl (fun _ => 0))), (q_7, .inl (d_7, 40, .inl (fun _ => 0))), (q_8, .inl (d_8, 40, .inl (fun _ => 0))), (q_9, .inl (d_9, 40, .inl (fun _ => 0)))] := hD
  refine lv_aload_n hx hb dX0_init_92 rfl (lv_at hl 0 rfl) ?_
  refine lv_bipush (v := 10) hx hb dX0_init_93 (by decide) ?_
  refine va_put (D := D) (ci := 0) (v := .int 10) (ty := .int) (C := RX0) (T := TX0) (N := 14) hx hb hts in_X0 tyX0 tyX0_ok nmX0 hown hK hP hD hS 0 rfl rfl 5 (by decide) (hts _ q33) (fun _ h9 => h9) rfl (by decide +kernel) rfl rfl (Nat.le_of_ble_eq_true rfl) dX0_init_95 (fun H locs hP hD hS => ?_)
  have hP : va_P D vwCl [(h, .inr (0, [.int 1, .ref q_0, .ref q_1, .ref q_2, .ref q_3, .int 10, .int 0, .ref q_4, .ref q_5, .ref q_6, .int 0, .ref q_7, .ref q_8, .ref q_9])), (q_0, .inl (d_0, 4, .inl (upd (fun _ => 0) 0 4))), (q_1, .inl (d_1, 4, .inl (fun _ => 0))), (q_2, .inl (d_2, 4, .inl (fun _ => 0))), (q_3, .inl (d_3, 4, .inl (fun _ => 0))), (q_4, .inl (d_4, 10, .inl (fun _ => 0))), (q_5, .inl (d_5, 10, .inl (fun _ => 0))), (q_6, .inl (d_6, 10, .inl (fun _ => 0))), (q_7, .inl (d_7, 40, .inl (fun _ => 0))), (q_8, .inl (d_8, 40, .inl (fun _ => 0))), (q_9, .inl (d_9, 40, .inl (fun _ => 0)))] H := hP
  have hD : va_D A [(h, .inr (0, [.int 1, .ref q_0, .ref q_1, .ref q_2, .ref q_3, .int 10, .int 0, .ref q_4, .ref q_5, .ref q_6, .int 0, .ref q_7, .ref q_8, .ref q_9])), (q_0, .inl (d_0, 4, .inl (upd (fun _ => 0) 0 4))), (q_1, .inl (d_1, 4, .inl (fun _ => 0))), (q_2, .inl (d_2, 4, .inl (fun _ => 0))), (q_3, .inl (d_3, 4, .inl (fun _ => 0))), (q_4, .inl (d_4, 10, .inl (fun _ => 0))), (q_5, .inl (d_5, 10, .inl (fun _ => 0))), (q_6, .inl (d_6, 10, .inl (fun _ => 0))), (q_7, .inl (d_7, 40, .inl (fun _ => 0))), (q_8, .inl (d_8, 40, .inl (fun _ => 0))), (q_9, .inl (d_9, 40, .inl (fun _ => 0)))] := hD
  have hP9 := hP.sub (ws' := (fun u : tyAD => wX h u.1 u.2 u00 (nI 1) 10 (nI 0) 0 (fun _ => 0) (fun _ => 0) (fun _ => 0)) (fun k => match k with | 0 => q_0 | 1 => q_1 | 2 => q_2 | 3 => q_3 | 4 => q_4 | 5 => q_5 | 6 => q_6 | 7 => q_7 | 8 => q_8 | _ => q_9, fun k => match k with | 0 => d_0 | 1 => d_1 | 2 => d_2 | 3 => d_3 | 4 => d_4 | 5 => d_5 | 6 => d_6 | 7 => d_7 | 8 => d_8 | _ => d_9)) [0, 1, 2, 3, 4, 5, 6, 7, 8, 9, 10] rfl
  have hD9 := hD.sub (ws' := (fun u : tyAD => wX h u.1 u.2 u00 (nI 1) 10 (nI 0) 0 (fun _ => 0) (fun _ => 0) (fun _ => 0)) (fun k => match k with | 0 => q_0 | 1 => q_1 | 2 => q_2 | 3 => q_3 | 4 => q_4 | 5 => q_5 | 6 => q_6 | 7 => q_7 | 8 => q_8 | _ => q_9, fun k => match k with | 0 => d_0 | 1 => d_1 | 2 => d_2 | 3 => d_3 | 4 => d_4 | 5 => d_5 | 6 => d_6 | 7 => d_7 | 8 => d_8 | _ => d_9)) [0, 1, 2, 3, 4, 5, 6, 7, 8, 9, 10] (by decide) rfl
  have hK9 := hK.sub (tys' := tX (fun k => match k with | 0 => d_0 | 1 => d_1 | 2 => d_2 | 3 => d_3 | 4 => d_4 | 5 => d_5 | 6 => d_6 | 7 => d_7 | 8 => d_8 | _ => d_9)) [0, 1, 2, 3, 4, 5, 6, 7, 8, 9] rfl
  exact W.vret hx hb hr (fun t ht hW => ⟨⟨(fun k => match k with | 0 => q_0 | 1 => q_1 | 2 => q_2 | 3 => q_3 | 4 => q_4 | 5 => q_5 | 6 => q_6 | 7 => q_7 | 8 => q_8 | _ => q_9, fun k => match k with | 0 => d_0 | 1 => d_1 | 2 => d_2 | 3 => d_3 | 4 => d_4 | 5 => d_5 | 6 => d_6 | 7 => d_7 | 8 => d_8 | _ => d_9), rfl, trivial, by rw [ht]; exact hP9, va_K.moved hW.alike hK9, hD9⟩, hS.F ht⟩) hS.2.2 dX0_init_98
set_option maxHeartbeats 4000000 in
set_option maxRecDepth 100000 in
theorem mM_init (l : Launch) (D : va_G) (h sz : Nat) : Met l yX1_init (ws_ yX1_init cX1_init 1 none) ({ frames := 1, cells := 9, slots := 54, locals := 12 }) (va_Pc [.ref h] (fun U => U.heap.size = sz ∧ va_P D vwCl [(h, .inr (1, [.null, .null, .null, .int 0, .null, .null, .null, .null, .int 0, .int 0, .null, .null]))] U.heap ∧ va_K D vwCl [] U ∧ va_D (fun _ => True) [(h, .inr (1, [.null, .null, .null, .int 0, .null, .null, .null, .null, .int 0, .int 0, .null, .null]))])) (va_Qv (fun (_ : tyAD) => True) (fun u t => va_P D vwCl (wM h u.1 u.2 u00 (nI 1) 10 (nI 0) (fun _ => 0) (fun _ => 0)) t.heap ∧ va_K D vwCl (tM u.2) t ∧ va_D (va_A [(h, .inr (1, [.null, .null, .null, .int 0, .null, .null, .null, .null, .int 0, .int 0, .null, .null]))] sz) (wM h u.1 u.2 u00 (nI 1) 10 (nI 0) (fun _ => 0) (fun _ => 0))) (va_A [(h, .inr (1, [.null, .null, .null, .int 0, .null, .null, .null, .null, .int 0, .int 0, .null, .null]))] sz)) 9 54 (va_A [(h, .inr (1, [.null, .null, .null, .int 0, .null, .null, .null, .null, .int 0, .int 0, .null, .null]))] sz) := by
  refine Met.ofW (cc := cX1_init) (maxL := 1) (ret := none) (by decide) rfl ?_
  intro p e s m args below meth c s₁ B hml hv
  obtain ⟨rfl, hsz, hP, hK, hD0⟩ := hv
  have hx := B.exec
  have hb := B.bytes
  have hr := B.returns
  have hts := atoms_spec (ws := ws_ yX1_init cX1_init 1 none) B.pre
  have hts : ∀ w ∈ lw_all, w.before _ s = true := fun w h => hts w (List.mem_cons_of_mem _ h)
  have hown : s.vm.findClass RX1 = some m.cls := findClass_of_methodNamed B.named
  have hlocks := B.notSynchronized
  have hin : meth.name = "<init>" := (name_of_methodNamed B.named B.method).1
  subst hsz
  have hD := hD0.self (sz := s.heap.size)
  generalize hAe : va_A [(h, .inr (1, [.null, .null, .null, .int 0, .null, .null, .null, .null, .int 0, .int 0, .null, .null]))] s.heap.size = A at hD ⊢
  have hA : ∀ q : Nat, s.heap.size ≤ q → A q := fun q h => by rw [← hAe]; exact Or.inr h
  have hS : va_S A s.heap s.heap [] := va_S.rf
  have hl := lv_entry ([.ref h]) (n := 1) (Nat.le_of_ble_eq_true rfl)
  rw [lg_entry_eq]
  generalize (lg_sl ([.ref h]) ++ List.replicate (1 - (lg_sl ([.ref h])).length) Slot.unset).toArray = ls at hl ⊢
  have hl : lv_has ls 1 [(0, .ref h)] := hl
  refine lv_aload_n hx hb dX1_init_0 rfl (lv_at hl 0 rfl) ?_
  refine W.objInit hx hb hown (hts _ q178) (hts _ q26) (hts _ q27) rfl (by rw [hml]; exact hl.1) rfl dX1_init_1 (Nat.le_of_ble_eq_true rfl) (Nat.le_of_ble_eq_true rfl) ?_
  refine W.eq (g2 := F0 m 4 ls []) rfl ?_
  refine lv_aload_n hx hb dX1_init_4 rfl (lv_at hl 0 rfl) ?_
  refine lv_bipush (v := 10) hx hb dX1_init_5 (by decide) ?_
  refine va_newa (atype := .int) (ty := .int) (N' := 10) (a0 := (10, .inl (fun _ => 0))) hx hb (hts _ q71) rfl hK hP hD hS hA (fun _ => rfl) (by decide) (by decide) (by decide) (Nat.le_of_ble_eq_true rfl) (Nat.le_of_ble_eq_true rfl) dX1_init_7 (fun q_0 d_0 H hK hP hD hS => ?_)
  have hP : va_P D vwCl [(h, .inr (1, [.null, .null, .null, .int 0, .null, .null, .null, .null, .int 0, .int 0, .null, .null])), (q_0, .inl (d_0, 10, .inl (fun _ => 0)))] H := hP
  have hD : va_D A [(h, .inr (1, [.null, .null, .null, .int 0, .null, .null, .null, .null, .int 0, .int 0, .null, .null])), (q_0, .inl (d_0, 10, .inl (fun _ => 0)))] := hD
  have hK : va_K D vwCl [(d_0, .int)] s := hK
  refine W.widen (k := 1) (n := 10) (Nat.le_refl _) (Nat.le_refl _) ?_
  refine va_putF (D := D) (ci := 1) (v := .ref q_0) (ty := .array .int) (C := RX1) (T := TX1) (N := 12) hx hb hts in_X1 tyX1 tyX1_ok nmX1 hown hK hP hD hS 0 rfl rfl 0 (by decide) (hts _ q179) (fun _ h9 => h9) rfl hin rfl (by decide +kernel) rfl rfl (Nat.le_of_ble_eq_true rfl) dX1_init_9 (fun H locs hP hD hS => ?_)
  have hP : va_P D vwCl [(h, .inr (1, [.ref q_0, .null, .null, .int 0, .null, .null, .null, .null, .int 0, .int 0, .null, .null])), (q_0, .inl (d_0, 10, .inl (fun _ => 0)))] H := hP
  have hD : va_D A [(h, .inr (1, [.ref q_0, .null, .null, .int 0, .null, .null, .null, .null, .int 0, .int 0, .null, .null])), (q_0, .inl (d_0, 10, .inl (fun _ => 0)))] := hD
  refine lv_aload_n hx hb dX1_init_12 rfl (lv_at hl 0 rfl) ?_
  refine lv_bipush (v := 10) hx hb dX1_init_13 (by decide) ?_
  refine va_newa (atype := .int) (ty := .int) (N' := 10) (a0 := (10, .inl (fun _ => 0))) hx hb (hts _ q71) rfl hK hP hD hS hA (fun _ => rfl) (by decide) (by decide) (by decide) (Nat.le_of_ble_eq_true rfl) (Nat.le_of_ble_eq_true rfl) dX1_init_15 (fun q_1 d_1 H hK hP hD hS => ?_)
  have hP : va_P D vwCl [(h, .inr (1, [.ref q_0, .null, .null, .int 0, .null, .null, .null, .null, .int 0, .int 0, .null, .null])), (q_0, .inl (d_0, 10, .inl (fun _ => 0))), (q_1, .inl (d_1, 10, .inl (fun _ => 0)))] H := hP
  have hD : va_D A [(h, .inr (1, [.ref q_0, .null, .null, .int 0, .null, .null, .null, .null, .int 0, .int 0, .null, .null])), (q_0, .inl (d_0, 10, .inl (fun _ => 0))), (q_1, .inl (d_1, 10, .inl (fun _ => 0)))] := hD
  have hK : va_K D vwCl [(d_0, .int), (d_1, .int)] s := hK
  refine W.widen (k := 2) (n := 20) (Nat.le_refl _) (Nat.le_refl _) ?_
  refine va_putF (D := D) (ci := 1) (v := .ref q_1) (ty := .array .int) (C := RX1) (T := TX1) (N := 12) hx hb hts in_X1 tyX1 tyX1_ok nmX1 hown hK hP hD hS 0 rfl rfl 1 (by decide) (hts _ q180) (fun _ h9 => h9) rfl hin rfl (by decide +kernel) rfl rfl (Nat.le_of_ble_eq_true rfl) dX1_init_17 (fun H locs hP hD hS => ?_)
  have hP : va_P D vwCl [(h, .inr (1, [.ref q_0, .ref q_1, .null, .int 0, .null, .null, .null, .null, .int 0, .int 0, .null, .null])), (q_0, .inl (d_0, 10, .inl (fun _ => 0))), (q_1, .inl (d_1, 10, .inl (fun _ => 0)))] H := hP
  have hD : va_D A [(h, .inr (1, [.ref q_0, .ref q_1, .null, .int 0, .null, .null, .null, .null, .int 0, .int 0, .null, .null])), (q_0, .inl (d_0, 10, .inl (fun _ => 0))), (q_1, .inl (d_1, 10, .inl (fun _ => 0)))] := hD
  refine lv_aload_n hx hb dX1_init_20 rfl (lv_at hl 0 rfl) ?_
  refine lv_bipush (v := 10) hx hb dX1_init_21 (by decide) ?_
  refine va_newa (atype := .int) (ty := .int) (N' := 10) (a0 := (10, .inl (fun _ => 0))) hx hb (hts _ q71) rfl hK hP hD hS hA (fun _ => rfl) (by decide) (by decide) (by decide) (Nat.le_of_ble_eq_true rfl) (Nat.le_of_ble_eq_true rfl) dX1_init_23 (fun q_2 d_2 H hK hP hD hS => ?_)
  have hP : va_P D vwCl [(h, .inr (1, [.ref q_0, .ref q_1, .null, .int 0, .null, .null, .null, .null, .int 0, .int 0, .null, .null])), (q_0, .inl (d_0, 10, .inl (fun _ => 0))), (q_1, .inl (d_1, 10, .inl (fun _ => 0))), (q_2, .inl (d_2, 10, .inl (fun _ => 0)))] H := hP
  have hD : va_D A [(h, .inr (1, [.ref q_0, .ref q_1, .null, .int 0, .null, .null, .null, .null, .int 0, .int 0, .null, .null])), (q_0, .inl (d_0, 10, .inl (fun _ => 0))), (q_1, .inl (d_1, 10, .inl (fun _ => 0))), (q_2, .inl (d_2, 10, .inl (fun _ => 0)))] := hD
  have hK : va_K D vwCl [(d_0, .int), (d_1, .int), (d_2, .int)] s := hK
  refine W.widen (k := 3) (n := 30) (Nat.le_refl _) (Nat.le_refl _) ?_
  refine va_putF (D := D) (ci := 1) (v := .ref q_2) (ty := .array .int) (C := RX1) (T := TX1) (N := 12) hx hb hts in_X1 tyX1 tyX1_ok nmX1 hown hK hP hD hS 0 rfl rfl 2 (by decide) (hts _ q181) (fun _ h9 => h9) rfl hin rfl (by decide +kernel) rfl rfl (Nat.le_of_ble_eq_true rfl) dX1_init_25 (fun H locs hP hD hS => ?_)
  have hP : va_P D vwCl [(h, .inr (1, [.ref q_0, .ref q_1, .ref q_2, .int 0, .null, .null, .null, .null, .int 0, .int 0, .null, .null])), (q_0, .inl (d_0, 10, .inl (fun _ => 0))), (q_1, .inl (d_1, 10, .inl (fun _ => 0))), (q_2, .inl (d_2, 10, .inl (fun _ => 0)))] H := hP
  have hD : va_D A [(h, .inr (1, [.ref q_0, .ref q_1, .ref q_2, .int 0, .null, .null, .null, .null, .int 0, .int 0, .null, .null])), (q_0, .inl (d_0, 10, .inl (fun _ => 0))), (q_1, .inl (d_1, 10, .inl (fun _ => 0))), (q_2, .inl (d_2, 10, .inl (fun _ => 0)))] := hD
  refine lv_aload_n hx hb dX1_init_28 rfl (lv_at hl 0 rfl) ?_
  refine lv_iconst (v := 4) hx hb dX1_init_29 (by decide) ?_
  refine va_newa (atype := .int) (ty := .int) (N' := 4) (a0 := (4, .inl (fun _ => 0))) hx hb (hts _ q71) rfl hK hP hD hS hA (fun _ => rfl) (by decide) (by decide) (by decide) (Nat.le_of_ble_eq_true rfl) (Nat.le_of_ble_eq_true rfl) dX1_init_30 (fun q_3 d_3 H hK hP hD hS => ?_)
  have hP : va_P D vwCl [(h, .inr (1, [.ref q_0, .ref q_1, .ref q_2, .int 0, .null, .null, .null, .null, .int 0, .int 0, .null, .null])), (q_0, .inl (d_0, 10, .inl (fun _ => 0))), (q_1, .inl (d_1, 10, .inl (fun _ => 0))), (q_2, .inl (d_2, 10, .inl (fun _ => 0))), (q_3, .inl (d_3, 4, .inl (fun _ => 0)))] H := hP
  have hD : va_D A [(h, .inr (1, [.ref q_0, .ref q_1, .ref q_2, .int 0, .null, .null, .null, .null, .int 0, .int 0, .null, .null])), (q_0, .inl (d_0, 10, .inl (fun _ => 0))), (q_1, .inl (d_1, 10, .inl (fun _ => 0))), (q_2, .inl (d_2, 10, .inl (fun _ => 0))), (q_3, .inl (d_3, 4, .inl (fun _ => 0)))] := hD
  have hK : va_K D vwCl [(d_0, .int), (d_1, .int), (d_2, .int), (d_3, .int)] s := hK
  refine W.widen (k := 4) (n := 34) (Nat.le_refl _) (Nat.le_refl _) ?_
  refine va_putF (D := D) (ci := 1) (v := .ref q_3) (ty := .array .int) (C := RX1) (T := TX1) (N := 12) hx hb hts in_X1 tyX1 tyX1_ok nmX1 hown hK hP hD hS 0 rfl rfl 4 (by decide) (hts _ q183) (fun _ h9 => h9) rfl hin rfl (by decide +kernel) rfl rfl (Nat.le_of_ble_eq_true rfl) dX1_init_32 (fun H locs hP hD hS => ?_)
  have hP : va_P D vwCl [(h, .inr (1, [.ref q_0, .ref q_1, .ref q_2, .int 0, .ref q_3, .null, .null, .null, .int 0, .int 0, .null, .null])), (q_0, .inl (d_0, 10, .inl (fun _ => 0))), (q_1, .inl (d_1, 10, .inl (fun _ => 0))), (q_2, .inl (d_2, 10, .inl (fun _ => 0))), (q_3, .inl (d_3, 4, .inl (fun _ => 0)))] H := hP
  have hD : va_D A [(h, .inr (1, [.ref q_0, .ref q_1, .ref q_2, .int 0, .ref q_3, .null, .null, .null, .int 0, .int 0, .null, .null])), (q_0, .inl (d_0, 10, .inl (fun _ => 0))), (q_1, .inl (d_1, 10, .inl (fun _ => 0))), (q_2, .inl (d_2, 10, .inl (fun _ => 0))), (q_3, .inl (d_3, 4, .inl (fun _ => 0)))] := hD
  refine lv_aload_n hx hb dX1_init_35 rfl (lv_at hl 0 rfl) ?_
  refine lv_iconst (v := 4) hx hb dX1_init_36 (by decide) ?_
  refine va_newa (atype := .int) (ty := .int) (N' := 4) (a0 := (4, .inl (fun _ => 0))) hx hb (hts _ q71) rfl hK hP hD hS hA (fun _ => rfl) (by decide) (by decide) (by decide) (Nat.le_of_ble_eq_true rfl) (Nat.le_of_ble_eq_true rfl) dX1_init_37 (fun q_4 d_4 H hK hP hD hS => ?_)
  have hP : va_P D vwCl [(h, .inr (1, [.ref q_0, .ref q_1, .ref q_2, .int 0, .ref q_3, .null, .null, .null, .int 0, .int 0, .null, .null])), (q_0, .inl (d_0, 10, .inl (fun _ => 0))), (q_1, .inl (d_1, 10, .inl (fun _ => 0))), (q_2, .inl (d_2, 10, .inl (fun _ => 0))), (q_3, .inl (d_3, 4, .inl (fun _ => 0))), (q_4, .inl (d_4, 4, .inl (fun _ => 0)))] H := hP
  have hD : va_D A [(h, .inr (1, [.ref q_0, .ref q_1, .ref q_2, .int 0, .ref q_3, .null, .null, .null, .int 0, .int 0, .null, .null])), (q_0, .inl (d_0, 10, .inl (fun _ => 0))), (q_1, .inl (d_1, 10, .inl (fun _ => 0))), (q_2, .inl (d_2, 10, .inl (fun _ => 0))), (q_3, .inl (d_3, 4, .inl (fun _ => 0))), (q_4, .inl (d_4, 4, .inl (fun _ => 0)))] := hD
  have hK : va_K D vwCl [(d_0, .int), (d_1, .int), (d_2, .int), (d_3, .int), (d_4, .int)] s := hK
  refine W.widen (k := 5) (n := 38) (Nat.le_refl _) (Nat.le_refl _) ?_
  refine va_putF (D := D) (ci := 1) (v := .ref q_4) (ty := .array .int) (C := RX1) (T := TX1) (N := 12) hx hb hts in_X1 tyX1 tyX1_ok nmX1 hown hK hP hD hS 0 rfl rfl 5 (by decide) (hts _ q184) (fun _ h9 => h9) rfl hin rfl (by decide +kernel) rfl rfl (Nat.le_of_ble_eq_true rfl) dX1_init_39 (fun H locs hP hD hS => ?_)
  have hP : va_P D vwCl [(h, .inr (1, [.ref q_0, .ref q_1, .ref q_2, .int 0, .ref q_3, .ref q_4, .null, .null, .int 0, .int 0, .null, .null])), (q_0, .inl (d_0, 10, .inl (fun _ => 0))), (q_1, .inl (d_1, 10, .inl (fun _ => 0))), (q_2, .inl (d_2, 10, .inl (fun _ => 0))), (q_3, .inl (d_3, 4, .inl (fun _ => 0))), (q_4, .inl (d_4, 4, .inl (fun _ => 0)))] H := hP
  have hD : va_D A [(h, .inr (1, [.ref q_0, .ref q_1, .ref q_2, .int 0, .ref q_3, .ref q_4, .null, .null, .int 0, .int 0, .null, .null])), (q_0, .inl (d_0, 10, .inl (fun _ => 0))), (q_1, .inl (d_1, 10, .inl (fun _ => 0))), (q_2, .inl (d_2, 10, .inl (fun _ => 0))), (q_3, .inl (d_3, 4, .inl (fun _ => 0))), (q_4, .inl (d_4, 4, .inl (fun _ => 0)))] := hD
  refine lv_aload_n hx hb dX1_init_42 rfl (lv_at hl 0 rfl) ?_
  refine lv_iconst (v := 4) hx hb dX1_init_43 (by decide) ?_
  refine va_newa (atype := .int) (ty := .int) (N' := 4) (a0 := (4, .inl (fun _ => 0))) hx hb (hts _ q71) rfl hK hP hD hS hA (fun _ => rfl) (by decide) (by decide) (by decide) (Nat.le_of_ble_eq_true rfl) (Nat.le_of_ble_eq_true rfl) dX1_init_44 (fun q_5 d_5 H hK hP hD hS => ?_)
  have hP : va_P D vwCl [(h, .inr (1, [.ref q_0, .ref q_1, .ref q_2, .int 0, .ref q_3, .ref q_4, .null, .null, .int 0, .int 0, .null, .null])), (q_0, .inl (d_0, 10, .inl (fun _ => 0))), (q_1, .inl (d_1, 10, .inl (fun _ => 0))), (q_2, .inl (d_2, 10, .inl (fun _ => 0))), (q_3, .inl (d_3, 4, .inl (fun _ => 0))), (q_4, .inl (d_4, 4, .inl (fun _ => 0))), (q_5, .inl (d_5, 4, .inl (fun _ => 0)))] H := hP
  have hD : va_D A [(h, .inr (1, [.ref q_0, .ref q_1, .ref q_2, .int 0, .ref q_3, .ref q_4, .null, .null, .int 0, .int 0, .null, .null])), (q_0, .inl (d_0, 10, .inl (fun _ => 0))), (q_1, .inl (d_1, 10, .inl (fun _ => 0))), (q_2, .inl (d_2, 10, .inl (fun _ => 0))), (q_3, .inl (d_3, 4, .inl (fun _ => 0))), (q_4, .inl (d_4, 4, .inl (fun _ => 0))), (q_5, .inl (d_5, 4, .inl (fun _ => 0)))] := hD
  have hK : va_K D vwCl [(d_0, .int), (d_1, .int), (d_2, .int), (d_3, .int), (d_4, .int), (d_5, .int)] s := hK
  refine W.widen (k := 6) (n := 42) (Nat.le_refl _) (Nat.le_refl _) ?_
  refine va_putF (D := D) (ci := 1) (v := .ref q_5) (ty := .array .int) (C := RX1) (T := TX1) (N := 12) hx hb hts in_X1 tyX1 tyX1_ok nmX1 hown hK hP hD hS 0 rfl rfl 6 (by decide) (hts _ q185) (fun _ h9 => h9) rfl hin rfl (by decide +kernel) rfl rfl (Nat.le_of_ble_eq_true rfl) dX1_init_46 (fun H locs hP hD hS => ?_)
  have hP : va_P D vwCl [(h, .inr (1, [.ref q_0, .ref q_1, .ref q_2, .int 0, .ref q_3, .ref q_4, .ref q_5, .null, .int 0, .int 0, .null, .null])), (q_0, .inl (d_0, 10, .inl (fun _ => 0))), (q_1, .inl (d_1, 10, .inl (fun _ => 0))), (q_2, .inl (d_2, 10, .inl (fun _ => 0))), (q_3, .inl (d_3, 4, .inl (fun _ => 0))), (q_4, .inl (d_4, 4, .inl (fun _ => 0))), (q_5, .inl (d_5, 4, .inl (fun _ => 0)))] H := hP
  have hD : va_D A [(h, .inr (1, [.ref q_0, .ref q_1, .ref q_2, .int 0, .ref q_3, .ref q_4, .ref q_5, .null, .int 0, .int 0, .null, .null])), (q_0, .inl (d_0, 10, .inl (fun _ => 0))), (q_1, .inl (d_1, 10, .inl (fun _ => 0))), (q_2, .inl (d_2, 10, .inl (fun _ => 0))), (q_3, .inl (d_3, 4, .inl (fun _ => 0))), (q_4, .inl (d_4, 4, .inl (fun _ => 0))), (q_5, .inl (d_5, 4, .inl (fun _ => 0)))] := hD
  refine lv_aload_n hx hb dX1_init_49 rfl (lv_at hl 0 rfl) ?_
  refine lv_iconst (v := 4) hx hb dX1_init_50 (by decide) ?_
  refine va_newa (atype := .boolean) (ty := .boolean) (N' := 4) (a0 := (4, .inl (fun _ => 0))) hx hb (hts _ q72) rfl hK hP hD hS hA (fun _ => rfl) (by decide) (by decide) (by decide) (Nat.le_of_ble_eq_true rfl) (Nat.le_of_ble_eq_true rfl) dX1_init_51 (fun q_6 d_6 H hK hP hD hS => ?_)
  have hP : va_P D vwCl [(h, .inr (1, [.ref q_0, .ref q_1, .ref q_2, .int 0, .ref q_3, .ref q_4, .ref q_5, .null, .int 0, .int 0, .null, .null])), (q_0, .inl (d_0, 10, .inl (fun _ => 0))), (q_1, .inl (d_1, 10, .inl (fun _ => 0))), (q_2, .inl (d_2, 10, .inl (fun _ => 0))), (q_3, .inl (d_3, 4, .inl (fun _ => 0))), (q_4, .inl (d_4, 4, .inl (fun _ => 0))), (q_5, .inl (d_5, 4, .inl (fun _ => 0))), (q_6, .inl (d_6, 4, .inl (fun _ => 0)))] H := hP
  have hD : va_D A [(h, .inr (1, [.ref q_0, .ref q_1, .ref q_2, .int 0, .ref q_3, .ref q_4, .ref q_5, .null, .int 0, .int 0, .null, .null])), (q_0, .inl (d_0, 10, .inl (fun _ => 0))), (q_1, .inl (d_1, 10, .inl (fun _ => 0))), (q_2, .inl (d_2, 10, .inl (fun _ => 0))), (q_3, .inl (d_3, 4, .inl (fun _ => 0))), (q_4, .inl (d_4, 4, .inl (fun _ => 0))), (q_5, .inl (d_5, 4, .inl (fun _ => 0))), (q_6, .inl (d_6, 4, .inl (fun _ => 0)))] := hD
  have hK : va_K D vwCl [(d_0, .int), (d_1, .int), (d_2, .int), (d_3, .int), (d_4, .int), (d_5, .int), (d_6, .boolean)] s := hK
  refine W.widen (k := 7) (n := 46) (Nat.le_refl _) (Nat.le_refl _) ?_
  refine va_putF (D := D) (ci := 1) (v := .ref q_6) (ty := .array .boolean) (C := RX1) (T := TX1) (N := 12) hx hb hts in_X1 tyX1 tyX1_ok nmX1 hown hK hP hD hS 0 rfl rfl 7 (by decide) (hts _ q186) (fun _ h9 => h9) rfl hin rfl (by decide +kernel) rfl rfl (Nat.le_of_ble_eq_true rfl) dX1_init_53 (fun H locs hP hD hS => ?_)
  have hP : va_P D vwCl [(h, .inr (1, [.ref q_0, .ref q_1, .ref q_2, .int 0, .ref q_3, .ref q_4, .ref q_5, .ref q_6, .int 0, .int 0, .null, .null])), (q_0, .inl (d_0, 10, .inl (fun _ => 0))), (q_1, .inl (d_1, 10, .inl (fun _ => 0))), (q_2, .inl (d_2, 10, .inl (fun _ => 0))), (q_3, .inl (d_3, 4, .inl (fun _ => 0))), (q_4, .inl (d_4, 4, .inl (fun _ => 0))), (q_5, .inl (d_5, 4, .inl (fun _ => 0))), (q_6, .inl (d_6, 4, .inl (fun _ => 0)))] H := hP
  have hD : va_D A [(h, .inr (1, [.ref q_0, .ref q_1, .ref q_2, .int 0, .ref q_3, .ref q_4, .ref q_5, .ref q_6, .int 0, .int 0, .null, .null])), (q_0, .inl (d_0, 10, .inl (fun _ => 0))), (q_1, .inl (d_1, 10, .inl (fun _ => 0))), (q_2, .inl (d_2, 10, .inl (fun _ => 0))), (q_3, .inl (d_3, 4, .inl (fun _ => 0))), (q_4, .inl (d_4, 4, .inl (fun _ => 0))), (q_5, .inl (d_5, 4, .inl (fun _ => 0))), (q_6, .inl (d_6, 4, .inl (fun _ => 0)))] := hD
  refine lv_aload_n hx hb dX1_init_56 rfl (lv_at hl 0 rfl) ?_
  refine lv_iconst (v := 4) hx hb dX1_init_57 (by decide) ?_
  refine va_newa (atype := .int) (ty := .int) (N' := 4) (a0 := (4, .inl (fun _ => 0))) hx hb (hts _ q71) rfl hK hP hD hS hA (fun _ => rfl) (by decide) (by decide) (by decide) (Nat.le_of_ble_eq_true rfl) (Nat.le_of_ble_eq_true rfl) dX1_init_58 (fun q_7 d_7 H hK hP hD hS => ?_)
  have hP : va_P D vwCl [(h, .inr (1, [.ref q_0, .ref q_1, .ref q_2, .int 0, .ref q_3, .ref q_4, .ref q_5, .ref q_6, .int 0, .int 0, .null, .null])), (q_0, .inl (d_0, 10, .inl (fun _ => 0))), (q_1, .inl (d_1, 10, .inl (fun _ => 0))), (q_2, .inl (d_2, 10, .inl (fun _ => 0))), (q_3, .inl (d_3, 4, .inl (fun _ => 0))), (q_4, .inl (d_4, 4, .inl (fun _ => 0))), (q_5, .inl (d_5, 4, .inl (fun _ => 0))), (q_6, .inl (d_6, 4, .inl (fun _ => 0))), (q_7, .inl (d_7, 4, .inl (fun _ => 0)))] H := hP
  have hD : va_D A [(h, .inr (1, [.ref q_0, .ref q_1, .ref q_2, .int 0, .ref q_3, .ref q_4, .ref q_5, .ref q_6, .int 0, .int 0, .null, .null])), (q_0, .inl (d_0, 10, .inl (fun _ => 0))), (q_1, .inl (d_1, 10, .inl (fun _ => 0))), (q_2, .inl (d_2, 10, .inl (fun _ => 0))), (q_3, .inl (d_3, 4, .inl (fun _ => 0))), (q_4, .inl (d_4, 4, .inl (fun _ => 0))), (q_5, .inl (d_5, 4, .inl (fun _ => 0))), (q_6, .inl (d_6, 4, .inl (fun _ => 0))), (q_7, .inl (d_7, 4, .inl (fun _ => 0)))] := hD
  have hK : va_K D vwCl [(d_0, .int), (d_1, .int), (d_2, .int), (d_3, .int), (d_4, .int), (d_5, .int), (d_6, .boolean), (d_7, .int)] s := hK
  refine W.widen (k := 8) (n := 50) (Nat.le_refl _) (Nat.le_refl _) ?_
  refine va_putF (D := D) (ci := 1) (v := .ref q_7) (ty := .array .int) (C := RX1) (T := TX1) (N := 12) hx hb hts in_X1 tyX1 tyX1_ok nmX1 hown hK hP hD hS 0 rfl rfl 10 (by decide) (hts _ q189) (fun _ h9 => h9) rfl hin rfl (by decide +kernel) rfl rfl (Nat.le_of_ble_eq_true rfl) dX1_init_60 (fun H locs hP hD hS => ?_)
  have hP : va_P D vwCl [(h, .inr (1, [.ref q_0, .ref q_1, .ref q_2, .int 0, .ref q_3, .ref q_4, .ref q_5, .ref q_6, .int 0, .int 0, .ref q_7, .null])), (q_0, .inl (d_0, 10, .inl (fun _ => 0))), (q_1, .inl (d_1, 10, .inl (fun _ => 0))), (q_2, .inl (d_2, 10, .inl (fun _ => 0))), (q_3, .inl (d_3, 4, .inl (fun _ => 0))), (q_4, .inl (d_4, 4, .inl (fun _ => 0))), (q_5, .inl (d_5, 4, .inl (fun _ => 0))), (q_6, .inl (d_6, 4, .inl (fun _ => 0))), (q_7, .inl (d_7, 4, .inl (fun _ => 0)))] H := hP
  have hD : va_D A [(h, .inr (1, [.ref q_0, .ref q_1, .ref q_2, .int 0, .ref q_3, .ref q_4, .ref q_5, .ref q_6, .int 0, .int 0, .ref q_7, .null])), (q_0, .inl (d_0, 10, .inl (fun _ => 0))), (q_1, .inl (d_1, 10, .inl (fun _ => 0))), (q_2, .inl (d_2, 10, .inl (fun _ => 0))), (q_3, .inl (d_3, 4, .inl (fun _ => 0))), (q_4, .inl (d_4, 4, .inl (fun _ => 0))), (q_5, .inl (d_5, 4, .inl (fun _ => 0))), (q_6, .inl (d_6, 4, .inl (fun _ => 0))), (q_7, .inl (d_7, 4, .inl (fun _ => 0)))] := hD
  refine lv_aload_n hx hb dX1_init_63 rfl (lv_at hl 0 rfl) ?_
  refine lv_iconst (v := 4) hx hb dX1_init_64 (by decide) ?_
  refine va_newa (atype := .int) (ty := .int) (N' := 4) (a0 := (4, .inl (fun _ => 0))) hx hb (hts _ q71) rfl hK hP hD hS hA (fun _ => rfl) (by decide) (by decide) (by decide) (Nat.le_of_ble_eq_true rfl) (Nat.le_of_ble_eq_true rfl) dX1_init_65 (fun q_8 d_8 H hK hP hD hS => ?_)
  have hP : va_P D vwCl [(h, .inr (1, [.ref q_0, .ref q_1, .ref q_2, .int 0, .ref q_3, .ref q_4, .ref q_5, .ref q_6, .int 0, .int 0, .ref q_7, .null])), (q_0, .inl (d_0, 10, .inl (fun _ => 0))), (q_1, .inl (d_1, 10, .inl (fun _ => 0))), (q_2, .inl (d_2, 10, .inl (fun _ => 0))), (q_3, .inl (d_3, 4, .inl (fun _ => 0))), (q_4, .inl (d_4, 4, .inl (fun _ => 0))), (q_5, .inl (d_5, 4, .inl (fun _ => 0))), (q_6, .inl (d_6, 4, .inl (fun _ => 0))), (q_7, .inl (d_7, 4, .inl (fun _ => 0))), (q_8, .inl (d_8, 4, .inl (fun _ => 0)))] H := hP
  have hD : va_D A [(h, .inr (1, [.ref q_0, .ref q_1, .ref q_2, .int 0, .ref q_3, .ref q_4, .ref q_5, .ref q_6, .int 0, .int 0, .ref q_7, .null])), (q_0, .inl (d_0, 10, .inl (fun _ => 0))), (q_1, .inl (d_1, 10, .inl (fun _ => 0))), (q_2, .inl (d_2, 10, .inl (fun _ => 0))), (q_3, .inl (d_3, 4, .inl (fun _ => 0))), (q_4, .inl (d_4, 4, .inl (fun _ => 0))), (q_5, .inl (d_5, 4, .inl (fun _ => 0))), (q_6, .inl (d_6, 4, .inl (fun _ => 0))), (q_7, .inl (d_7, 4, .inl (fun _ => 0))), (q_8, .inl (d_8, 4, .inl (fun _ => 0)))] := hD
  have hK : va_K D vwCl [(d_0, .int), (d_1, .int), (d_2, .int), (d_3, .int), (d_4, .int), (d_5, .int), (d_6, .boolean), (d_7, .int), (d_8, .int)] s := hK
  refine W.widen (k := 9) (n := 54) (Nat.le_refl _) (Nat.le_refl _) ?_
  refine va_putF (D := D) (ci := 1) (v := .ref q_8) (ty := .array .int) (C := RX1) (T := TX1) (N := 12) hx hb hts in_X1 tyX1 tyX1_ok nmX1 hown hK hP hD hS 0 rfl rfl 11 (by decide) (hts _ q190) (fun _ h9 => h9) rfl hin rfl (by decide +kernel) rfl rfl (Nat.le_of_ble_eq_true rfl) dX1_init_67 (fun H locs hP hD hS => ?_)
  have hP : va_P D vwCl [(h, .inr (1, [.ref q_0, .ref q_1, .ref q_2, .int 0, .ref q_3, .ref q_4, .ref q_5, .ref q_6, .int 0, .int 0, .ref q_7, .ref q_8])), (q_0, .inl (d_0, 10, .inl (fun _ => 0))), (q_1, .inl (d_1, 10, .inl (fun _ => 0))), (q_2, .inl (d_2, 10, .inl (fun _ => 0))), (q_3, .inl (d_3, 4, .inl (fun _ => 0))), (q_4, .inl (d_4, 4, .inl (fun _ => 0))), (q_5, .inl (d_5, 4, .inl (fun _ => 0))), (q_6, .inl (d_6, 4, .inl (fun _ => 0))), (q_7, .inl (d_7, 4, .inl (fun _ => 0))), (q_8, .inl (d_8, 4, .inl (fun _ => 0)))] H := hP
  have hD : va_D A [(h, .inr (1, [.ref q_0, .ref q_1, .ref q_2, .int 0, .ref q_3, .ref q_4, .ref q_5, .ref q_6, .int 0, .int 0, .ref q_7, .ref q_8])), (q_0, .inl (d_0, 10, .inl (fun _ => 0))), (q_1, .inl (d_1, 10, .inl (fun _ => 0))), (q_2, .inl (d_2, 10, .inl (fun _ => 0))), (q_3, .inl (d_3, 4, .inl (fun _ => 0))), (q_4, .inl (d_4, 4, .inl (fun _ => 0))), (q_5, .inl (d_5, 4, .inl (fun _ => 0))), (q_6, .inl (d_6, 4, .inl (fun _ => 0))), (q_7, .inl (d_7, 4, .inl (fun _ => 0))), (q_8, .inl (d_8, 4, .inl (fun _ => 0)))] := hD
  refine lv_aload_n hx hb dX1_init_70 rfl (lv_at hl 0 rfl) ?_
  refine va_get (D := D) (ci := 1) (v := .ref q_3) (C := RX1) (T := TX1) (N := 12) hx hb hts in_X1 hown hK hP 0 rfl rfl 4 (by decide) (hts _ q183) (fun _ h9 => h9) rfl dX1_init_71 ?_
  refine lv_iconst (v := 0) hx hb dX1_init_74 (by decide) ?_
  refine lv_iconst (v := 4) hx hb dX1_init_75 (by decide) ?_
  refine va_iast hx hb hK hP hD hS 4 3 rfl rfl (i := 0) (show vp_in (nI 0) 4 from vp_in_nI (by decide) (by decide)) dX1_init_76 (fun H locs hP hD hS => ?_)
  have hP : va_P D vwCl [(h, .inr (1, [.ref q_0, .ref q_1, .ref q_2, .int 0, .ref q_3, .ref q_4, .ref q_5, .ref q_6, .int 0, .int 0, .ref q_7, .ref q_8])), (q_0, .inl (d_0, 10, .inl (fun _ => 0))), (q_1, .inl (d_1, 10, .inl (fun _ => 0))), (q_2, .inl (d_2, 10, .inl (fun _ => 0))), (q_3, .inl (d_3, 4, .inl (upd (fun _ => 0) 0 4))), (q_4, .inl (d_4, 4, .inl (fun _ => 0))), (q_5, .inl (d_5, 4, .inl (fun _ => 0))), (q_6, .inl (d_6, 4, .inl (fun _ => 0))), (q_7, .inl (d_7, 4, .inl (fun _ => 0))), (q_8, .inl (d_8, 4, .inl (fun _ => 0)))] H := hP
  have hD : va_D A [(h, .inr (1, [.ref q_0, .ref q_1, .ref q_2, .int 0, .ref q_3, .ref q_4, .ref q_5, .ref q_6, .int 0, .int 0, .ref q_7, .ref q_8])), (q_0, .inl (d_0, 10, .inl (fun _ => 0))), (q_1, .inl (d_1, 10, .inl (fun _ => 0))), (q_2, .inl (d_2, 10, .inl (fun _ => 0))), (q_3, .inl (d_3, 4, .inl (upd (fun _ => 0) 0 4))), (q_4, .inl (d_4, 4, .inl (fun _ => 0))), (q_5, .inl (d_5, 4, .inl (fun _ => 0))), (q_6, .inl (d_6, 4, .inl (fun _ => 0))), (q_7, .inl (d_7, 4, .inl (fun _ => 0))), (q_8, .inl (d_8, 4, .inl (fun _ => 0)))] := hD
  refine lv_aload_n hx hb dX1_init_77 rfl (lv_at hl 0 rfl) ?_
  refine lv_iconst (v := 1) hx hb dX1_init_78 (by decide) ?_
  refine va_put (D := D) (ci := 1) (v := .int 1) (ty := .int) (C := RX1) (T := TX1) (N := 12) hx hb hts in_X1 tyX1 tyX1_ok nmX1 hown hK hP hD hS 0 rfl rfl 8 (by decide) (hts _ q187) (fun _ h9 => h9) rfl (by decide +kernel) rfl rfl (Nat.le_of_ble_eq_true rfl) dX1_init_79 (fun H locs hP hD hS => ?_)
  have hP : va_P D vwCl [(h, .inr (1, [.ref q_0, .ref q_1, .ref q_2, .int 0, .ref q_3, .ref q_4, .ref q_5, .ref q_6, .int 1, .int 0, .ref q_7, .ref q_8])), (q_0, .inl (d_0, 10, .inl (fun _ => 0))), (q_1, .inl (d_1, 10, .inl (fun _ => 0))), (q_2, .inl (d_2, 10, .inl (fun _ => 0))), (q_3, .inl (d_3, 4, .inl (upd (fun _ => 0) 0 4))), (q_4, .inl (d_4, 4, .inl (fun _ => 0))), (q_5, .inl (d_5, 4, .inl (fun _ => 0))), (q_6, .inl (d_6, 4, .inl (fun _ => 0))), (q_7, .inl (d_7, 4, .inl (fun _ => 0))), (q_8, .inl (d_8, 4, .inl (fun _ => 0)))] H := hP
  have hD : va_D A [(h, .inr (1, [.ref q_0, .ref q_1, .ref q_2, .int 0, .ref q_3, .ref q_4, .ref q_5, .ref q_6, .int 1, .int 0, .ref q_7, .ref q_8])), (q_0, .inl (d_0, 10, .inl (fun _ => 0))), (q_1, .inl (d_1, 10, .inl (fun _ => 0))), (q_2, .inl (d_2, 10, .inl (fun _ => 0))), (q_3, .inl (d_3, 4, .inl (upd (fun _ => 0) 0 4))), (q_4, .inl (d_4, 4, .inl (fun _ => 0))), (q_5, .inl (d_5, 4, .inl (fun _ => 0))), (q_6, .inl (d_6, 4, .inl (fun _ => 0))), (q_7, .inl (d_7, 4, .inl (fun _ => 0))), (q_8, .inl (d_8, 4, .inl (fun _ => 0)))] := hD
  refine lv_aload_n hx hb dX1_init_82 rfl (lv_at hl 0 rfl) ?_
  refine lv_bipush (v := 10) hx hb dX1_init_83 (by decide) ?_
  refine va_put (D := D) (ci := 1) (v := .int 10) (ty := .int) (C := RX1) (T := TX1) (N := 12) hx hb hts in_X1 tyX1 tyX1_ok nmX1 hown hK hP hD hS 0 rfl rfl 9 (by decide) (hts _ q188) (fun _ h9 => h9) rfl (by decide +kernel) rfl rfl (Nat.le_of_ble_eq_true rfl) dX1_init_85 (fun H locs hP hD hS => ?_)
  have hP : va_P D vwCl [(h, .inr (1, [.ref q_0, .ref q_1, .ref q_2, .int 0, .ref q_3, .ref q_4, .ref q_5, .ref q_6, .int 1, .int 10, .ref q_7, .ref q_8])), (q_0, .inl (d_0, 10, .inl (fun _ => 0))), (q_1, .inl (d_1, 10, .inl (fun _ => 0))), (q_2, .inl (d_2, 10, .inl (fun _ => 0))), (q_3, .inl (d_3, 4, .inl (upd (fun _ => 0) 0 4))), (q_4, .inl (d_4, 4, .inl (fun _ => 0))), (q_5, .inl (d_5, 4, .inl (fun _ => 0))), (q_6, .inl (d_6, 4, .inl (fun _ => 0))), (q_7, .inl (d_7, 4, .inl (fun _ => 0))), (q_8, .inl (d_8, 4, .inl (fun _ => 0)))] H := hP
  have hD : va_D A [(h, .inr (1, [.ref q_0, .ref q_1, .ref q_2, .int 0, .ref q_3, .ref q_4, .ref q_5, .ref q_6, .int 1, .int 10, .ref q_7, .ref q_8])), (q_0, .inl (d_0, 10, .inl (fun _ => 0))), (q_1, .inl (d_1, 10, .inl (fun _ => 0))), (q_2, .inl (d_2, 10, .inl (fun _ => 0))), (q_3, .inl (d_3, 4, .inl (upd (fun _ => 0) 0 4))), (q_4, .inl (d_4, 4, .inl (fun _ => 0))), (q_5, .inl (d_5, 4, .inl (fun _ => 0))), (q_6, .inl (d_6, 4, .inl (fun _ => 0))), (q_7, .inl (d_7, 4, .inl (fun _ => 0))), (q_8, .inl (d_8, 4, .inl (fun _ => 0)))] := hD
  have hP9 := hP.sub (ws' := (fun u : tyAD => wM h u.1 u.2 u00 (nI 1) 10 (nI 0) (fun _ => 0) (fun _ => 0)) (fun k => match k with | 0 => q_3 | 1 => q_4 | 2 => q_5 | 3 => q_6 | 4 => q_0 | 5 => q_1 | 6 => q_2 | 7 => q_7 | _ => q_8, fun k => match k with | 0 => d_3 | 1 => d_4 | 2 => d_5 | 3 => d_6 | 4 => d_0 | 5 => d_1 | 6 => d_2 | 7 => d_7 | _ => d_8)) [0, 4, 5, 6, 7, 1, 2, 3, 8, 9] rfl
  have hD9 := hD.sub (ws' := (fun u : tyAD => wM h u.1 u.2 u00 (nI 1) 10 (nI 0) (fun _ => 0) (fun _ => 0)) (fun k => match k with | 0 => q_3 | 1 => q_4 | 2 => q_5 | 3 => q_6 | 4 => q_0 | 5 => q_1 | 6 => q_2 | 7 => q_7 | _ => q_8, fun k => match k with | 0 => d_3 | 1 => d_4 | 2 => d_5 | 3 => d_6 | 4 => d_0 | 5 => d_1 | 6 => d_2 | 7 => d_7 | _ => d_8)) [0, 4, 5, 6, 7, 1, 2, 3, 8, 9] (by decide) rfl
  have hK9 := hK.sub (tys' := tM (fun k => match k with | 0 => d_3 | 1 => d_4 | 2 => d_5 | 3 => d_6 | 4 => d_0 | 5 => d_1 | 6 => d_2 | 7 => d_7 | _ => d_8)) [3, 4, 5, 6, 0, 1, 2, 7, 8] rfl
  exact W.vret hx hb hr (fun t ht hW => ⟨⟨(fun k => match k with | 0 => q_3 | 1 => q_4 | 2 => q_5 | 3 => q_6 | 4 => q_0 | 5 => q_1 | 6 => q_2 | 7 => q_7 | _ => q_8, fun k => match k with | 0 => d_3 | 1 => d_4 | 2 => d_5 | 3 => d_6 | 4 => d_0 | 5 => d_1 | 6 => d_2 | 7 => d_7 | _ => d_8), rfl, trivial, by rw [ht]; exact hP9, va_K.moved hW.alike hK9, hD9⟩, hS.F ht⟩) hS.2.2 dX1_init_88
end
section
/-! what the two sides share is kept: step, window, begin, restart, event -/
/-- what the two sides share, all through a run -/
def sp_ok (u : Nat → Nat → Int32) (n c : Nat) (w : Int32) : Prop :=
  n ≤ 4 ∧ c ≤ 10 ∧ (∀ k, k < n → u 2 k = 0 ∨ u 2 k = 1 ∨ u 2 k = 2 ∨ u 2 k = 3 ∨ u 2 k = 4) ∧ (∃ W : Nat, W ≤ 40 ∧ w = nI W) ∧ ∃ T : Nat → Nat, (∀ i, i < c → u 6 i = nI (T i) ∧ T i ≤ 5 * (i + 1)) ∧ ∀ i j, i ≤ j → j < c → T i ≤ T j
theorem kk_dec : ∀ j, j < 16 → ((¬ nI j < 0 ∧ ¬ 15 < nI j ∧ nI j &&& 7 ≤ 4) ↔ kM (nI j) = true) ∧ (kM (nI j) = true → nI j &&& 7 = nI j - nI j / 8 * 8 ∧ (if nI j < 8 then (0 : Int32) else 1) = (if nI j ≤ 7 then 0 else 1)) := by decide +kernel
theorem kk_neg {k : Int32} (h : k < 0) : kM k = false := by
  have h8 : k < 8 := Int32.lt_trans h (by decide)
  simp [kM, h, h8]
theorem kk_big {k : Int32} (h : nI 16 ≤ k) : kM k = false ∧ 15 < k := by
  have h15 : (15 : Int32) < k := Int32.lt_of_lt_of_le (show (15 : Int32) < nI 16 by decide) h
  have h12 : (12 : Int32) < k := Int32.lt_trans (show (12 : Int32) < 15 by decide) h15
  have h4 : ¬ k ≤ 4 := fun q => absurd (Int32.lt_of_lt_of_le h15 q) (by decide)
  exact ⟨by simp [kM, h12, h4], h15⟩
theorem kk_eq (k : Int32) : (¬ k < 0 ∧ ¬ 15 < k ∧ k &&& 7 ≤ 4) ↔ kM k = true := by
  rcases pk_ix k (n := 16) (by decide) with q | q | ⟨j, hj, q⟩
  · rw [kk_neg q]; simp [q]
  · rw [(kk_big q).1]; simp [(kk_big q).2]
  · subst q; exact (kk_dec j hj).1
theorem kk_val {k : Int32} (h : kM k = true) : k &&& 7 = k - k / 8 * 8 ∧ (if k < 8 then (0 : Int32) else 1) = (if k ≤ 7 then 0 else 1) := by
  rcases pk_ix k (n := 16) (by decide) with q | q | ⟨j, hj, q⟩
  · rw [kk_neg q] at h; cases h
  · rw [(kk_big q).1] at h; cases h
  · subst q; exact (kk_dec j hj).2 h
theorem ok_eq (t b k : Int32) : okX t b k = okM t b k := by
  unfold okX okM
  refine decide_eq_decide.mpr ?_
  constructor
  · rintro ⟨a1, a2, a3, a4, a5⟩
    exact ⟨a1, a2, a3, Int32.not_lt.mpr a4, (kk_eq k).mp a5⟩
  · rintro ⟨a1, a2, a3, a4, a5⟩
    exact ⟨a1, a2, a3, Int32.not_lt.mp a4, (kk_eq k).mpr a5⟩
theorem pl_step_eq (u : Nat → Nat → Int32) (n : Nat) (t b k : Int32) : stR (okX t b k) n = stR (okM t b k) n ∧ stU (okX t b k) u n t b (k &&& 7) (if k < 8 then 0 else 1) = stU (okM t b k) u n t b (k - k / 8 * 8) (if k ≤ 7 then 0 else 1) ∧ stN (okX t b k) n = stN (okM t b k) n := by
  rw [ok_eq]
  refine ⟨rfl, ?_, rfl⟩
  cases h : okM t b k with
  | false => rfl
  | true =>
    have hk : kM k = true := (of_decide_eq_true h).2.2.2.2
    rw [(kk_val hk).1, (kk_val hk).2]
theorem kind5 {k : Int32} (h : k &&& 7 ≤ 4) : k &&& 7 = 0 ∨ k &&& 7 = 1 ∨ k &&& 7 = 2 ∨ k &&& 7 = 3 ∨ k &&& 7 = 4 := by
  obtain ⟨j, hj, e⟩ := pk_andE k (m := 7) 3 (by decide)
  rw [e] at h ⊢
  have h4 : j ≤ 4 := (nI_leI (b := 4) (by omega) (by omega)).mp h
  rcases (show j = 0 ∨ j = 1 ∨ j = 2 ∨ j = 3 ∨ j = 4 by omega) with q | q | q | q | q <;> subst q <;> decide
theorem pl_step_ok {u : Nat → Nat → Int32} {n c : Nat} {w : Int32} (t b k r : Int32) (h : sp_ok u n c w) : sp_ok (stU (okX t b k) u n t b (k &&& 7) r) (stN (okX t b k) n) c w := by
  cases hk : okX t b k with
  | false => exact h
  | true =>
    by_cases hn : n < 4
    · have h7 := kind5 (of_decide_eq_true hk).2.2.2.2.2.2
      obtain ⟨h1, h2, h3, h4, T, h5, h6⟩ := h
      simp only [stU, stN, cond_true, if_pos hn]
      refine ⟨by omega, h2, fun j hj => ?_, h4, T, fun i hi => h5 i hi, h6⟩
      show upd (u 2) n (k &&& 7) j = 0 ∨ upd (u 2) n (k &&& 7) j = 1 ∨ upd (u 2) n (k &&& 7) j = 2 ∨ upd (u 2) n (k &&& 7) j = 3 ∨ upd (u 2) n (k &&& 7) j = 4
      by_cases hj2 : j = n
      · rw [hj2, pk_us]; exact h7
      · rw [pk_un hj2]; exact h3 j (by omega)
    · simp only [stU, stN, cond_true, if_neg hn]
      exact h
theorem pl_window_ok {u : Nat → Nat → Int32} {n c : Nat} {w : Int32} (p : Int32) (h : sp_ok u n c w) : sp_ok u n c (cond (okW p) p w) := by
  cases hp : okW p with
  | false => exact h
  | true =>
    obtain ⟨h1, h2, h3, h4, h5⟩ := h
    have hq := of_decide_eq_true hp
    obtain ⟨j, hj, e⟩ := nI_of2 (M := 40) (n := 40) (by decide) hq.1 hq.2
    exact ⟨h1, h2, h3, ⟨j, hj, e⟩, h5⟩
theorem pl_begin_ok {u : Nat → Nat → Int32} {n c : Nat} {w : Int32} (h : sp_ok u n c w) : sp_ok u 0 c w := by
  obtain ⟨h1, h2, h3, h4, h5⟩ := h
  exact ⟨by omega, h2, fun k hk => absurd hk (by omega), h4, h5⟩
theorem pl_restart_ok {u : Nat → Nat → Int32} {n c : Nat} {w : Int32} (h : sp_ok u n c w) : sp_ok u n 0 w := by
  obtain ⟨h1, h2, h3, h4, T, h5, h6⟩ := h
  exact ⟨h1, by omega, h3, h4, T, fun i hi => absurd hi (by omega), fun i j _ hj => absurd hj (by omega)⟩
theorem pl_event_ok {u : Nat → Nat → Int32} {n c : Nat} {w : Int32} (t v g : Int32) (hok : okE t v g = true) (hc : c < 10) (h : sp_ok u n c w) : sp_ok (evU u c t v g) n (c + 1) w := by
  obtain ⟨h1, h2, h3, h4, T, h5, h6⟩ := h
  have hq := of_decide_eq_true hok
  obtain ⟨G, hG, e⟩ := nI_of2 (M := 5) (n := 5) (by decide) hq.2.2.2.2.1 hq.2.2.2.2.2
  refine ⟨h1, by omega, fun k hk => h3 k hk, h4, fun i => if i = c then (if c = 0 then 0 else T (c - 1)) + G else T i, fun i hi => ?_, fun i j hij hj => ?_⟩
  · have hu : evU u c t v g 6 i = upd (u 6) c ((if c = 0 then 0 else u 6 (c - 1)) + g) i := rfl
    rw [hu]
    by_cases hic : i = c
    · rw [hic, pk_us]
      dsimp only
      rw [if_pos rfl]
      by_cases h0 : c = 0
      · rw [if_pos h0, if_pos h0, e]
        refine ⟨?_, by omega⟩
        rw [Nat.zero_add]; exact Int32.zero_add _
      · have := h5 (c - 1) (by omega)
        rw [if_neg h0, if_neg h0, this.1, e, nI_add]
        exact ⟨rfl, by omega⟩
    · rw [pk_un hic]
      dsimp only
      rw [if_neg hic]
      exact h5 i (by omega)
  · dsimp only
    by_cases hjc : j = c
    · rw [if_pos hjc]
      by_cases hic : i = c
      · rw [if_pos hic]; exact Nat.le_refl _
      · rw [if_neg hic]
        have h0 : ¬ c = 0 := by omega
        rw [if_neg h0]
        have := h6 i (c - 1) (by omega) (by omega)
        omega
    · rw [if_neg hjc, if_neg (by omega)]
      exact h6 i j hij (by omega)
theorem pl_init_ok : sp_ok u00 1 0 10 := by
  refine ⟨by omega, by omega, fun k hk => ?_, ⟨10, by omega, rfl⟩, fun _ => 0, fun i hi => absurd hi (by omega), fun i j _ hj => absurd hj (by omega)⟩
  exact Or.inl rfl
end
section
/-! sums (and greatest ones) over 0 .. n - 1, over any commutative op with unit 0 -/
def sg (op : Nat → Nat → Nat) (f : Nat → Nat) : Nat → Nat
  | 0 => 0
  | n + 1 => op (sg op f n) (f n)
def gM (op : Nat → Nat → Nat) : Prop := (∀ a, op a 0 = a) ∧ (∀ a b, op a b = op b a) ∧ ∀ a b c, op (op a b) c = op a (op b c)
theorem gM_add : gM (fun a b => a + b) := ⟨fun _ => rfl, fun a b => Nat.add_comm a b, fun a b c => Nat.add_assoc a b c⟩
theorem gM_max : gM (fun a b => max a b) := ⟨fun a => Nat.max_zero a, fun a b => Nat.max_comm a b, fun a b c => Nat.max_assoc a b c⟩
theorem gM.z {op : Nat → Nat → Nat} (h : gM op) (a : Nat) : op 0 a = a := by rw [h.2.1]; exact h.1 a
theorem gM.four {op : Nat → Nat → Nat} (h : gM op) (a b c d : Nat) : op (op a b) (op c d) = op (op a c) (op b d) := by
  rw [h.2.2, h.2.2, ← h.2.2 b c d, h.2.1 b c, h.2.2 c b d]
theorem sg_congr {op : Nat → Nat → Nat} {f g : Nat → Nat} : ∀ n, (∀ i, i < n → f i = g i) → sg op f n = sg op g n := by
  intro n
  induction n with
  | zero => intro _; rfl
  | succ n ih =>
    intro h
    simp only [sg]
    rw [ih (fun i hi => h i (by omega)), h n (by omega)]
theorem sg_zero {op : Nat → Nat → Nat} (hm : gM op) {f : Nat → Nat} : ∀ n, (∀ i, i < n → f i = 0) → sg op f n = 0 := by
  intro n
  induction n with
  | zero => intro _; rfl
  | succ n ih =>
    intro h
    simp only [sg]
    rw [ih (fun i hi => h i (by omega)), h n (by omega)]
    exact hm.1 0
theorem sg_op {op : Nat → Nat → Nat} (hm : gM op) {f g : Nat → Nat} : ∀ n, sg op (fun i => op (f i) (g i)) n = op (sg op f n) (sg op g n) := by
  intro n
  induction n with
  | zero => exact (hm.1 0).symm
  | succ n ih =>
    simp only [sg]
    rw [ih]
    exact hm.four _ _ _ _
theorem sg_split {op : Nat → Nat → Nat} (hm : gM op) {f : Nat → Nat} (a : Nat) : ∀ b, sg op f (a + b) = op (sg op f a) (sg op (fun i => f (a + i)) b) := by
  intro b
  induction b with
  | zero => exact (hm.1 _).symm
  | succ b ih =>
    show op (sg op f (a + b)) (f (a + b)) = op (sg op f a) (op (sg op (fun i => f (a + i)) b) (f (a + b)))
    rw [ih, hm.2.2]
theorem sg_hom {op : Nat → Nat → Nat} {h : Nat → Nat} (h0 : h 0 = 0) (hh : ∀ a b, h (op a b) = op (h a) (h b)) {f : Nat → Nat} : ∀ n, h (sg op f n) = sg op (fun i => h (f i)) n := by
  intro n
  induction n with
  | zero => exact h0
  | succ n ih =>
    simp only [sg]
    rw [hh, ih]
theorem sg_swap {op : Nat → Nat → Nat} (hm : gM op) {F : Nat → Nat → Nat} (m : Nat) : ∀ n, sg op (fun i => sg op (fun j => F i j) m) n = sg op (fun j => sg op (fun i => F i j) n) m := by
  intro n
  induction n with
  | zero => exact (sg_zero hm m (fun _ _ => rfl)).symm
  | succ n ih =>
    simp only [sg]
    rw [ih, ← sg_op hm]
theorem sg_shift {op : Nat → Nat → Nat} (hm : gM op) {g : Nat → Nat} (m : Nat) : sg op g (m + 1) = op (g 0) (sg op (fun i => g (i + 1)) m) := by
  rw [Nat.add_comm, sg_split hm 1 m]
  show op (op 0 (g 0)) _ = _
  rw [hm.z, sg_congr m (fun i _ => by rw [Nat.add_comm])]
theorem sg_one {op : Nat → Nat → Nat} (hm : gM op) {f : Nat → Nat} (a : Nat) : ∀ n, sg op (fun i => if i = a then f i else 0) n = if a < n then f a else 0 := by
  intro n
  induction n with
  | zero => rw [if_neg (by omega)]; rfl
  | succ n ih =>
    simp only [sg]
    rw [ih]
    by_cases h : a < n
    · rw [if_pos h, if_neg (by omega), if_pos (by omega)]; exact hm.1 _
    · rw [if_neg h]
      by_cases h2 : n = a
      · rw [if_pos h2, if_pos (by omega), h2]; exact hm.z _
      · rw [if_neg h2, if_neg (by omega)]; exact hm.1 _
theorem sg_rev {op : Nat → Nat → Nat} (hm : gM op) : ∀ (m : Nat) (f : Nat → Nat), sg op f m = sg op (fun i => f (m - 1 - i)) m := by
  intro m
  induction m with
  | zero => intro f; rfl
  | succ m ih =>
    intro f
    rw [sg_shift hm m (g := fun i => f (m + 1 - 1 - i))]
    simp only [sg]
    rw [ih f, hm.2.1]
    congr 1
    exact sg_congr m (fun i hi => by rw [show m + 1 - 1 - (i + 1) = m - 1 - i by omega])
/-- over all s < 2 ^ j: nothing, or a greatest bit i and what lies below it -/
theorem sg_grp {op : Nat → Nat → Nat} (hm : gM op) {f : Nat → Nat} : ∀ j, sg op f (2 ^ j) = op (f 0) (sg op (fun i => sg op (fun s => f (2 ^ i + s)) (2 ^ i)) j) := by
  intro j
  induction j with
  | zero =>
    show op 0 (f 0) = op (f 0) 0
    exact hm.2.1 _ _
  | succ j ih =>
    rw [Nat.pow_succ, Nat.mul_two, sg_split hm, ih]
    simp only [sg]
    rw [hm.2.2]
theorem sg_pow {op : Nat → Nat → Nat} (hm : gM op) {f : Nat → Nat} (j : Nat) : sg op f (2 ^ (j + 1)) = op (sg op f (2 ^ j)) (sg op (fun s => f (2 ^ j + s)) (2 ^ j)) := by
  rw [Nat.pow_succ, Nat.mul_two, sg_split hm]
theorem sg_if {op : Nat → Nat → Nat} (hm : gM op) {f : Nat → Nat} (c : Bool) (n : Nat) : sg op (fun i => if c = true then f i else 0) n = if c = true then sg op f n else 0 := by
  cases c with
  | true => exact sg_congr n (fun i _ => if_pos rfl)
  | false => exact sg_zero hm n (fun i _ => if_neg (by decide))
/-- sums -/
abbrev sm (f : Nat → Nat) (n : Nat) : Nat := sg (fun a b => a + b) f n
theorem sm_mul (a : Nat) {f : Nat → Nat} (n : Nat) : sm (fun i => a * f i) n = a * sm f n := (sg_hom (h := fun x => a * x) (Nat.mul_zero a) (fun x y => Nat.mul_add a x y) n).symm
theorem sm_mulr (a : Nat) {f : Nat → Nat} (n : Nat) : sm (fun i => f i * a) n = sm f n * a := (sg_hom (h := fun x => x * a) (Nat.zero_mul a) (fun x y => Nat.add_mul x y a) n).symm
theorem sm_nI {f : Nat → Int32} {g : Nat → Nat} (h : ∀ i, f i = nI (g i)) : ∀ (F : Nat → Int32), F 0 = 0 → (∀ d, F (d + 1) = F d + f d) → ∀ n, F n = nI (sm g n) := by
  intro F h0 hs n
  induction n with
  | zero => rw [h0]; exact nI_0.symm
  | succ n ih => rw [hs, ih, h, nI_add]; rfl
end
section
/-! sets of events as numbers: bits, the first, the last, how many -/
theorem mb_0 {s e : Nat} (h : ¬ mbit s e = 1) : mbit s e = 0 := by have := mb_lt s e; omega
theorem mb_hi {s e : Nat} (h : s < 2 ^ e) : mbit (2 ^ e + s) e = 1 := by
  unfold mbit
  rw [Nat.add_div_left _ (Nat.two_pow_pos e), Nat.div_eq_of_lt h]
theorem mb_lo {s e i : Nat} (h : i < e) : mbit (2 ^ e + s) i = mbit s i := by
  obtain ⟨d, rfl⟩ : ∃ d, e = i + 1 + d := ⟨e - (i + 1), by omega⟩
  unfold mbit
  rw [show 2 ^ (i + 1 + d) = 2 ^ i * (2 * 2 ^ d) by rw [Nat.pow_add, Nat.pow_succ, Nat.mul_assoc], Nat.mul_add_div (Nat.two_pow_pos i)]
  omega
theorem mb_z {s e i : Nat} (h : s < 2 ^ e) (hi : e ≤ i) : mbit s i = 0 := by
  unfold mbit
  rw [Nat.div_eq_of_lt (Nat.lt_of_lt_of_le h (Nat.pow_le_pow_right (by decide) hi))]
theorem mb_zero (i : Nat) : mbit 0 i = 0 := by unfold mbit; rw [Nat.zero_div]
theorem two_lt {s e : Nat} (h : s < 2 ^ e) : 2 ^ e + s < 2 ^ (e + 1) := by rw [Nat.pow_succ]; omega
theorem fst_of {s f : Nat} (hf : f < 10) (h1 : mbit s f = 1) (h0 : ∀ i, i < f → mbit s i = 0) : mFi s 10 = f := by
  have key : ∀ d, d ≤ 10 → 10 - d ≤ f → mFi s d = f := by
    intro d
    induction d with
    | zero => intro _ h; omega
    | succ d ih =>
      intro hd h
      simp only [mFi]
      by_cases h9 : 9 - d = f
      · rw [h9, if_pos h1]
      · rw [if_neg (by rw [h0 (9 - d) (by omega)]; decide)]
        exact ih (by omega) (by omega)
  exact key 10 (by omega) (by omega)
theorem fst_pow {e : Nat} (he : e < 10) : mFi (2 ^ e + 0) 10 = e := fst_of he (mb_hi (Nat.two_pow_pos e)) (fun i hi => by rw [mb_lo hi]; exact mb_zero i)
theorem fst_spec {e : Nat} : ∀ {s : Nat}, e ≤ 10 → s < 2 ^ e → s ≠ 0 → mFi s 10 < e ∧ mbit s (mFi s 10) = 1 ∧ ∀ i, i < mFi s 10 → mbit s i = 0 := by
  induction e with
  | zero => intro s _ h h0; exact absurd h (by simp; omega)
  | succ e ih =>
    intro s he h h0
    by_cases hs : s < 2 ^ e
    · obtain ⟨a, b, c⟩ := ih (by omega) hs h0
      exact ⟨by omega, b, c⟩
    · obtain ⟨t, rfl⟩ : ∃ t, s = 2 ^ e + t := ⟨s - 2 ^ e, by omega⟩
      have ht : t < 2 ^ e := by rw [Nat.pow_succ] at h; omega
      by_cases h00 : t = 0
      · subst h00
        rw [fst_pow (by omega)]
        exact ⟨by omega, mb_hi ht, fun i hi => by rw [mb_lo hi]; exact mb_zero i⟩
      · obtain ⟨a, b, c⟩ := ih (by omega) ht h00
        have hq : mFi (2 ^ e + t) 10 = mFi t 10 := fst_of (by omega) (by rw [mb_lo a]; exact b) (fun i hi => by rw [mb_lo (by omega)]; exact c i hi)
        rw [hq]
        exact ⟨by omega, by rw [mb_lo a]; exact b, fun i hi => by rw [mb_lo (by omega)]; exact c i hi⟩
theorem fst_step {s e : Nat} (he : e < 10) (hs : s < 2 ^ e) (h0 : s ≠ 0) : mFi (2 ^ e + s) 10 = mFi s 10 := by
  obtain ⟨a, b, c⟩ := fst_spec (by omega) hs h0
  exact fst_of (by omega) (by rw [mb_lo a]; exact b) (fun i hi => by rw [mb_lo (by omega)]; exact c i hi)
theorem fst_le {s e : Nat} (he : e < 10) (hs : s < 2 ^ e) : mFi (2 ^ e + s) 10 ≤ e := by
  by_cases h0 : s = 0
  · subst h0; rw [fst_pow he]; exact Nat.le_refl _
  · rw [fst_step he hs h0]
    have := (fst_spec (e := e) (by omega) hs h0).1
    omega
theorem lst_of {s e : Nat} (he : e < 10) (hs : s < 2 ^ e) : mLa (2 ^ e + s) 10 = e := by
  have key : ∀ d, e < d → mLa (2 ^ e + s) d = e := by
    intro d
    induction d with
    | zero => intro h; omega
    | succ d ih =>
      intro h
      simp only [mLa]
      by_cases hd : d = e
      · rw [hd, if_pos (mb_hi hs)]
      · rw [if_neg (by rw [mb_z (two_lt hs) (by omega)]; decide)]
        exact ih (by omega)
  exact key 10 he
theorem msz_stay {s a : Nat} : ∀ b, (∀ i, a ≤ i → i < a + b → mbit s i = 0) → mSz s (a + b) = mSz s a := by
  intro b
  induction b with
  | zero => intro _; rfl
  | succ b ih =>
    intro h
    show mSz s (a + b) + mbit s (a + b) = mSz s a
    rw [h (a + b) (by omega) (by omega), ih (fun i h1 h2 => h i h1 (by omega))]
    rfl
end
section
/-! runs of one set of events, step by step; over all sets with a first and a last event: the recurrence. op, h: (+, as it is) counts runs; (max, one more if there is one) measures them -/
section
variable (mt : Nat → Nat → Option Nat → Nat → Bool) (rp : Nat → Bool) (op : Nat → Nat → Nat) (h : Nat → Nat)
def tkG (f : Nat) (l : Option Nat) (v : Nat → Nat) (e k : Nat) : Nat := if mt f k l e = true then (match l with | none => if k = 0 then 1 else 0 | some _ => op (if rp k = true then h (v k) else 0) (if k = 0 then 0 else h (v (k - 1)))) else 0
def foG (f s : Nat) : Nat → Option Nat × (Nat → Nat)
  | 0 => (none, fun _ => 0)
  | d + 1 => if mbit s d = 1 then (some d, tkG mt rp op h f (foG f s d).1 (foG f s d).2 d) else foG f s d
/-- over all sets with first event f and last event e -/
def dG (f k e : Nat) : Nat := sg op (fun s => if mFi (2 ^ e + s) 10 = f then (foG mt rp op h f (2 ^ e + s) (e + 1)).2 k else 0) (2 ^ e)
end
section
variable {mt : Nat → Nat → Option Nat → Nat → Bool} {rp : Nat → Bool} {op : Nat → Nat → Nat} {h : Nat → Nat}
theorem foG_t {f s d : Nat} (hb : mbit s d = 1) : foG mt rp op h f s (d + 1) = (some d, tkG mt rp op h f (foG mt rp op h f s d).1 (foG mt rp op h f s d).2 d) := by simp [foG, hb]
theorem foG_f {f s d : Nat} (hb : mbit s d = 0) : foG mt rp op h f s (d + 1) = foG mt rp op h f s d := by simp [foG, hb]
theorem foG_congr {f s t : Nat} : ∀ d, (∀ i, i < d → mbit s i = mbit t i) → foG mt rp op h f s d = foG mt rp op h f t d := by
  intro d
  induction d with
  | zero => intro _; rfl
  | succ d ih =>
    intro hq
    simp only [foG]
    rw [ih (fun i hi => hq i (by omega)), hq d (by omega)]
theorem foG_stay {f s a : Nat} : ∀ b, (∀ i, a ≤ i → i < a + b → mbit s i = 0) → foG mt rp op h f s (a + b) = foG mt rp op h f s a := by
  intro b
  induction b with
  | zero => intro _; rfl
  | succ b ih =>
    intro hq
    show foG mt rp op h f s (a + b + 1) = _
    rw [foG_f (hq (a + b) (by omega) (by omega)), ih (fun i h1 h2 => hq i h1 (by omega))]
theorem foG_0 {f : Nat} (d : Nat) : foG mt rp op h f 0 d = (none, fun _ => 0) := by
  have := foG_stay (mt := mt) (rp := rp) (op := op) (h := h) (f := f) (s := 0) (a := 0) d (fun i _ _ => mb_zero i)
  rw [Nat.zero_add] at this
  exact this
/-- a set with last event e, behind it -/
theorem foG_top {f s e : Nat} (hs : s < 2 ^ e) : foG mt rp op h f (2 ^ e + s) (e + 1) = (some e, tkG mt rp op h f (foG mt rp op h f s e).1 (foG mt rp op h f s e).2 e) := by
  rw [foG_t (mb_hi hs), foG_congr e (fun i hi => mb_lo hi)]
theorem foG_past {f s e d : Nat} (hs : s < 2 ^ e) (hd : e + 1 ≤ d) : foG mt rp op h f (2 ^ e + s) d = foG mt rp op h f (2 ^ e + s) (e + 1) := by
  obtain ⟨b, rfl⟩ : ∃ b, d = e + 1 + b := ⟨d - (e + 1), by omega⟩
  exact foG_stay b (fun i h1 _ => mb_z (two_lt hs) h1)
theorem dG_lt {f k e : Nat} (hm : gM op) (he : e < f) (h10 : e < 10) : dG mt rp op h f k e = 0 := by
  refine sg_zero hm _ (fun s hs => if_neg (fun q => ?_))
  have := fst_le h10 hs
  omega
theorem dG_eq {f k : Nat} (hm : gM op) (hf : f < 10) : dG mt rp op h f k f = if mt f k none f = true then (if k = 0 then 1 else 0) else 0 := by
  unfold dG
  rw [sg_grp hm, sg_zero hm f (fun i hi => sg_zero hm _ (fun s hs => if_neg (fun q => ?_))), hm.1, fst_pow hf, if_pos rfl, foG_top (Nat.two_pow_pos f), foG_0]
  · rfl
  · have h1 : 2 ^ i + s < 2 ^ f := Nat.lt_of_lt_of_le (two_lt hs) (Nat.pow_le_pow_right (by decide) hi)
    rw [fst_step hf h1 (by have := Nat.two_pow_pos i; omega)] at q
    have := fst_le (by omega) hs
    omega
theorem dG_gt {f k e : Nat} (hm : gM op) (h0 : h 0 = 0) (hh : ∀ a b, h (op a b) = op (h a) (h b)) (hf : f < e) (he : e < 10) : dG mt rp op h f k e = sg op (fun i => if mt f k (some i) e = true then op (if rp k = true then h (dG mt rp op h f k i) else 0) (if k = 0 then 0 else h (dG mt rp op h f (k - 1) i)) else 0) e := by
  have hd : ∀ k i, h (dG mt rp op h f k i) = sg op (fun s => if mFi (2 ^ i + s) 10 = f then h ((foG mt rp op h f (2 ^ i + s) (i + 1)).2 k) else 0) (2 ^ i) := by
    intro k i
    rw [dG, sg_hom h0 hh]
    refine sg_congr _ (fun s _ => ?_)
    by_cases q : mFi (2 ^ i + s) 10 = f
    · rw [if_pos q, if_pos q]
    · rw [if_neg q, if_neg q]; exact h0
  rw [dG, sg_grp hm, fst_pow he, if_neg (by omega), hm.z]
  refine sg_congr e (fun i hi => ?_)
  have hin : ∀ s, s < 2 ^ i → 2 ^ i + s < 2 ^ e := fun s hs => Nat.lt_of_lt_of_le (two_lt hs) (Nat.pow_le_pow_right (by decide) hi)
  have e1 : ∀ s, s < 2 ^ i → (if mFi (2 ^ e + (2 ^ i + s)) 10 = f then (foG mt rp op h f (2 ^ e + (2 ^ i + s)) (e + 1)).2 k else 0) = (if mFi (2 ^ i + s) 10 = f then (if mt f k (some i) e = true then op (if rp k = true then h ((foG mt rp op h f (2 ^ i + s) (i + 1)).2 k) else 0) (if k = 0 then 0 else h ((foG mt rp op h f (2 ^ i + s) (i + 1)).2 (k - 1))) else 0) else 0) := by
    intro s hs
    rw [fst_step he (hin s hs) (by have := Nat.two_pow_pos i; omega), foG_top (hin s hs), foG_past hs (by omega)]
    have h1 : (foG mt rp op h f (2 ^ i + s) (i + 1)).1 = some i := by rw [foG_top hs]
    rw [h1]
    rfl
  rw [sg_congr _ e1]
  cases hmt : mt f k (some i) e with
  | false =>
    rw [if_neg (by decide)]
    exact sg_zero hm _ (fun s _ => by split <;> rfl)
  | true =>
    rw [if_pos rfl, hd, hd]
    have e2 : ∀ s, s < 2 ^ i → (if mFi (2 ^ i + s) 10 = f then (if true = true then op (if rp k = true then h ((foG mt rp op h f (2 ^ i + s) (i + 1)).2 k) else 0) (if k = 0 then 0 else h ((foG mt rp op h f (2 ^ i + s) (i + 1)).2 (k - 1))) else 0) else 0) = op (if rp k = true then (if mFi (2 ^ i + s) 10 = f then h ((foG mt rp op h f (2 ^ i + s) (i + 1)).2 k) else 0) else 0) (if k = 0 then 0 else (if mFi (2 ^ i + s) 10 = f then h ((foG mt rp op h f (2 ^ i + s) (i + 1)).2 (k - 1)) else 0)) := by
      intro s _
      by_cases q : mFi (2 ^ i + s) 10 = f
      · simp [q]
      · simp [q]; exact (hm.1 0).symm
    rw [sg_congr _ e2, sg_op hm, sg_if hm]
    congr 1
    by_cases hk : k = 0
    · simp only [hk, if_true]; exact sg_zero hm _ (fun _ _ => rfl)
    · simp only [hk, if_false]
end
end
section
/-! the table of runs that X makes for one first event: counts and lengths -/
def rpX (u : Nat → Nat → Int32) (k : Nat) : Bool := decide (¬ u 3 k = 0)
def sc (x : Nat) : Nat := if x = 0 then 0 else x + 1
theorem sc_max (a b : Nat) : sc (max a b) = max (sc a) (sc b) := by
  unfold sc
  split <;> split <;> split <;> omega
def dN (u : Nat → Nat → Int32) (f k e : Nat) : Nat := dG (mtX u) (rpX u) (fun a b => a + b) (fun x => x) f k e
def dL (u : Nat → Nat → Int32) (f k e : Nat) : Nat := dG (mtX u) (rpX u) (fun a b => max a b) sc f k e
theorem dN_lt {u : Nat → Nat → Int32} {f k e : Nat} (he : e < f) (h10 : e < 10) : dN u f k e = 0 := dG_lt gM_add he h10
theorem dL_lt {u : Nat → Nat → Int32} {f k e : Nat} (he : e < f) (h10 : e < 10) : dL u f k e = 0 := dG_lt gM_max he h10
theorem dN_eq {u : Nat → Nat → Int32} {f k : Nat} (hf : f < 10) : dN u f k f = if mtX u f k none f = true then (if k = 0 then 1 else 0) else 0 := dG_eq gM_add hf
theorem dL_eq {u : Nat → Nat → Int32} {f k : Nat} (hf : f < 10) : dL u f k f = if mtX u f k none f = true then (if k = 0 then 1 else 0) else 0 := dG_eq gM_max hf
theorem dN_gt {u : Nat → Nat → Int32} {f k e : Nat} (hf : f < e) (he : e < 10) : dN u f k e = sm (fun i => if mtX u f k (some i) e = true then (if rpX u k = true then dN u f k i else 0) + (if k = 0 then 0 else dN u f (k - 1) i) else 0) e := dG_gt gM_add rfl (fun _ _ => rfl) hf he
theorem dL_gt {u : Nat → Nat → Int32} {f k e : Nat} (hf : f < e) (he : e < 10) : dL u f k e = sg (fun a b => max a b) (fun i => if mtX u f k (some i) e = true then max (if rpX u k = true then sc (dL u f k i) else 0) (if k = 0 then 0 else sc (dL u f (k - 1) i)) else 0) e := dG_gt gM_max rfl sc_max hf he
theorem sm_le {f g : Nat → Nat} : ∀ n, (∀ i, i < n → f i ≤ g i) → sm f n ≤ sm g n := by
  intro n
  induction n with
  | zero => intro _; exact Nat.le_refl _
  | succ n ih =>
    intro h
    have h1 := ih (fun i hi => h i (by omega))
    have h2 := h n (by omega)
    show sm f n + f n ≤ sm g n + g n
    omega
theorem sm_3 : ∀ n, sm (fun i => 2 * 3 ^ i) n + 1 = 3 ^ n := by
  intro n
  induction n with
  | zero => rfl
  | succ n ih =>
    show sm (fun i => 2 * 3 ^ i) n + 2 * 3 ^ n + 1 = 3 ^ (n + 1)
    rw [Nat.pow_succ]
    omega
theorem dN_le {u : Nat → Nat → Int32} {f : Nat} (hf : f < 10) : ∀ e, e < 10 → ∀ k, dN u f k e ≤ 3 ^ e := by
  intro e
  induction e using Nat.strongRecOn with
  | ind e ih =>
    intro he k
    rcases Nat.lt_trichotomy e f with h | h | h
    · rw [dN_lt h he]; exact Nat.zero_le _
    · subst h
      rw [dN_eq he]
      have : 0 < 3 ^ e := by first | exact Nat.pow_pos (by decide) | exact Nat.pos_pow (by decide)
      split
      · split <;> omega
      · omega
    · rw [dN_gt h he]
      have h1 : sm (fun i => if mtX u f k (some i) e = true then (if rpX u k = true then dN u f k i else 0) + (if k = 0 then 0 else dN u f (k - 1) i) else 0) e ≤ sm (fun i => 2 * 3 ^ i) e := by
        refine sm_le e (fun i hi => ?_)
        have a := ih i hi (by omega) k
        have b := ih i hi (by omega) (k - 1)
        split
        · split <;> split <;> omega
        · omega
      have := sm_3 e
      omega
theorem mx_le {f : Nat → Nat} {B : Nat} : ∀ n, (∀ i, i < n → f i ≤ B) → sg (fun a b => max a b) f n ≤ B := by
  intro n
  induction n with
  | zero => intro _; exact Nat.zero_le _
  | succ n ih =>
    intro h
    exact Nat.max_le.mpr ⟨ih (fun i hi => h i (by omega)), h n (by omega)⟩
theorem dL_le {u : Nat → Nat → Int32} {f : Nat} (hf : f < 10) : ∀ e, e < 10 → ∀ k, dL u f k e ≤ e + 1 := by
  intro e
  induction e using Nat.strongRecOn with
  | ind e ih =>
    intro he k
    rcases Nat.lt_trichotomy e f with h | h | h
    · rw [dL_lt h he]; exact Nat.zero_le _
    · subst h
      rw [dL_eq he]
      split
      · split <;> omega
      · omega
    · rw [dL_gt h he]
      refine mx_le e (fun i hi => ?_)
      have a := ih i hi (by omega) k
      have b := ih i hi (by omega) (k - 1)
      have a' : sc (dL u f k i) ≤ i + 2 := by unfold sc; split <;> omega
      have b' : sc (dL u f (k - 1) i) ≤ i + 2 := by unfold sc; split <;> omega
      split
      · refine Nat.max_le.mpr ⟨?_, ?_⟩ <;> split <;> omega
      · omega
theorem sm_0 {f : Nat → Nat} : ∀ n, sm f n = 0 ↔ ∀ i, i < n → f i = 0 := by
  intro n
  induction n with
  | zero => exact ⟨fun _ i hi => absurd hi (by omega), fun _ => rfl⟩
  | succ n ih =>
    constructor
    · intro h i hi
      have h1 : sm f n + f n = 0 := h
      by_cases q : i = n
      · subst q; omega
      · exact ih.mp (by omega) i (by omega)
    · intro h
      show sm f n + f n = 0
      rw [ih.mpr (fun i hi => h i (by omega)), h n (by omega)]
theorem mx_0 {f : Nat → Nat} : ∀ n, sg (fun a b => max a b) f n = 0 ↔ ∀ i, i < n → f i = 0 := by
  intro n
  induction n with
  | zero => exact ⟨fun _ i hi => absurd hi (by omega), fun _ => rfl⟩
  | succ n ih =>
    constructor
    · intro h i hi
      have h1 : max (sg (fun a b => max a b) f n) (f n) = 0 := h
      by_cases q : i = n
      · subst q; omega
      · exact ih.mp (by omega) i (by omega)
    · intro h
      show max (sg (fun a b => max a b) f n) (f n) = 0
      rw [ih.mpr (fun i hi => h i (by omega)), h n (by omega)]
      rfl
theorem sc_0 {x : Nat} : sc x = 0 ↔ x = 0 := by unfold sc; split <;> omega
theorem dNL {u : Nat → Nat → Int32} {f : Nat} (hf : f < 10) : ∀ e, e < 10 → ∀ k, (dN u f k e = 0 ↔ dL u f k e = 0) := by
  intro e
  induction e using Nat.strongRecOn with
  | ind e ih =>
    intro he k
    rcases Nat.lt_trichotomy e f with h | h | h
    · rw [dN_lt h he, dL_lt h he]
    · subst h
      rw [dN_eq he, dL_eq he]
    · rw [dN_gt h he, dL_gt h he, sm_0, mx_0]
      refine forall_congr' fun i => forall_congr' fun hi => ?_
      have a := ih i hi (by omega) k
      have b := ih i hi (by omega) (k - 1)
      have a' := sc_0 (x := dL u f k i)
      have b' := sc_0 (x := dL u f (k - 1) i)
      split
      · split <;> split <;> omega
      · exact Iff.rfl
/-- one event from, the steps below K -/
def aG (op : Nat → Nat → Nat) (mb rp : Nat → Bool) (W : Nat → Nat) (k K : Nat) : Nat := if mb k = true then op (if k < K ∧ rp k = true then W k else 0) (if k ≠ 0 ∧ k - 1 < K then W (k - 1) else 0) else 0
def iG (op : Nat → Nat → Nat) (mb rp : Nat → Bool) (W : Nat → Nat) (k K : Nat) : Nat := if mb k = true then op (if k = K ∧ rp k = true then W K else 0) (if k = K + 1 then W K else 0) else 0
theorem aG_s {op : Nat → Nat → Nat} (hm : gM op) {mb rp : Nat → Bool} {W : Nat → Nat} (k K : Nat) : aG op mb rp W k (K + 1) = op (aG op mb rp W k K) (iG op mb rp W k K) := by
  unfold aG iG
  cases mb k with
  | false => simp only [Bool.false_eq_true, if_false]; exact (hm.1 0).symm
  | true =>
    simp only [if_true]
    rw [hm.four]
    congr 1
    · by_cases h1 : k < K
      · have e1 : (k < K + 1) = True := eq_true (by omega)
        have e2 : (k = K) = False := eq_false (by omega)
        have e3 : (k < K) = True := eq_true h1
        simp only [e1, e2, e3, true_and, false_and, if_false]
        exact (hm.1 _).symm
      · by_cases h2 : k = K
        · subst h2
          have e1 : (k < k + 1) = True := eq_true (by omega)
          have e3 : (k < k) = False := eq_false (by omega)
          simp only [e1, e3, true_and, false_and, if_false]
          exact (hm.z _).symm
        · have e1 : (k < K + 1) = False := eq_false (by omega)
          have e2 : (k = K) = False := eq_false h2
          have e3 : (k < K) = False := eq_false h1
          simp only [e1, e2, e3, false_and, if_false]
          exact (hm.1 _).symm
    · by_cases h1 : k ≠ 0 ∧ k - 1 < K
      · rw [if_pos h1, if_pos ⟨h1.1, by omega⟩, if_neg (by omega)]
        exact (hm.1 _).symm
      · rw [if_neg h1]
        by_cases h2 : k = K + 1
        · rw [if_pos h2, if_pos ⟨by omega, by omega⟩, h2]
          exact (hm.z _).symm
        · rw [if_neg h2, if_neg (by omega)]
          exact (hm.1 _).symm
theorem aG_0 {op : Nat → Nat → Nat} (hm : gM op) {mb rp : Nat → Bool} {W : Nat → Nat} (k : Nat) : aG op mb rp W k 0 = 0 := by
  unfold aG
  rw [if_neg (fun q : k < 0 ∧ rp k = true => absurd q.1 (by omega)), if_neg (fun q : k ≠ 0 ∧ k - 1 < 0 => absurd q.2 (by omega)), hm.1]
  split <;> rfl
theorem aG_n {op : Nat → Nat → Nat} {mb rp : Nat → Bool} {W : Nat → Nat} {k n : Nat} (hk : k < n) : aG op mb rp W k n = if mb k = true then op (if rp k = true then W k else 0) (if k = 0 then 0 else W (k - 1)) else 0 := by
  unfold aG
  have e1 : (k < n) = True := eq_true hk
  simp only [e1, true_and]
  by_cases h : k = 0
  · rw [if_neg (by omega : ¬ (k ≠ 0 ∧ k - 1 < n)), if_pos h]
  · rw [if_pos (⟨h, by omega⟩ : k ≠ 0 ∧ k - 1 < n), if_neg h]
end
section
/-! the walk of X through that table: extend, extendAll, runFrom -/
theorem xAdd_1 (i : Nat) (v len : Int32) (q : tyQ) (j : Nat) : (xAdd i v len q).1 j = if j = i then q.1 i + v else q.1 j := rfl
theorem xAdd_2 (i : Nat) (v len : Int32) (q : tyQ) (j : Nat) : (xAdd i v len q).2 j = if j = i then (if len ≤ q.2 i then q.2 i else len) else q.2 j := rfl
theorem mx_nI {a b : Nat} (ha : a < 2 ^ 31) (hb : b < 2 ^ 31) : (if nI a ≤ nI b then nI b else nI a) = nI (max b a) := by
  by_cases h : a ≤ b
  · rw [if_pos ((nI_leI ha hb).mpr h), Nat.max_eq_left h]
  · rw [if_neg (fun q => h ((nI_leI ha hb).mp q)), Nat.max_eq_right (by omega)]
/-- the column e of a table: counts A, lengths B -/
def colX (q : tyQ) (n e : Nat) (A B : Nat → Nat) : Prop := ∀ k, k < n → q.1 (k * 10 + e) = nI (A k) ∧ q.2 (k * 10 + e) = nI (B k)
theorem colX.to {q : tyQ} {n e : Nat} {A B A' B' : Nat → Nat} (h : colX q n e A B) (ha : ∀ k, k < n → A k = A' k) (hb : ∀ k, k < n → B k = B' k) : colX q n e A' B' := fun k hk => by rw [← ha k hk, ← hb k hk]; exact h k hk
/-- an addition to one place of the column e -/
theorem add_col {q : tyQ} {n e k a m : Nat} {A B : Nat → Nat} (he : e < 10) (hm : m ≤ 10) (hB : ∀ k, k < n → B k ≤ 11) (h : colX q n e A B) : colX (xAdd (k * 10 + e) (nI a) (nI m + 1) q) n e (fun k' => A k' + if k' = k then a else 0) (fun k' => max (B k') (if k' = k then m + 1 else 0)) := by
  intro k' hk'
  obtain ⟨h1, h2⟩ := h k' hk'
  have hb := hB k' hk'
  rw [xAdd_1, xAdd_2]
  try dsimp only
  by_cases hq : k' = k
  · subst hq
    rw [if_pos rfl, if_pos rfl, if_pos rfl, if_pos rfl, h1, h2, nI_add, nI_1, mx_nI (by omega) (by omega)]
    exact ⟨rfl, rfl⟩
  · have hne : ¬ k' * 10 + e = k * 10 + e := by omega
    rw [if_neg hne, if_neg hne, if_neg hq, if_neg hq, h1, h2]
    exact ⟨rfl, by rw [Nat.max_zero]⟩
theorem add_oth {q : tyQ} {i x : Nat} {v len : Int32} (h : x ≠ i) : (xAdd i v len q).1 x = q.1 x ∧ (xAdd i v len q).2 x = q.2 x := by
  rw [xAdd_1, xAdd_2, if_neg h, if_neg h]
  exact ⟨rfl, rfl⟩
theorem ext_col {u : Nat → Nat → Int32} {n f k fr e a m : Nat} {q : tyQ} {A B : Nat → Nat} (hk : k < n) (hn : n ≤ 4) (hfr : fr < 10) (he : e < 10) (hne : fr ≠ e) (h1 : q.1 (k * 10 + fr) = nI a) (h2 : q.2 (k * 10 + fr) = nI m) (hz : a = 0 ↔ m = 0) (ha : a < 2 ^ 31) (hm : m ≤ 10) (hB : ∀ k, k < n → B k ≤ 11) (h : colX q n e A B) :
    colX (xExt u n f k fr e q) n e (fun k' => A k' + iG (fun a b => a + b) (fun k' => mtX u f k' (some fr) e) (rpX u) (fun _ => a) k' k) (fun k' => max (B k') (iG (fun a b => max a b) (fun k' => mtX u f k' (some fr) e) (rpX u) (fun _ => sc m) k' k)) ∧ ∀ k' x, k' < n → x < 10 → x ≠ e → (xExt u n f k fr e q).1 (k' * 10 + x) = q.1 (k' * 10 + x) ∧ (xExt u n f k fr e q).2 (k' * 10 + x) = q.2 (k' * 10 + x) := by
  unfold xExt
  by_cases h0 : q.1 (k * 10 + fr) = 0
  · rw [if_pos h0]
    have ha0 : a = 0 := by
      rw [h1] at h0
      exact (nI_eq (b := 0) ha (by decide)).mp (h0.trans nI_0.symm)
    have hm0 : m = 0 := hz.mp ha0
    subst ha0; subst hm0
    refine ⟨h.to (fun k' _ => ?_) (fun k' _ => ?_), fun _ _ _ _ _ => ⟨rfl, rfl⟩⟩
    · unfold iG; simp
    · unfold iG; simp [sc]
  · rw [if_neg h0]
    have hm1 : m ≠ 0 := fun q0 => h0 (by rw [h1, hz.mpr q0]; exact nI_0)
    have hsc : sc m = m + 1 := by unfold sc; rw [if_neg hm1]
    have hrp : ¬ u 3 k = 0 ↔ rpX u k = true := by unfold rpX; exact (decide_eq_true_iff).symm
    -- the first addition
    have s1 : colX (xExt1 u f k fr e q) n e (fun k' => A k' + if k' = k ∧ rpX u k' = true ∧ mtX u f k' (some fr) e = true then a else 0) (fun k' => max (B k') (if k' = k ∧ rpX u k' = true ∧ mtX u f k' (some fr) e = true then m + 1 else 0)) ∧ ∀ k' x, k' < n → x < 10 → x ≠ e → (xExt1 u f k fr e q).1 (k' * 10 + x) = q.1 (k' * 10 + x) ∧ (xExt1 u f k fr e q).2 (k' * 10 + x) = q.2 (k' * 10 + x) := by
      unfold xExt1
      by_cases c1 : ¬ u 3 k = 0 ∧ mtX u f k (some fr) e = true
      · rw [if_pos c1, h1, h2]
        have c2 := hrp.mp c1.1
        refine ⟨(add_col he hm hB h).to (fun k' _ => ?_) (fun k' _ => ?_), fun k' x _ hx hxe => add_oth (by omega)⟩
        · try dsimp only
          by_cases q1 : k' = k
          · subst q1; simp [c1.2, c2]
          · simp [q1]
        · try dsimp only
          by_cases q1 : k' = k
          · subst q1; simp [c1.2, c2]
          · simp [q1]
      · rw [if_neg c1]
        have c2 : ∀ k', ¬ (k' = k ∧ rpX u k' = true ∧ mtX u f k' (some fr) e = true) := by
          rintro k' ⟨q1, q2, q3⟩
          subst q1
          exact c1 ⟨hrp.mpr q2, q3⟩
        refine ⟨h.to (fun k' _ => ?_) (fun k' _ => ?_), fun _ _ _ _ _ => ⟨rfl, rfl⟩⟩
        · rw [if_neg (c2 k')]; rfl
        · rw [if_neg (c2 k'), Nat.max_zero]
    obtain ⟨s1, o1⟩ := s1
    have v1 := (o1 k fr hk hfr hne)
    have hB1 : ∀ k', k' < n → max (B k') (if k' = k ∧ rpX u k' = true ∧ mtX u f k' (some fr) e = true then m + 1 else 0) ≤ 11 := by
      intro k' hk'
      have := hB k' hk'
      refine Nat.max_le.mpr ⟨this, ?_⟩
      split <;> omega
    generalize xExt1 u f k fr e q = q1 at s1 o1 v1 ⊢
    unfold xExt2
    by_cases c1 : k + 1 < n ∧ mtX u f (k + 1) (some fr) e = true
    · rw [if_pos c1, v1.1, v1.2, h1, h2]
      refine ⟨(add_col he hm hB1 s1).to (fun k' hk' => ?_) (fun k' hk' => ?_), fun k' x hk' hx hxe => ?_⟩
      · try dsimp only
        unfold iG
        by_cases q1 : k' = k
        · subst q1
          cases hq1 : mtX u f k' (some fr) e <;> cases hq2 : rpX u k' <;> simp [hq1, hq2]
        · by_cases q2 : k' = k + 1
          · subst q2
            simp [c1.2]
          · simp [q1, q2]
      · try dsimp only
        unfold iG
        rw [hsc]
        by_cases q1 : k' = k
        · subst q1
          cases hq1 : mtX u f k' (some fr) e <;> cases hq2 : rpX u k' <;> simp [hq1, hq2]
        · by_cases q2 : k' = k + 1
          · subst q2
            simp [c1.2]
          · simp [q1, q2]
      · have := add_oth (q := q1) (i := (k + 1) * 10 + e) (x := k' * 10 + x) (v := nI a) (len := nI m + 1) (by omega)
        rw [this.1, this.2]
        exact o1 k' x hk' hx hxe
    · rw [if_neg c1]
      have c2 : ∀ k', k' < n → k' = k + 1 → mtX u f k' (some fr) e = false := by
        intro k' hk' q1
        subst q1
        cases hq : mtX u f (k + 1) (some fr) e with
        | false => rfl
        | true => exact absurd ⟨hk', hq⟩ c1
      refine ⟨s1.to (fun k' hk' => ?_) (fun k' hk' => ?_), o1⟩
      · try dsimp only
        unfold iG
        by_cases q1 : k' = k
        · subst q1
          cases hq1 : mtX u f k' (some fr) e <;> cases hq2 : rpX u k' <;> simp [hq1, hq2]
        · by_cases q2 : k' = k + 1
          · have := c2 k' hk' q2
            subst q2
            simp [this]
          · simp [q1, q2]
      · try dsimp only
        unfold iG
        rw [hsc]
        by_cases q1 : k' = k
        · subst q1
          cases hq1 : mtX u f k' (some fr) e <;> cases hq2 : rpX u k' <;> simp [hq1, hq2]
        · by_cases q2 : k' = k + 1
          · have := c2 k' hk' q2
            subst q2
            simp [this]
          · simp [q1, q2]
theorem aG_le {mb rp : Nat → Bool} {W : Nat → Nat} {k K : Nat} (h : ∀ k, W k ≤ 11) : aG (fun a b => max a b) mb rp W k K ≤ 11 := by
  unfold aG
  have h1 := h k
  have h2 := h (k - 1)
  split
  · refine Nat.max_le.mpr ⟨?_, ?_⟩ <;> split <;> omega
  · omega
/-- extendAll, K steps of it -/
theorem exA_col {u : Nat → Nat → Int32} {n f fr e : Nat} {q : tyQ} {a m A B : Nat → Nat} (hn : n ≤ 4) (hfr : fr < 10) (he : e < 10) (hne : fr ≠ e) (hc : colX q n fr a m) (hz : ∀ k, a k = 0 ↔ m k = 0) (ha : ∀ k, a k < 2 ^ 31) (hm : ∀ k, m k ≤ 10) (hB : ∀ k, k < n → B k ≤ 11) (h : colX q n e A B) : ∀ K, K ≤ n →
    colX (xExA u n f fr e q K) n e (fun k' => A k' + aG (fun a b => a + b) (fun k' => mtX u f k' (some fr) e) (rpX u) a k' K) (fun k' => max (B k') (aG (fun a b => max a b) (fun k' => mtX u f k' (some fr) e) (rpX u) (fun k => sc (m k)) k' K)) ∧ ∀ k' x, k' < n → x < 10 → x ≠ e → (xExA u n f fr e q K).1 (k' * 10 + x) = q.1 (k' * 10 + x) ∧ (xExA u n f fr e q K).2 (k' * 10 + x) = q.2 (k' * 10 + x) := by
  have hsc : ∀ k, sc (m k) ≤ 11 := fun k => by have := hm k; unfold sc; split <;> omega
  intro K
  induction K with
  | zero =>
    intro _
    refine ⟨h.to (fun k' _ => ?_) (fun k' _ => ?_), fun _ _ _ _ _ => ⟨rfl, rfl⟩⟩
    · rw [aG_0 gM_add]; rfl
    · rw [aG_0 gM_max, Nat.max_zero]
  | succ K ih =>
    intro hK
    obtain ⟨i1, i2⟩ := ih (by omega)
    have v := i2 K fr (by omega) hfr hne
    have w := hc K (by omega)
    obtain ⟨j1, j2⟩ := ext_col (u := u) (f := f) (k := K) (fr := fr) (e := e) (q := xExA u n f fr e q K) (a := a K) (m := m K) (by omega) hn hfr he hne (v.1.trans w.1) (v.2.trans w.2) (hz K) (ha K) (hm K) (fun k hk => Nat.max_le.mpr ⟨hB k hk, aG_le hsc⟩) i1
    refine ⟨j1.to (fun k' _ => ?_) (fun k' _ => ?_), fun k' x hk' hx hxe => ?_⟩
    · try dsimp only
      rw [aG_s gM_add]
      unfold iG
      exact Nat.add_assoc _ _ _
    · try dsimp only
      rw [aG_s gM_max]
      unfold iG
      exact Nat.max_assoc _ _ _
    · have a1 := j2 k' x hk' hx hxe
      have a2 := i2 k' x hk' hx hxe
      exact ⟨a1.1.trans a2.1, a1.2.trans a2.2⟩
end
section
/-! runFrom: the whole table -/
theorem iw_iff {u : Nat → Nat → Int32} {n c : Nat} {w : Int32} (h : sp_ok u n c w) : ∃ (W : Nat) (T : Nat → Nat), W ≤ 40 ∧ w = nI W ∧ (∀ i, i < c → u 6 i = nI (T i) ∧ T i ≤ 5 * (i + 1)) ∧ (∀ i j, i ≤ j → j < c → T i ≤ T j) ∧ ∀ f e, f ≤ e → e < c → u 6 e - u 6 f = nI (T e - T f) ∧ (iwX u w f e = true ↔ T e - T f ≤ W) := by
  obtain ⟨h1, h2, h3, ⟨W, hW, hw⟩, T, h5, h6⟩ := h
  refine ⟨W, T, hW, hw, h5, h6, fun f e hf he => ?_⟩
  have a := h5 e he
  have b := h5 f (by omega)
  have m := h6 f e hf he
  have hs : u 6 e - u 6 f = nI (T e - T f) := by rw [a.1, b.1, pk_sub m]
  refine ⟨hs, ?_⟩
  unfold iwX
  rw [decide_eq_true_iff, hs, hw, nI_ltI (by omega) (by omega)]
  omega
theorem iw_self {u : Nat → Nat → Int32} {n c : Nat} {w : Int32} (h : sp_ok u n c w) {f : Nat} (hf : f < c) : iwX u w f f = true := by
  obtain ⟨W, T, -, -, -, -, h6⟩ := iw_iff h
  exact (h6 f f (Nat.le_refl _) hf).2.mpr (by omega)
theorem iw_mono {u : Nat → Nat → Int32} {n c : Nat} {w : Int32} (h : sp_ok u n c w) {f x e : Nat} (hf : f ≤ x) (hx : x ≤ e) (he : e < c) (hi : iwX u w f e = true) : iwX u w f x = true := by
  obtain ⟨W, T, -, -, -, h5, h6⟩ := iw_iff h
  have a := (h6 f e (by omega) he).2.mp hi
  have b := h5 x e hx he
  exact (h6 f x hf (by omega)).2.mpr (by omega)
def wN (u : Nat → Nat → Int32) (w : Int32) (f k e : Nat) : Nat := if iwX u w f e = true then dN u f k e else 0
def wL (u : Nat → Nat → Int32) (w : Int32) (f k e : Nat) : Nat := if iwX u w f e = true then dL u f k e else 0
def tN (u : Nat → Nat → Int32) (f e k x : Nat) : Nat := if mtX u f k (some x) e = true then (if rpX u k = true then dN u f k x else 0) + (if k = 0 then 0 else dN u f (k - 1) x) else 0
def tL (u : Nat → Nat → Int32) (f e k x : Nat) : Nat := if mtX u f k (some x) e = true then max (if rpX u k = true then sc (dL u f k x) else 0) (if k = 0 then 0 else sc (dL u f (k - 1) x)) else 0
theorem dN_31 {u : Nat → Nat → Int32} {f e : Nat} (hf : f < 10) (he : e < 10) (k : Nat) : dN u f k e < 2 ^ 31 := by
  have h1 := dN_le (u := u) hf e he k
  have h2 : 3 ^ e ≤ 3 ^ 9 := Nat.pow_le_pow_right (by decide) (by omega)
  have h3 : (3 : Nat) ^ 9 < 2 ^ 31 := by decide
  omega
theorem tL_le {u : Nat → Nat → Int32} {f e k x : Nat} (hf : f < 10) (hx : x < 10) : tL u f e k x ≤ 11 := by
  have a := dL_le (u := u) hf x hx k
  have b := dL_le (u := u) hf x hx (k - 1)
  have a' : sc (dL u f k x) ≤ 11 := by unfold sc; split <;> omega
  have b' : sc (dL u f (k - 1) x) ≤ 11 := by unfold sc; split <;> omega
  unfold tL
  split
  · refine Nat.max_le.mpr ⟨?_, ?_⟩ <;> split <;> omega
  · omega
theorem tN_sum {u : Nat → Nat → Int32} {f e k : Nat} (hf : f < e) (he : e < 10) : sm (fun i => tN u f e k (f + i)) (e - f) = dN u f k e := by
  rw [dN_gt hf he]
  obtain ⟨d, rfl⟩ : ∃ d, e = f + d := ⟨e - f, by omega⟩
  rw [Nat.add_sub_cancel_left]
  show _ = sg (fun a b => a + b) _ (f + d)
  rw [sg_split gM_add, sg_zero gM_add f (fun i hi => ?_)]
  · exact (Nat.zero_add _).symm
  · rw [dN_lt hi (by omega), dN_lt hi (by omega)]
    split <;> simp
theorem tL_sum {u : Nat → Nat → Int32} {f e k : Nat} (hf : f < e) (he : e < 10) : sg (fun a b => max a b) (fun i => tL u f e k (f + i)) (e - f) = dL u f k e := by
  rw [dL_gt hf he]
  obtain ⟨d, rfl⟩ : ∃ d, e = f + d := ⟨e - f, by omega⟩
  rw [Nat.add_sub_cancel_left, sg_split gM_max, sg_zero gM_max f (fun i hi => ?_)]
  · exact (Nat.zero_max _).symm
  · rw [dL_lt hi (by omega), dL_lt hi (by omega)]
    split <;> simp [sc]
theorem fr_col {u : Nat → Nat → Int32} {n f e : Nat} {q : tyQ} (hn : n ≤ 4) (hf : f < e) (he : e < 10) (hc : ∀ x, f ≤ x → x < e → colX q n x (fun k => dN u f k x) (fun k => dL u f k x)) (h0 : colX q n e (fun _ => 0) (fun _ => 0)) : ∀ j, j ≤ e - f →
    colX (xFr u n f e q j) n e (fun k => sm (fun i => tN u f e k (f + i)) j) (fun k => sg (fun a b => max a b) (fun i => tL u f e k (f + i)) j) ∧ ∀ k' x, k' < n → x < 10 → x ≠ e → (xFr u n f e q j).1 (k' * 10 + x) = q.1 (k' * 10 + x) ∧ (xFr u n f e q j).2 (k' * 10 + x) = q.2 (k' * 10 + x) := by
  intro j
  induction j with
  | zero => intro _; exact ⟨h0, fun _ _ _ _ _ => ⟨rfl, rfl⟩⟩
  | succ j ih =>
    intro hj
    obtain ⟨i1, i2⟩ := ih (by omega)
    have hcx : colX (xFr u n f e q j) n (f + j) (fun k => dN u f k (f + j)) (fun k => dL u f k (f + j)) := by
      intro k hk
      have a := i2 k (f + j) hk (by omega) (by omega)
      have b := hc (f + j) (by omega) (by omega) k hk
      exact ⟨a.1.trans b.1, a.2.trans b.2⟩
    obtain ⟨j1, j2⟩ := exA_col (u := u) (f := f) (e := e) hn (by omega : f + j < 10) he (by omega) hcx (fun k => dNL (by omega) (f + j) (by omega) k) (fun k => dN_31 (by omega) (by omega) k) (fun k => by have := dL_le (u := u) (f := f) (by omega) (f + j) (by omega) k; omega) (fun k hk => mx_le j (fun i hi => tL_le (by omega) (by omega))) i1 n (Nat.le_refl _)
    refine ⟨j1.to (fun k' hk' => ?_) (fun k' hk' => ?_), fun k' x hk' hx hxe => ?_⟩
    · rw [aG_n hk']; rfl
    · rw [aG_n hk']; rfl
    · have a1 := j2 k' x hk' hx hxe
      have a2 := i2 k' x hk' hx hxe
      exact ⟨a1.1.trans a2.1, a1.2.trans a2.2⟩
def tabX (u : Nat → Nat → Int32) (w : Int32) (n f i : Nat) (q : tyQ) : Prop := (∀ e, f ≤ e → e ≤ f + i → colX q n e (fun k => wN u w f k e) (fun k => wL u w f k e)) ∧ ∀ e, f + i < e → e < 10 → colX q n e (fun _ => 0) (fun _ => 0)
theorem ev_tab {u : Nat → Nat → Int32} {n c : Nat} {w : Int32} (h : sp_ok u n c w) {f : Nat} {q : tyQ} (h0 : tabX u w n f 0 q) : ∀ i, f + i < c → tabX u w n f i (xEv u n w f q i) := by
  have hn : n ≤ 4 := h.1
  have hc : c ≤ 10 := h.2.1
  intro i
  induction i with
  | zero => intro _; exact h0
  | succ i ih =>
    intro hi
    obtain ⟨i1, i2⟩ := ih (by omega)
    simp only [xEv]
    by_cases hw : iwX u w f (f + 1 + i) = true
    · rw [if_pos hw]
      have hcx : ∀ x, f ≤ x → x < f + 1 + i → colX (xEv u n w f q i) n x (fun k => dN u f k x) (fun k => dL u f k x) := by
        intro x h1 h2
        have hx := iw_mono h h1 (by omega) (by omega) hw
        refine (i1 x h1 (by omega)).to (fun k _ => ?_) (fun k _ => ?_)
        · unfold wN; rw [if_pos hx]
        · unfold wL; rw [if_pos hx]
      obtain ⟨j1, j2⟩ := fr_col (u := u) hn (by omega : f < f + 1 + i) (by omega) hcx (i2 (f + 1 + i) (by omega) (by omega)) (1 + i) (by omega)
      refine ⟨fun e h1 h2 => ?_, fun e h1 h2 => ?_⟩
      · by_cases he : e = f + 1 + i
        · subst he
          have e1 : f + 1 + i - f = 1 + i := by omega
          refine j1.to (fun k _ => ?_) (fun k _ => ?_)
          · unfold wN
            rw [if_pos hw, ← tN_sum (by omega) (by omega), e1]
          · unfold wL
            rw [if_pos hw, ← tL_sum (by omega) (by omega), e1]
        · intro k hk
          have a := j2 k e hk (by omega) he
          have b := i1 e h1 (by omega) k hk
          exact ⟨a.1.trans b.1, a.2.trans b.2⟩
      · intro k hk
        have a := j2 k e hk h2 (by omega)
        have b := i2 e (by omega) h2 k hk
        exact ⟨a.1.trans b.1, a.2.trans b.2⟩
    · rw [if_neg hw]
      refine ⟨fun e h1 h2 => ?_, fun e h1 h2 => i2 e (by omega) h2⟩
      by_cases he : e = f + 1 + i
      · subst he
        refine (i2 (f + 1 + i) (by omega) (by omega)).to (fun k _ => ?_) (fun k _ => ?_)
        · unfold wN; rw [if_neg hw]
        · unfold wL; rw [if_neg hw]
      · exact i1 e h1 (by omega)
theorem r0_tab {u : Nat → Nat → Int32} {n c : Nat} {w : Int32} (h : sp_ok u n c w) {f : Nat} (hf : f < c) (q : tyQ) : tabX u w n f 0 (xR0 u n f (xZ q.1 40, xZ q.2 40)) := by
  have hn : n ≤ 4 := h.1
  have hc : c ≤ 10 := h.2.1
  have hz : ∀ e, e < 10 → colX (xZ q.1 40, xZ q.2 40) n e (fun _ => 0) (fun _ => 0) := by
    intro e he k hk
    have : k * 10 + e < 40 := by omega
    show (if k * 10 + e < 40 then (0 : Int32) else _) = nI 0 ∧ (if k * 10 + e < 40 then (0 : Int32) else _) = nI 0
    rw [if_pos this, if_pos this]
    exact ⟨nI_0.symm, nI_0.symm⟩
  have hs := iw_self h hf
  unfold xR0
  by_cases h1 : 0 < n ∧ mtX u f 0 none f = true
  · rw [if_pos h1]
    refine ⟨fun e he1 he2 => ?_, fun e he1 he2 => ?_⟩
    · obtain rfl : e = f := by omega
      intro k hk
      obtain ⟨z1, z2⟩ := hz e (by omega) k hk
      rw [xAdd_1, xAdd_2]
      unfold wN wL
      dsimp only at z1 z2 ⊢
      rw [if_pos hs, if_pos hs, dN_eq (by omega), dL_eq (by omega)]
      by_cases hk0 : k = 0
      · subst hk0
        have e1 : 0 * 10 + e = e := by omega
        rw [e1] at z1 z2 ⊢
        simp only [if_true, z1, z2, h1.2]
        decide
      · rw [if_neg (by omega : ¬ k * 10 + e = e), if_neg (by omega : ¬ k * 10 + e = e), z1, z2]
        simp [hk0]
    · intro k hk
      have := add_oth (q := (xZ q.1 40, xZ q.2 40)) (i := f) (x := k * 10 + e) (v := 1) (len := 1) (by omega)
      rw [this.1, this.2]
      exact hz e he2 k hk
  · rw [if_neg h1]
    refine ⟨fun e he1 he2 => ?_, fun e he1 he2 => hz e he2⟩
    obtain rfl : e = f := by omega
    refine (hz e (by omega)).to (fun k hk => ?_) (fun k hk => ?_)
    · unfold wN
      rw [if_pos hs, dN_eq (by omega)]
      by_cases hk0 : k = 0
      · subst hk0
        rw [if_neg (fun q => h1 ⟨by omega, q⟩)]
      · simp [hk0]
    · unfold wL
      rw [if_pos hs, dL_eq (by omega)]
      by_cases hk0 : k = 0
      · subst hk0
        rw [if_neg (fun q => h1 ⟨by omega, q⟩)]
      · simp [hk0]
/-- runFrom f: the table at every event from f on -/
theorem run_tab {u : Nat → Nat → Int32} {n c : Nat} {w : Int32} (h : sp_ok u n c w) {f : Nat} (hf : f < c) (q : tyQ) {e : Nat} (he1 : f ≤ e) (he2 : e < c) : colX (xRun u n w c f q) n e (fun k => wN u w f k e) (fun k => wL u w f k e) := by
  have := ev_tab h (r0_tab h hf q) (c - (f + 1)) (by omega)
  exact this.1 e he1 (by omega)
end
section
/-! M: take and findsOf against the runs of one set; sums over sets -/
theorem mt_eq {u : Nat → Nat → Int32} {n c : Nat} {w : Int32} (h : sp_ok u n c w) {k : Nat} (hk : k < n) (f : Nat) (l : Option Nat) (e : Nat) : mtM u f k l e = mtX u f k l e := by
  have h3 := h.2.2.1 k hk
  unfold mtM mtX
  by_cases hc : ¬ u 0 k = 4 ∧ ¬ u 0 k = u 4 e
  · rw [if_pos hc, if_pos (⟨hc.1, fun q => hc.2 q.symm⟩ : ¬ u 0 k = 4 ∧ ¬ u 4 e = u 0 k)]
  · rw [if_neg hc, if_neg (fun q : ¬ u 0 k = 4 ∧ ¬ u 4 e = u 0 k => hc ⟨q.1, fun r => q.2 r.symm⟩)]
    rcases h3 with q | q | q | q | q <;> rw [q] <;> rfl
theorem mB_at {y b : tyA} : ∀ n k, k < n → mB y b n k = y k := by
  intro n
  induction n with
  | zero => intro k hk; omega
  | succ n ih =>
    intro k hk
    show upd (mB y b n) n (y n) k = y k
    by_cases q : k = n
    · rw [q, pk_us]
    · rw [pk_un q]; exact ih k (by omega)
theorem mY_at {u : Nat → Nat → Int32} {e : Nat} {l : Option Nat} {f : Nat} {b y : tyA} : ∀ n k, k < n → mY u e l f b y n k = cond (mtM u f k l e) (mS u l b k) 0 := by
  intro n
  induction n with
  | zero => intro k hk; omega
  | succ n ih =>
    intro k hk
    show upd (mY u e l f b y n) n (cond (mtM u f n l e) (mS u l b n) 0) k = _
    by_cases q : k = n
    · rw [q, pk_us]
    · rw [pk_un q]; exact ih k (by omega)
abbrev foN (u : Nat → Nat → Int32) (f s d : Nat) : Option Nat × (Nat → Nat) := foG (mtX u) (rpX u) (fun a b => a + b) (fun x => x) f s d
theorem tk_at {u : Nat → Nat → Int32} {n c : Nat} {w : Int32} (h : sp_ok u n c w) {f e : Nat} {l : Option Nat} {v : Nat → Nat} {q : tyQ} (hv : l ≠ none → ∀ k, k < n → q.1 k = nI (v k)) {k : Nat} (hk : k < n) : (mTk u n e l f q).1 k = nI (tkG (mtX u) (rpX u) (fun a b => a + b) (fun x => x) f l v e k) := by
  unfold mTk tkG
  dsimp only
  rw [mY_at n k hk, mt_eq h hk]
  cases hm : mtX u f k l e with
  | false => simp only [cond_false, Bool.false_eq_true, if_false]; exact nI_0.symm
  | true =>
    simp only [cond_true, if_true]
    cases l with
    | none =>
      show (if k = 0 then (1 : Int32) else 0) = nI (if k = 0 then 1 else 0)
      by_cases h0 : k = 0
      · rw [if_pos h0, if_pos h0]; rfl
      · rw [if_neg h0, if_neg h0]; rfl
    | some j =>
      have hv := hv (by simp)
      have a : (if u 3 k = 0 then (0 : Int32) else mB q.1 q.2 n k) = nI (if rpX u k = true then v k else 0) := by
        unfold rpX
        by_cases h3 : u 3 k = 0
        · rw [if_pos h3, if_neg (by simp [h3])]; exact nI_0.symm
        · rw [if_neg h3, if_pos (by simp [h3]), mB_at n k hk, hv k hk]
      show (if k = 0 then (if u 3 k = 0 then (0 : Int32) else mB q.1 q.2 n k) else (if u 3 k = 0 then (0 : Int32) else mB q.1 q.2 n k) + mB q.1 q.2 n (k - 1)) = nI ((if rpX u k = true then v k else 0) + (if k = 0 then 0 else v (k - 1)))
      rw [a]
      by_cases h0 : k = 0
      · rw [if_pos h0, if_pos h0]; rfl
      · rw [if_neg h0, if_neg h0, mB_at n (k - 1) (by omega), hv (k - 1) (by omega), nI_add]
theorem fo_at {u : Nat → Nat → Int32} {n c : Nat} {w : Int32} (h : sp_ok u n c w) {s : Nat} {q : tyQ} : ∀ d, (mFo u n s q d).1 = (foN u (mFi s 10) s d).1 ∧ ((mFo u n s q d).1 ≠ none → ∀ k, k < n → (mFo u n s q d).2.1 k = nI ((foN u (mFi s 10) s d).2 k)) := by
  intro d
  induction d with
  | zero => exact ⟨rfl, fun q => absurd rfl q⟩
  | succ d ih =>
    by_cases hb : mbit s d = 1
    · rw [mFo_t hb]
      unfold foN
      rw [foG_t hb]
      refine ⟨rfl, fun _ k hk => ?_⟩
      dsimp only
      rw [← ih.1]
      exact tk_at h ih.2 hk
    · rw [mFo_f hb]
      unfold foN
      rw [foG_f (mb_0 hb)]
      exact ih
/-- what findsOf answers -/
def fvN (u : Nat → Nat → Int32) (n : Nat) (w : Int32) (c s : Nat) : Nat := match (foN u (mFi s 10) s c).1 with
  | none => 0
  | some l => if iwX u w (mFi s 10) l = true ∧ 0 < n then (foN u (mFi s 10) s c).2 (n - 1) else 0
theorem fv_eq {u : Nat → Nat → Int32} {n c : Nat} {w : Int32} (h : sp_ok u n c w) (s : Nat) (q : tyQ) : mFv u n w c s q = nI (fvN u n w c s) := by
  obtain ⟨a, b⟩ := fo_at h (s := s) (q := q) c
  unfold mFv fvN
  rw [← a]
  cases hl : (mFo u n s q c).1 with
  | none => exact nI_0.symm
  | some l =>
    dsimp only
    by_cases hc : iwX u w (mFi s 10) l = true ∧ 0 < n
    · rw [if_pos hc, if_pos hc]
      exact b (by rw [hl]; simp) (n - 1) (by omega)
    · rw [if_neg hc, if_neg hc]; exact nI_0.symm
theorem fv_0 {u : Nat → Nat → Int32} {n c : Nat} {w : Int32} : fvN u n w c 0 = 0 := by
  unfold fvN foN
  rw [foG_0]
theorem fv_top {u : Nat → Nat → Int32} {n c : Nat} {w : Int32} {s e : Nat} (hs : s < 2 ^ e) (he : e < c) : fvN u n w c (2 ^ e + s) = if iwX u w (mFi (2 ^ e + s) 10) e = true ∧ 0 < n then (foN u (mFi (2 ^ e + s) 10) (2 ^ e + s) (e + 1)).2 (n - 1) else 0 := by
  unfold fvN foN
  rw [foG_past hs (by omega)]
  have h1 : (foG (mtX u) (rpX u) (fun a b => a + b) (fun x => x) (mFi (2 ^ e + s) 10) (2 ^ e + s) (e + 1)).1 = some e := by rw [foG_top hs]
  rw [h1]
/-- the finds with first event f and last event e -/
def rW (u : Nat → Nat → Int32) (n : Nat) (w : Int32) (f e : Nat) : Nat := if 0 < n then wN u w f (n - 1) e else 0
theorem rW_lt {u : Nat → Nat → Int32} {n : Nat} {w : Int32} {f e : Nat} (he : e < f) (h10 : e < 10) : rW u n w f e = 0 := by
  unfold rW wN
  rw [dN_lt he h10]
  split
  · split <;> rfl
  · rfl
theorem by_first {u : Nat → Nat → Int32} {n c : Nat} {w : Int32} {e : Nat} (he : e < c) (hc : c ≤ 10) (p : Nat → Bool) : sm (fun s => if p (mFi (2 ^ e + s) 10) = true then fvN u n w c (2 ^ e + s) else 0) (2 ^ e) = sm (fun f => if p f = true then rW u n w f e else 0) (e + 1) := by
  have e1 : ∀ f, f < e + 1 → (if p f = true then rW u n w f e else 0) = sm (fun s => if f = mFi (2 ^ e + s) 10 then (if p f = true then (if iwX u w f e = true ∧ 0 < n then (foN u f (2 ^ e + s) (e + 1)).2 (n - 1) else 0) else 0) else 0) (2 ^ e) := by
    intro f _
    by_cases hp : p f = true
    · rw [if_pos hp]
      unfold rW wN dN dG
      by_cases hn : 0 < n
      · rw [if_pos hn]
        by_cases hi : iwX u w f e = true
        · rw [if_pos hi]
          refine sg_congr _ (fun s _ => ?_)
          by_cases hq : mFi (2 ^ e + s) 10 = f
          · rw [if_pos hq, if_pos hq.symm, if_pos hp, if_pos ⟨hi, hn⟩]
          · rw [if_neg hq, if_neg (fun q => hq q.symm)]
        · rw [if_neg hi]
          refine (sg_zero gM_add _ (fun s _ => ?_)).symm
          rw [if_neg (fun q : iwX u w f e = true ∧ 0 < n => hi q.1)]
          split <;> first | rfl | (split <;> rfl)
      · rw [if_neg hn]
        refine (sg_zero gM_add _ (fun s _ => ?_)).symm
        rw [if_neg (fun q : iwX u w f e = true ∧ 0 < n => hn q.2)]
        split <;> first | rfl | (split <;> rfl)
    · rw [if_neg hp]
      refine (sg_zero gM_add _ (fun s _ => ?_)).symm
      split <;> rfl
  refine Eq.trans ?_ (sg_congr (e + 1) e1).symm
  refine Eq.trans ?_ (sg_swap gM_add (2 ^ e) (e + 1)).symm
  refine sg_congr _ (fun s hs => ?_)
  rw [sg_one gM_add (f := fun f => if p f = true then (if iwX u w f e = true ∧ 0 < n then (foN u f (2 ^ e + s) (e + 1)).2 (n - 1) else 0) else 0) (mFi (2 ^ e + s) 10) (e + 1)]
  have := fst_le (by omega : e < 10) hs
  rw [if_pos (show mFi (2 ^ e + s) 10 < e + 1 by omega)]
  by_cases hp : p (mFi (2 ^ e + s) 10) = true
  · rw [if_pos hp, if_pos hp, fv_top hs he]
  · rw [if_neg hp, if_neg hp]
/-- M's sums -/
theorem msum_eq {u : Nat → Nat → Int32} {n c : Nat} {w : Int32} (h : sp_ok u n c w) (p : Nat → Bool) (q : tyQ) : ∀ d, mSum u n w c p q d = nI (sm (fun s => if p (s + 1) = true then fvN u n w c (s + 1) else 0) d) := by
  intro d
  induction d with
  | zero => exact nI_0.symm
  | succ d ih =>
    show _ = nI (sm (fun s => if p (s + 1) = true then fvN u n w c (s + 1) else 0) d + (if p (d + 1) = true then fvN u n w c (d + 1) else 0))
    cases hp : p (d + 1) with
    | true => rw [mSum_t hp, ih, fv_eq h, nI_add, if_pos rfl]
    | false => rw [mSum_f hp, ih, if_neg (by decide), Nat.add_zero]
theorem tot_eq {u : Nat → Nat → Int32} {n c : Nat} {w : Int32} (p : Nat → Bool) (g : Nat → Nat) : sm (fun s => if p (s + 1) = true then g (s + 1) * fvN u n w c (s + 1) else 0) (2 ^ c - 1) = sm (fun e => sm (fun s => if p (2 ^ e + s) = true then g (2 ^ e + s) * fvN u n w c (2 ^ e + s) else 0) (2 ^ e)) c := by
  have h1 := sg_shift gM_add (g := fun s => if p s = true then g s * fvN u n w c s else 0) (2 ^ c - 1)
  have h2 := sg_grp gM_add (f := fun s => if p s = true then g s * fvN u n w c s else 0) c
  rw [show 2 ^ c - 1 + 1 = 2 ^ c by have := Nat.two_pow_pos c; omega] at h1
  rw [h1] at h2
  exact Nat.add_left_cancel h2
theorem tot1 {u : Nat → Nat → Int32} {n c : Nat} {w : Int32} (p : Nat → Bool) : sm (fun s => if p (s + 1) = true then fvN u n w c (s + 1) else 0) (2 ^ c - 1) = sm (fun e => sm (fun s => if p (2 ^ e + s) = true then fvN u n w c (2 ^ e + s) else 0) (2 ^ e)) c := by
  have := tot_eq (u := u) (n := n) (c := c) (w := w) p (fun _ => 1)
  simpa using this
theorem msum_tot {u : Nat → Nat → Int32} {n c : Nat} {w : Int32} (h : sp_ok u n c w) (p : Nat → Bool) (q : tyQ) : mSum u n w c p q (2 ^ c - 1) = nI (sm (fun e => sm (fun s => if p (2 ^ e + s) = true then fvN u n w c (2 ^ e + s) else 0) (2 ^ e)) c) := by rw [msum_eq h, tot1]
/-- X's sums: whole, behind runFrom f -/
theorem wh_eq {u : Nat → Nat → Int32} {n c : Nat} {w : Int32} (h : sp_ok u n c w) {f e : Nat} (hf : f ≤ e) (he : e < c) (q : tyQ) : xWh n (xRun u n w c f q).1 e = nI (rW u n w f e) := by
  unfold xWh rW
  by_cases hn : n = 0
  · rw [if_pos hn, if_neg (by omega)]; exact nI_0.symm
  · rw [if_neg hn, if_pos (by omega)]
    exact (run_tab h (by omega) q hf he (n - 1) (by omega)).1
end
section
/-! the counts: endingAt, beginningAt, finds, lastValues -/
theorem s_end {u : Nat → Nat → Int32} {n c : Nat} {w : Int32} (h : sp_ok u n c w) {e : Nat} (he : e < c) (z : tyZ) : ∀ d, d ≤ e + 1 → sEnd u n w c e z d = nI (sm (fun f => rW u n w f e) d) := by
  intro d
  induction d with
  | zero => intro _; exact nI_0.symm
  | succ d ih =>
    intro hd
    show sEnd u n w c e z d + xWh n (xRun u n w c d ((zEnd u n w c z d).2.1, (zEnd u n w c z d).2.2.2)).1 e = nI (sm (fun f => rW u n w f e) d + rW u n w d e)
    rw [ih (by omega), wh_eq h (by omega) he, nI_add]
theorem in_all {u : Nat → Nat → Int32} {n c : Nat} {w : Int32} {e : Nat} (he : e < c) (hc : c ≤ 10) : sm (fun s => fvN u n w c (2 ^ e + s)) (2 ^ e) = sm (fun f => rW u n w f e) (e + 1) := by
  have := by_first (u := u) (n := n) (w := w) he hc (fun _ => true)
  simpa using this
theorem pl_end {u : Nat → Nat → Int32} {n c : Nat} {w : Int32} (h : sp_ok u n c w) (e : Nat) (he : e < c) (z : tyZ) (q : tyQ) : sEnd u n w c e z (e + 1) = mSum u n w c (fun s => decide (mLa s 10 = e)) q (2 ^ c - 1) := by
  have hc := h.2.1
  rw [s_end h he z (e + 1) (Nat.le_refl _), msum_tot h, ← in_all he hc]
  congr 1
  have e1 : ∀ e', e' < c → sm (fun s => if decide (mLa (2 ^ e' + s) 10 = e) = true then fvN u n w c (2 ^ e' + s) else 0) (2 ^ e') = if e' = e then sm (fun s => fvN u n w c (2 ^ e' + s)) (2 ^ e') else 0 := by
    intro e' he'
    by_cases hq : e' = e
    · rw [if_pos hq]
      exact sg_congr _ (fun s hs => by rw [lst_of (by omega) hs]; simp [hq])
    · rw [if_neg hq]
      exact sg_zero gM_add _ (fun s hs => by rw [lst_of (by omega) hs]; simp [hq])
  refine Eq.trans ?_ (sg_congr c e1).symm
  rw [sg_one gM_add (f := fun e' => sm (fun s => fvN u n w c (2 ^ e' + s)) (2 ^ e')) e c, if_pos he]
theorem s_beg {u : Nat → Nat → Int32} {n c : Nat} {w : Int32} (h : sp_ok u n c w) {e : Nat} (q : tyQ) : ∀ d, d ≤ c - e → sBeg n (xRun u n w c e q).1 e d = nI (sm (fun i => rW u n w e (e + i)) d) := by
  intro d
  induction d with
  | zero => intro _; exact nI_0.symm
  | succ d ih =>
    intro hd
    show sBeg n (xRun u n w c e q).1 e d + xWh n (xRun u n w c e q).1 (e + d) = nI (sm (fun i => rW u n w e (e + i)) d + rW u n w e (e + d))
    rw [ih (by omega), wh_eq h (by omega) (by omega), nI_add]
theorem row_all {u : Nat → Nat → Int32} {n c : Nat} {w : Int32} {f : Nat} (hf : f < c) (hc : c ≤ 10) : sm (fun i => rW u n w f (f + i)) (c - f) = sm (fun e => rW u n w f e) c := by
  obtain ⟨d, rfl⟩ : ∃ d, c = f + d := ⟨c - f, by omega⟩
  rw [Nat.add_sub_cancel_left]
  refine Eq.trans ?_ (sg_split gM_add f d).symm
  rw [sg_zero gM_add f (fun i hi => rW_lt hi (by omega))]
  exact (Nat.zero_add _).symm
theorem col_all {u : Nat → Nat → Int32} {n c : Nat} {w : Int32} {e : Nat} (he : e < c) (hc : c ≤ 10) : sm (fun f => rW u n w f e) (e + 1) = sm (fun f => rW u n w f e) c := by
  obtain ⟨d, rfl⟩ : ∃ d, c = e + 1 + d := ⟨c - (e + 1), by omega⟩
  refine Eq.trans ?_ (sg_split gM_add (e + 1) d).symm
  rw [sg_zero gM_add d (fun i hi => rW_lt (by omega) (by omega))]
  rfl
theorem x_beg {u : Nat → Nat → Int32} {n c : Nat} {w : Int32} (h : sp_ok u n c w) {e : Nat} (he : e < c) (z : tyZ) : xBeg u n w c e z = nI (sm (fun x => rW u n w e x) c) := by
  show sBeg n (xRun u n w c e (z.2.1, z.2.2.2)).1 e (c - e) = _
  rw [s_beg h _ (c - e) (Nat.le_refl _), row_all he h.2.1]
theorem pl_beg {u : Nat → Nat → Int32} {n c : Nat} {w : Int32} (h : sp_ok u n c w) (e : Nat) (he : e < c) (z : tyZ) (q : tyQ) : xBeg u n w c e z = mSum u n w c (fun s => decide (mFi s 10 = e)) q (2 ^ c - 1) := by
  have hc := h.2.1
  rw [x_beg h he, msum_tot h]
  congr 1
  refine sg_congr c (fun e' he' => ?_)
  rw [by_first he' hc (fun f => decide (f = e))]
  simp only [decide_eq_true_eq]
  refine Eq.trans ?_ (sg_one gM_add (f := fun f => rW u n w f e') e (e' + 1)).symm
  by_cases hq : e < e' + 1
  · rw [if_pos hq]
  · rw [if_neg hq, rW_lt (by omega) (by omega)]
theorem s_fin {u : Nat → Nat → Int32} {n c : Nat} {w : Int32} (h : sp_ok u n c w) (z : tyZ) : ∀ d, d ≤ c → sFin u n w c z d = nI (sm (fun f => sm (fun x => rW u n w f x) c) d) := by
  intro d
  induction d with
  | zero => intro _; exact nI_0.symm
  | succ d ih =>
    intro hd
    show sFin u n w c z d + xBeg u n w c d (zEnd u n w c z d) = nI (sm (fun f => sm (fun x => rW u n w f x) c) d + sm (fun x => rW u n w d x) c)
    rw [ih (by omega), x_beg h (by omega), nI_add]
theorem fin_tot {u : Nat → Nat → Int32} {n c : Nat} {w : Int32} (hc : c ≤ 10) : sm (fun f => sm (fun x => rW u n w f x) c) c = sm (fun e => sm (fun s => if true = true then fvN u n w c (2 ^ e + s) else 0) (2 ^ e)) c := by
  refine Eq.trans (sg_swap gM_add c c) (sg_congr c (fun e he => ?_))
  simp only [if_true]
  rw [in_all he hc, col_all he hc]
theorem pl_fin {u : Nat → Nat → Int32} {n c : Nat} {w : Int32} (h : sp_ok u n c w) (z : tyZ) (q : tyQ) : sFin u n w c z c = mSum u n w c (fun _ => true) q (2 ^ c - 1) := by
  rw [s_fin h z c (Nat.le_refl _), msum_tot h, fin_tot h.2.1]
theorem nI_self (x : Int32) : nI x.toBitVec.toNat = x := Int32.toBitVec_inj.mp (BitVec.eq_of_toNat_eq (pk_tn x.toBitVec.isLt))
theorem s_las {u : Nat → Nat → Int32} {n c : Nat} {w : Int32} (h : sp_ok u n c w) (z : tyZ) : ∀ d, d ≤ c → sLas u n w c z d = nI (sm (fun e => sm (fun f => rW u n w f e) (e + 1) * (u 5 e).toBitVec.toNat) d) := by
  intro d
  induction d with
  | zero => intro _; exact nI_0.symm
  | succ d ih =>
    intro hd
    show sLas u n w c z d + sEnd u n w c d (zLas u n w c z d) (d + 1) * u 5 d = nI (sm (fun e => sm (fun f => rW u n w f e) (e + 1) * (u 5 e).toBitVec.toNat) d + sm (fun f => rW u n w f d) (d + 1) * (u 5 d).toBitVec.toNat)
    rw [ih (by omega), s_end h (by omega) _ (d + 1) (Nat.le_refl _), ← nI_add, ← pk_mul, nI_self]
theorem m_las {u : Nat → Nat → Int32} {n c : Nat} {w : Int32} (h : sp_ok u n c w) (q : tyQ) : ∀ d, mLas u n w c q d = nI (sm (fun s => if (fun _ : Nat => true) (s + 1) = true then (fun s => (u 5 (mLa s 10)).toBitVec.toNat) (s + 1) * fvN u n w c (s + 1) else 0) d) := by
  intro d
  induction d with
  | zero => exact nI_0.symm
  | succ d ih =>
    show mLas u n w c q d + u 5 (mLa (d + 1) 10) * mFv u n w c (d + 1) (mQ u n c (fun _ => true) q d) = nI (_ + (if true = true then (u 5 (mLa (d + 1) 10)).toBitVec.toNat * fvN u n w c (d + 1) else 0))
    rw [ih, fv_eq h, if_pos rfl, ← nI_add, ← pk_mul, nI_self]
theorem pl_las {u : Nat → Nat → Int32} {n c : Nat} {w : Int32} (h : sp_ok u n c w) (z : tyZ) (q : tyQ) : sLas u n w c z c = mLas u n w c q (2 ^ c - 1) := by
  have hc := h.2.1
  rw [s_las h z c (Nat.le_refl _), m_las h]
  congr 1
  refine Eq.trans ?_ (tot_eq (fun _ => true) (fun s => (u 5 (mLa s 10)).toBitVec.toNat)).symm
  refine sg_congr c (fun e he => ?_)
  rw [← in_all he hc, ← sm_mulr]
  refine sg_congr _ (fun s hs => ?_)
  try dsimp only
  rw [if_pos rfl, lst_of (by omega) hs, Nat.mul_comm]
end
section
/-! sets with a first event, a last one and a mark p: any op; forward and backward counts -/
section
variable (mt : Nat → Nat → Option Nat → Nat → Bool) (rp : Nat → Bool) (op : Nat → Nat → Nat) (h : Nat → Nat)
/-- over all sets with first event f and last event e that p names -/
def dP (p : Nat → Bool) (f k e : Nat) : Nat := sg op (fun s => if mFi (2 ^ e + s) 10 = f ∧ p (2 ^ e + s) = true then (foG mt rp op h f (2 ^ e + s) (e + 1)).2 k else 0) (2 ^ e)
/-- what one set with last event e gives -/
def fvG (iw : Nat → Nat → Bool) (n e s : Nat) : Nat := if iw (mFi (2 ^ e + s) 10) e = true ∧ 0 < n then (foG mt rp op h (mFi (2 ^ e + s) 10) (2 ^ e + s) (e + 1)).2 (n - 1) else 0
end
section
variable {mt : Nat → Nat → Option Nat → Nat → Bool} {rp : Nat → Bool} {op : Nat → Nat → Nat} {h : Nat → Nat}
theorem dP_true (f k e : Nat) : dP mt rp op h (fun _ => true) f k e = dG mt rp op h f k e := by
  unfold dP dG
  simp
theorem byG (hm : gM op) {e : Nat} (he : e < 10) (iw : Nat → Nat → Bool) (n : Nat) (p : Nat → Bool) : sg op (fun s => if p (2 ^ e + s) = true then fvG mt rp op h iw n e s else 0) (2 ^ e) = sg op (fun f => if iw f e = true ∧ 0 < n then dP mt rp op h p f (n - 1) e else 0) (e + 1) := by
  have e1 : ∀ f, f < e + 1 → (if iw f e = true ∧ 0 < n then dP mt rp op h p f (n - 1) e else 0) = sg op (fun s => if f = mFi (2 ^ e + s) 10 then (if p (2 ^ e + s) = true then (if iw f e = true ∧ 0 < n then (foG mt rp op h f (2 ^ e + s) (e + 1)).2 (n - 1) else 0) else 0) else 0) (2 ^ e) := by
    intro f _
    by_cases hc : iw f e = true ∧ 0 < n
    · rw [if_pos hc]
      unfold dP
      refine sg_congr _ (fun s _ => ?_)
      by_cases hq : mFi (2 ^ e + s) 10 = f
      · rw [if_pos hq.symm, if_pos hc]
        by_cases hp : p (2 ^ e + s) = true
        · rw [if_pos ⟨hq, hp⟩, if_pos hp]
        · rw [if_neg (fun q : mFi (2 ^ e + s) 10 = f ∧ p (2 ^ e + s) = true => hp q.2), if_neg hp]
      · rw [if_neg (fun q : mFi (2 ^ e + s) 10 = f ∧ p (2 ^ e + s) = true => hq q.1), if_neg (fun q => hq q.symm)]
    · rw [if_neg hc]
      refine (sg_zero hm _ (fun s _ => ?_)).symm
      rw [if_neg hc]
      split
      · split <;> rfl
      · rfl
  refine Eq.trans ?_ (sg_congr (e + 1) e1).symm
  refine Eq.trans ?_ (sg_swap hm (2 ^ e) (e + 1)).symm
  refine sg_congr _ (fun s hs => ?_)
  rw [sg_one hm (f := fun f => if p (2 ^ e + s) = true then (if iw f e = true ∧ 0 < n then (foG mt rp op h f (2 ^ e + s) (e + 1)).2 (n - 1) else 0) else 0) (mFi (2 ^ e + s) 10) (e + 1)]
  have := fst_le he hs
  rw [if_pos (show mFi (2 ^ e + s) 10 < e + 1 by omega)]
  rfl
theorem dP_lt {p : Nat → Bool} {f k e : Nat} (hm : gM op) (he : e < f) (h10 : e < 10) : dP mt rp op h p f k e = 0 := by
  refine sg_zero hm _ (fun s hs => if_neg (fun q => ?_))
  have := fst_le h10 hs
  omega
/-- the mark: event e is in the set -/
theorem dP_no {f k e x : Nat} (hm : gM op) (hx : x < 10) (hq : x < e ∨ e < f) : dP mt rp op h (fun s => decide (mbit s e = 1)) f k x = 0 := by
  refine sg_zero hm _ (fun s hs => if_neg (fun q => ?_))
  have q1 := q.1
  have q2 := of_decide_eq_true q.2
  rcases hq with hq | hq
  · rw [mb_z (two_lt hs) (by omega)] at q2
    cases q2
  · obtain ⟨a, b, c⟩ := fst_spec (e := x + 1) (s := 2 ^ x + s) (by omega) (two_lt hs) (by have := Nat.two_pow_pos x; omega)
    rw [c e (by omega)] at q2
    cases q2
theorem dP_at {f k e : Nat} : dP mt rp op h (fun s => decide (mbit s e = 1)) f k e = dG mt rp op h f k e := by
  unfold dP dG
  refine sg_congr _ (fun s hs => ?_)
  simp [mb_hi hs]
theorem dP_gt {f k e x : Nat} (hm : gM op) (h0 : h 0 = 0) (hh : ∀ a b, h (op a b) = op (h a) (h b)) (hf : f ≤ e) (he : e < x) (hx : x < 10) : dP mt rp op h (fun s => decide (mbit s e = 1)) f k x = sg op (fun i => if mt f k (some i) x = true then op (if rp k = true then h (dP mt rp op h (fun s => decide (mbit s e = 1)) f k i) else 0) (if k = 0 then 0 else h (dP mt rp op h (fun s => decide (mbit s e = 1)) f (k - 1) i)) else 0) x := by
  have hd : ∀ k i, h (dP mt rp op h (fun s => decide (mbit s e = 1)) f k i) = sg op (fun s => if mFi (2 ^ i + s) 10 = f ∧ decide (mbit (2 ^ i + s) e = 1) = true then h ((foG mt rp op h f (2 ^ i + s) (i + 1)).2 k) else 0) (2 ^ i) := by
    intro k i
    rw [dP, sg_hom h0 hh]
    refine sg_congr _ (fun s _ => ?_)
    by_cases q : mFi (2 ^ i + s) 10 = f ∧ decide (mbit (2 ^ i + s) e = 1) = true
    · rw [if_pos q, if_pos q]
    · rw [if_neg q, if_neg q]; exact h0
  rw [dP, sg_grp hm, fst_pow hx, if_neg (by omega), hm.z]
  refine sg_congr x (fun i hi => ?_)
  have hin : ∀ s, s < 2 ^ i → 2 ^ i + s < 2 ^ x := fun s hs => Nat.lt_of_lt_of_le (two_lt hs) (Nat.pow_le_pow_right (by decide) hi)
  have e1 : ∀ s, s < 2 ^ i → (if mFi (2 ^ x + (2 ^ i + s)) 10 = f ∧ decide (mbit (2 ^ x + (2 ^ i + s)) e = 1) = true then (foG mt rp op h f (2 ^ x + (2 ^ i + s)) (x + 1)).2 k else 0) = (if mFi (2 ^ i + s) 10 = f ∧ decide (mbit (2 ^ i + s) e = 1) = true then (if mt f k (some i) x = true then op (if rp k = true then h ((foG mt rp op h f (2 ^ i + s) (i + 1)).2 k) else 0) (if k = 0 then 0 else h ((foG mt rp op h f (2 ^ i + s) (i + 1)).2 (k - 1))) else 0) else 0) := by
    intro s hs
    rw [fst_step hx (hin s hs) (by have := Nat.two_pow_pos i; omega), foG_top (hin s hs), foG_past hs (by omega), mb_lo he]
    have h1 : (foG mt rp op h f (2 ^ i + s) (i + 1)).1 = some i := by rw [foG_top hs]
    rw [h1]
    rfl
  rw [sg_congr _ e1]
  cases hmt : mt f k (some i) x with
  | false =>
    rw [if_neg (by decide)]
    exact sg_zero hm _ (fun s _ => by split <;> rfl)
  | true =>
    rw [if_pos rfl, hd, hd]
    have e2 : ∀ s, s < 2 ^ i → (if mFi (2 ^ i + s) 10 = f ∧ decide (mbit (2 ^ i + s) e = 1) = true then (if true = true then op (if rp k = true then h ((foG mt rp op h f (2 ^ i + s) (i + 1)).2 k) else 0) (if k = 0 then 0 else h ((foG mt rp op h f (2 ^ i + s) (i + 1)).2 (k - 1))) else 0) else 0) = op (if rp k = true then (if mFi (2 ^ i + s) 10 = f ∧ decide (mbit (2 ^ i + s) e = 1) = true then h ((foG mt rp op h f (2 ^ i + s) (i + 1)).2 k) else 0) else 0) (if k = 0 then 0 else (if mFi (2 ^ i + s) 10 = f ∧ decide (mbit (2 ^ i + s) e = 1) = true then h ((foG mt rp op h f (2 ^ i + s) (i + 1)).2 (k - 1)) else 0)) := by
      intro s _
      by_cases q : mFi (2 ^ i + s) 10 = f ∧ decide (mbit (2 ^ i + s) e = 1) = true
      · simp only [if_pos q, if_true]
      · simp only [if_neg q, ite_self]; exact (hm.1 0).symm
    rw [sg_congr _ e2, sg_op hm, sg_if hm]
    congr 1
    by_cases hk : k = 0
    · simp only [hk, if_true]; exact sg_zero hm _ (fun _ _ => rfl)
    · simp only [hk, if_false]
/-- all sets: by their last event -/
theorem totG (hm : gM op) {g : Nat → Nat} (g0 : g 0 = 0) (c : Nat) : sg op (fun s => g (s + 1)) (2 ^ c - 1) = sg op (fun e => sg op (fun s => g (2 ^ e + s)) (2 ^ e)) c := by
  have h1 := sg_shift hm (g := g) (2 ^ c - 1)
  have h2 := sg_grp hm (f := g) c
  rw [show 2 ^ c - 1 + 1 = 2 ^ c by have := Nat.two_pow_pos c; omega] at h1
  rw [h1, g0, hm.z, hm.z] at h2
  exact h2
theorem colG (hm : gM op) {L : Nat → Nat → Nat} {c e : Nat} (he : e < c) (hL : ∀ f, e < f → f < c → L f e = 0) : sg op (fun f => L f e) (e + 1) = sg op (fun f => L f e) c := by
  obtain ⟨d, rfl⟩ : ∃ d, c = e + 1 + d := ⟨c - (e + 1), by omega⟩
  rw [sg_split hm (e + 1) d, sg_zero hm d (fun i hi => hL _ (by omega) (by omega)), hm.1]
theorem rowG (hm : gM op) {L : Nat → Nat → Nat} {c f : Nat} (hf : f ≤ c) (hL : ∀ e, e < f → L f e = 0) : sg op (fun i => L f (f + i)) (c - f) = sg op (fun e => L f e) c := by
  obtain ⟨d, rfl⟩ : ∃ d, c = f + d := ⟨c - f, by omega⟩
  rw [Nat.add_sub_cancel_left, sg_split hm f d, sg_zero hm f hL, hm.z]
/-- (first, last) against (last, first) -/
theorem triG (hm : gM op) {L : Nat → Nat → Nat} {c : Nat} (hL : ∀ f e, e < f → f < c → L f e = 0) : sg op (fun f => sg op (fun i => L f (f + i)) (c - f)) c = sg op (fun e => sg op (fun f => L f e) (e + 1)) c := by
  refine Eq.trans (sg_congr c (fun f hf => rowG hm (Nat.le_of_lt hf) (fun e he => hL f e he hf))) ?_
  refine Eq.trans (sg_swap hm c c) ?_
  exact sg_congr c (fun e he => (colG hm he (fun f h1 h2 => hL f e h1 h2)).symm)
end
/-- forward and backward counts over steps k < n, events x < c: r: a step repeats; g k i x: x may follow i in step k; y backward, U forward -/
theorem fwd_bwd {n c : Nat} {t r : Nat → Nat} {g : Nat → Nat → Nat → Nat} {y U I : Nat → Nat → Nat}
    (hy : ∀ k i, k < n → i < c → U k i * y k i = U k i * (t k + sm (fun x => g k i x * r k * y k x + (if k + 1 < n then g (k + 1) i x * y (k + 1) x else 0)) c))
    (hU : ∀ k x, k < n → x < c → U k x = I k x + sm (fun i => g k i x * (r k * U k i + (if k = 0 then 0 else U (k - 1) i))) c) :
    sm (fun x => sm (fun k => U k x * t k) n) c = sm (fun x => sm (fun k => I k x * y k x) n) c := by
  have cross : ∀ i x, sm (fun k => U k i * (g k i x * r k * y k x + (if k + 1 < n then g (k + 1) i x * y (k + 1) x else 0))) n = sm (fun k => g k i x * (r k * U k i + (if k = 0 then 0 else U (k - 1) i)) * y k x) n := by
    intro i x
    have l : ∀ k, k < n → U k i * (g k i x * r k * y k x + (if k + 1 < n then g (k + 1) i x * y (k + 1) x else 0)) = g k i x * r k * U k i * y k x + (if k + 1 < n then g (k + 1) i x * U k i * y (k + 1) x else 0) := by
      intro k _
      rw [Nat.mul_add]
      congr 1
      · simp only [Nat.mul_comm, Nat.mul_left_comm, Nat.mul_assoc]
      · split
        · simp only [Nat.mul_comm, Nat.mul_left_comm, Nat.mul_assoc]
        · rfl
    have m : ∀ k, k < n → g k i x * (r k * U k i + (if k = 0 then 0 else U (k - 1) i)) * y k x = g k i x * r k * U k i * y k x + (if k = 0 then 0 else g k i x * U (k - 1) i * y k x) := by
      intro k _
      rw [Nat.mul_add, Nat.add_mul]
      congr 1
      · simp only [Nat.mul_comm, Nat.mul_left_comm, Nat.mul_assoc]
      · split
        · simp
        · rfl
    refine (sg_congr n l).trans (Eq.trans ?_ (sg_congr n m).symm)
    refine (sg_op gM_add n).trans (Eq.trans ?_ (sg_op gM_add n).symm)
    congr 1
    cases n with
    | zero => rfl
    | succ n =>
      rw [sg_shift gM_add n (g := fun k => if k = 0 then 0 else g k i x * U (k - 1) i * y k x)]
      show sm _ n + (if n + 1 < n + 1 then _ else _) = 0 + sm _ n
      rw [if_neg (by omega), Nat.add_zero, Nat.zero_add]
      refine sg_congr n (fun k hk => ?_)
      rw [if_pos (by omega), if_neg (by omega), Nat.add_sub_cancel]
  have a1 : sm (fun i => sm (fun k => U k i * y k i) n) c = sm (fun i => sm (fun k => U k i * t k) n) c + sm (fun i => sm (fun x => sm (fun k => U k i * (g k i x * r k * y k x + (if k + 1 < n then g (k + 1) i x * y (k + 1) x else 0))) n) c) c := by
    refine Eq.trans (sg_congr c (fun i hi => ?_)) (sg_op gM_add c)
    refine Eq.trans (sg_congr n (fun k hk => ?_)) ((sg_op gM_add n).trans (congrArg _ (sg_swap gM_add c n)))
    rw [hy k i hk hi, Nat.mul_add]
    congr 1
    exact (sm_mul _ c).symm
  have a2 : sm (fun x => sm (fun k => U k x * y k x) n) c = sm (fun x => sm (fun k => I k x * y k x) n) c + sm (fun x => sm (fun i => sm (fun k => g k i x * (r k * U k i + (if k = 0 then 0 else U (k - 1) i)) * y k x) n) c) c := by
    refine Eq.trans (sg_congr c (fun x hx => ?_)) (sg_op gM_add c)
    refine Eq.trans (sg_congr n (fun k hk => ?_)) ((sg_op gM_add n).trans (congrArg _ (sg_swap gM_add c n)))
    have := hU k x hk hx
    have e : U k x * y k x = (I k x + sm (fun i => g k i x * (r k * U k i + (if k = 0 then 0 else U (k - 1) i))) c) * y k x := by rw [← this]
    rw [e, Nat.add_mul]
    congr 1
    exact (sm_mulr _ c).symm
  have a3 : sm (fun i => sm (fun x => sm (fun k => U k i * (g k i x * r k * y k x + (if k + 1 < n then g (k + 1) i x * y (k + 1) x else 0))) n) c) c = sm (fun x => sm (fun i => sm (fun k => g k i x * (r k * U k i + (if k = 0 then 0 else U (k - 1) i)) * y k x) n) c) c := by
    refine (sg_swap gM_add c c).trans (sg_congr c (fun x _ => sg_congr c (fun i _ => cross i x)))
  rw [a1, a3] at a2
  exact Nat.add_right_cancel a2
end
section
/-! waysFrom: the backward table; using, without -/
def yS (u : Nat → Nat → Int32) (n : Nat) (w : Int32) (f : Nat) (Y : Nat → Nat → Nat) (k e x : Nat) : Nat := if iwX u w f x = true then (if rpX u k = true ∧ mtX u f k (some e) x = true then Y k x else 0) + (if k + 1 < n ∧ mtX u f (k + 1) (some e) x = true then Y (k + 1) x else 0) else 0
def yF (u : Nat → Nat → Int32) (n : Nat) (w : Int32) (c f : Nat) (Y : Nat → Nat → Nat) (k e : Nat) : Nat := (if k + 1 = n then 1 else 0) + sm (fun d => yS u n w f Y k e (e + 1 + d)) (c - (e + 1))
theorem yF_congr {u : Nat → Nat → Int32} {n : Nat} {w : Int32} {c f : Nat} {Y Y' : Nat → Nat → Nat} {k e : Nat} (h : ∀ k x, e < x → x < c → Y k x = Y' k x) : yF u n w c f Y k e = yF u n w c f Y' k e := by
  unfold yF
  congr 1
  refine sg_congr _ (fun d hd => ?_)
  unfold yS
  rw [h k (e + 1 + d) (by omega) (by omega), h (k + 1) (e + 1 + d) (by omega) (by omega)]
theorem yN_ex (u : Nat → Nat → Int32) (n : Nat) (w : Int32) (c f : Nat) : ∃ Y : Nat → Nat → Nat, ∀ k x, x < c → Y k x = yF u n w c f Y k x := by
  have key : ∀ j, ∃ Y : Nat → Nat → Nat, ∀ k x, c - j ≤ x → x < c → Y k x = yF u n w c f Y k x := by
    intro j
    induction j with
    | zero => exact ⟨fun _ _ => 0, fun k x h1 h2 => absurd h2 (by omega)⟩
    | succ j ih =>
      obtain ⟨Y, hY⟩ := ih
      refine ⟨fun k x => if x = c - (j + 1) then yF u n w c f Y k x else Y k x, fun k x h1 h2 => ?_⟩
      have e1 : yF u n w c f (fun k x => if x = c - (j + 1) then yF u n w c f Y k x else Y k x) k x = yF u n w c f Y k x := yF_congr (fun k' x' h3 _ => if_neg (by omega))
      rw [e1]
      by_cases hx : x = c - (j + 1)
      · exact if_pos hx
      · exact (if_neg hx).trans (hY k x (by omega) h2)
  obtain ⟨Y, hY⟩ := key c
  exact ⟨Y, fun k x h => hY k x (by omega) h⟩
theorem wo_eq {u : Nat → Nat → Int32} {n : Nat} {w : Int32} {c f k e : Nat} {y : tyA} {Y : Nat → Nat → Nat} (hk : k < n) (hy : ∀ k x, k < n → e < x → x < c → y (k * 10 + x) = nI (Y k x)) : ∀ d, d ≤ c - (e + 1) → xWo u n w f k e y d = nI ((if k + 1 = n then 1 else 0) + sm (fun d => yS u n w f Y k e (e + 1 + d)) d) := by
  intro d
  induction d with
  | zero =>
    intro _
    show (if k + 1 = n then (1 : Int32) else 0) = nI ((if k + 1 = n then 1 else 0) + 0)
    split <;> rfl
  | succ d ih =>
    intro hd
    have ih := ih (by omega)
    show (if iwX u w f (e + 1 + d) = true then xWo2 u n f k e (e + 1 + d) y (xWo1 u f k e (e + 1 + d) y (xWo u n w f k e y d)) else xWo u n w f k e y d) = nI ((if k + 1 = n then 1 else 0) + (sm (fun d => yS u n w f Y k e (e + 1 + d)) d + yS u n w f Y k e (e + 1 + d)))
    rw [ih, ← Nat.add_assoc]
    generalize (if k + 1 = n then 1 else 0) + sm (fun d => yS u n w f Y k e (e + 1 + d)) d = a
    unfold yS
    by_cases hw : iwX u w f (e + 1 + d) = true
    · rw [if_pos hw, if_pos hw]
      have e1 : xWo1 u f k e (e + 1 + d) y (nI a) = nI (a + if rpX u k = true ∧ mtX u f k (some e) (e + 1 + d) = true then Y k (e + 1 + d) else 0) := by
        unfold xWo1 rpX
        by_cases q : ¬ u 3 k = 0 ∧ mtX u f k (some e) (e + 1 + d) = true
        · rw [if_pos q, if_pos ⟨decide_eq_true q.1, q.2⟩, hy k (e + 1 + d) hk (by omega) (by omega), nI_add]
        · rw [if_neg q, if_neg (fun r => q ⟨of_decide_eq_true r.1, r.2⟩), Nat.add_zero]
      rw [e1, ← Nat.add_assoc]
      generalize (a + if rpX u k = true ∧ mtX u f k (some e) (e + 1 + d) = true then Y k (e + 1 + d) else 0) = b
      unfold xWo2
      by_cases q : k + 1 < n ∧ mtX u f (k + 1) (some e) (e + 1 + d) = true
      · rw [if_pos q, if_pos q, hy (k + 1) (e + 1 + d) q.1 (by omega) (by omega), nI_add]
      · rw [if_neg q, if_neg q, Nat.add_zero]
    · rw [if_neg hw, if_neg hw, Nat.add_zero]
theorem wk_tab {u : Nat → Nat → Int32} {n : Nat} {w : Int32} {c f e : Nat} {y : tyA} {Y : Nat → Nat → Nat} (hc : c ≤ 10) (he : e < c) (hY : ∀ k, Y k e = yF u n w c f Y k e) (hy : ∀ k x, k < n → e < x → x < c → y (k * 10 + x) = nI (Y k x)) : ∀ d, d ≤ n → (∀ k, n - d ≤ k → k < n → xWk u n w c f e y d (k * 10 + e) = nI (Y k e)) ∧ ∀ k x, x < 10 → x ≠ e → xWk u n w c f e y d (k * 10 + x) = y (k * 10 + x) := by
  intro d
  induction d with
  | zero => intro _; exact ⟨fun k h1 h2 => absurd h2 (by omega), fun _ _ _ _ => rfl⟩
  | succ d ih =>
    intro hd
    obtain ⟨i1, i2⟩ := ih (by omega)
    refine ⟨fun k h1 h2 => ?_, fun k x hx hxe => ?_⟩
    · show upd (xWk u n w c f e y d) ((n - 1 - d) * 10 + e) _ (k * 10 + e) = _
      by_cases hk : k = n - 1 - d
      · subst hk
        rw [pk_us, hY, yF]
        exact wo_eq h2 (fun k x hk h3 h4 => (i2 k x (by omega) (by omega)).trans (hy k x hk h3 h4)) _ (Nat.le_refl _)
      · rw [pk_un (by omega)]
        exact i1 k (by omega) h2
    · show upd (xWk u n w c f e y d) ((n - 1 - d) * 10 + e) _ (k * 10 + x) = _
      rw [pk_un (by omega)]
      exact i2 k x hx hxe
theorem we_tab {u : Nat → Nat → Int32} {n : Nat} {w : Int32} {c f : Nat} {y : tyA} {Y : Nat → Nat → Nat} (hc : c ≤ 10) (hY : ∀ k x, x < c → Y k x = yF u n w c f Y k x) : ∀ d, d ≤ c → ∀ k x, k < n → c - d ≤ x → x < c → xWe u n w c f y d (k * 10 + x) = nI (Y k x) := by
  intro d
  induction d with
  | zero => intro _ k x _ h1 h2; exact absurd h2 (by omega)
  | succ d ih =>
    intro hd k x hk h1 h2
    have ih := ih (by omega)
    obtain ⟨i1, i2⟩ := wk_tab (u := u) (n := n) (w := w) (f := f) (e := c - 1 - d) (y := xWe u n w c f y d) (Y := Y) hc (by omega) (fun k => hY k _ (by omega)) (fun k x hk h3 h4 => ih k x hk (by omega) h4) n (Nat.le_refl _)
    show xWk u n w c f (c - 1 - d) (xWe u n w c f y d) n (k * 10 + x) = _
    by_cases hx : x = c - 1 - d
    · subst hx
      exact i1 k (by omega) hk
    · rw [i2 k x (by omega) hx]
      exact ih k x hk (by omega) h2
theorem usk_eq {r y : tyA} {e n : Nat} {R Y : Nat → Nat} (hr : ∀ k, k < n → r (k * 10 + e) = nI (R k)) (hy : ∀ k, k < n → y (k * 10 + e) = nI (Y k)) (a : Nat) : ∀ k, k ≤ n → sUsk r y e (nI a) k = nI (a + sm (fun k => R k * Y k) k) := by
  intro k
  induction k with
  | zero => intro _; rfl
  | succ k ih =>
    intro hk
    show sUsk r y e (nI a) k + r (k * 10 + e) * y (k * 10 + e) = nI (a + (sm (fun k => R k * Y k) k + R k * Y k))
    rw [ih (by omega), hr k (by omega), hy k (by omega), pk_mul, nI_add, Nat.add_assoc]
theorem s_use {u : Nat → Nat → Int32} {n c : Nat} {w : Int32} (h : sp_ok u n c w) {e : Nat} (he : e < c) (z : tyZ) {Y : Nat → Nat → Nat → Nat} (hY : ∀ f k x, x < c → Y f k x = yF u n w c f (Y f) k x) : ∀ d, d ≤ e + 1 → sUse u n w c e z d = nI (sm (fun f => sm (fun k => wN u w f k e * Y f k e) n) d) := by
  intro d
  induction d with
  | zero => intro _; exact nI_0.symm
  | succ d ih =>
    intro hd
    show sUsk (xRun u n w c d ((zUse u n w c z d).2.1, (zUse u n w c z d).2.2.2)).1 (xWe u n w c d (zUse u n w c z d).2.2.1 (c - d)) e (sUse u n w c e z d) n = nI (sm (fun f => sm (fun k => wN u w f k e * Y f k e) n) d + sm (fun k => wN u w d k e * Y d k e) n)
    rw [ih (by omega)]
    exact usk_eq (R := fun k => wN u w d k e) (Y := fun k => Y d k e) (fun k hk => (run_tab h (by omega) _ (by omega) he k hk).1) (fun k hk => we_tab h.2.1 (hY d) (c - d) (by omega) k e hk (by omega) he) _ n (Nat.le_refl _)
/-- runs with first event f, through e, behind x, inside the window -/
def dU (u : Nat → Nat → Int32) (e f k x : Nat) : Nat := dP (mtX u) (rpX u) (fun a b => a + b) (fun x => x) (fun s => decide (mbit s e = 1)) f k x
def wU (u : Nat → Nat → Int32) (w : Int32) (e f k x : Nat) : Nat := if iwX u w f x = true then dU u e f k x else 0
theorem wU_no {u : Nat → Nat → Int32} {w : Int32} {e f k x : Nat} (hx : x < 10) (hq : x < e ∨ e < f) : wU u w e f k x = 0 := by
  unfold wU dU
  rw [dP_no gM_add hx hq]
  split <;> rfl
theorem wU_lt {u : Nat → Nat → Int32} {w : Int32} {e f k x : Nat} (hx : x < 10) (hq : x < f) : wU u w e f k x = 0 := by
  unfold wU dU
  rw [dP_lt gM_add hq hx]
  split <;> rfl
theorem wU_in {u : Nat → Nat → Int32} {n c : Nat} {w : Int32} (h : sp_ok u n c w) {e f k i x : Nat} (hi : i ≤ x) (hx : x < c) (hw : iwX u w f x = true) : wU u w e f k i = dU u e f k i := by
  have hc := h.2.1
  by_cases hq : i < f
  · rw [wU_lt (by omega) hq]
    exact (dP_lt gM_add hq (by omega)).symm
  · unfold wU
    rw [if_pos (iw_mono h (by omega) hi hx hw)]
theorem use_key {u : Nat → Nat → Int32} {n c : Nat} {w : Int32} (h : sp_ok u n c w) {e f : Nat} (hf : f ≤ e) (he : e < c) {Y : Nat → Nat → Nat} (hY : ∀ k x, x < c → Y k x = yF u n w c f Y k x) : sm (fun k => wN u w f k e * Y k e) n = sm (fun x => if 0 < n then wU u w e f (n - 1) x else 0) c := by
  have hc := h.2.1
  have fb := fwd_bwd (n := n) (c := c) (t := fun k => if k + 1 = n then 1 else 0) (r := fun k => if rpX u k = true then 1 else 0) (g := fun k i x => if i < x ∧ iwX u w f x = true ∧ mtX u f k (some i) x = true then 1 else 0) (y := Y) (U := wU u w e f) (I := fun k x => if x = e then wN u w f k x else 0) ?_ ?_
  · have l : ∀ x, x < c → (if 0 < n then wU u w e f (n - 1) x else 0) = sm (fun k => wU u w e f k x * (if k + 1 = n then 1 else 0)) n := by
      intro x _
      have e1 : ∀ k, k < n → wU u w e f k x * (if k + 1 = n then 1 else 0) = if k = n - 1 then wU u w e f k x else 0 := by
        intro k hk
        by_cases q : k + 1 = n
        · rw [if_pos q, if_pos (by omega), Nat.mul_one]
        · rw [if_neg q, if_neg (by omega), Nat.mul_zero]
      refine Eq.trans ?_ (sg_congr n e1).symm
      rw [sg_one gM_add (f := fun k => wU u w e f k x) (n - 1) n]
      by_cases q : 0 < n
      · rw [if_pos q, if_pos (by omega)]
      · rw [if_neg q, if_neg (by omega)]
    refine Eq.trans ?_ (sg_congr c l).symm
    refine Eq.trans ?_ fb.symm
    have e2 : ∀ x, x < c → sm (fun k => (if x = e then wN u w f k x else 0) * Y k x) n = if x = e then sm (fun k => wN u w f k x * Y k x) n else 0 := by
      intro x _
      by_cases q : x = e
      · simp only [if_pos q]
      · simp only [if_neg q, Nat.zero_mul]
        exact sg_zero gM_add n (fun _ _ => rfl)
    refine Eq.trans ?_ (sg_congr c e2).symm
    rw [sg_one gM_add (f := fun x => sm (fun k => wN u w f k x * Y k x) n) e c, if_pos he]
  · intro k i hk hi
    congr 1
    rw [hY k i hi, yF]
    congr 1
    obtain ⟨d, rfl⟩ : ∃ d, c = i + 1 + d := ⟨c - (i + 1), by omega⟩
    rw [Nat.add_sub_cancel_left]
    refine Eq.trans ?_ (sg_split gM_add (i + 1) d).symm
    rw [sg_zero gM_add (i + 1) (fun x hx => ?_)]
    · rw [Nat.zero_add]
      refine sg_congr d (fun x hx => ?_)
      unfold yS
      have e1 : (i < i + 1 + x) = True := eq_true (by omega)
      simp only [e1, true_and]
      cases iwX u w f (i + 1 + x) <;> cases rpX u k <;> cases mtX u f k (some i) (i + 1 + x) <;> cases mtX u f (k + 1) (some i) (i + 1 + x) <;> simp
    · have e1 : (i < x) = False := eq_false (by omega)
      simp only [e1, false_and, if_false, Nat.zero_mul, ite_self]
  · intro k x hk hx
    have zero : ∀ i, i < e → i < c → (if rpX u k = true then 1 else 0) * wU u w e f k i + (if k = 0 then 0 else wU u w e f (k - 1) i) = 0 := by
      intro i h1 h2
      rw [wU_no (by omega) (Or.inl h1), wU_no (by omega) (Or.inl h1)]
      simp
    rcases Nat.lt_trichotomy x e with q | q | q
    · rw [if_neg (by omega), wU_no (by omega) (Or.inl q), Nat.zero_add]
      refine (sg_zero gM_add c (fun i hi => ?_)).symm
      by_cases hix : i < x
      · rw [zero i (by omega) hi, Nat.mul_zero]
      · rw [if_neg (fun r => hix r.1), Nat.zero_mul]
    · subst q
      rw [if_pos rfl]
      refine Eq.trans ?_ (congrArg (fun t => wN u w f k x + t) (sg_zero gM_add c (fun i hi => ?_)).symm)
      · unfold wU wN dU
        rw [dP_at]
        rfl
      · by_cases hix : i < x
        · rw [zero i (by omega) hi, Nat.mul_zero]
        · rw [if_neg (fun r => hix r.1), Nat.zero_mul]
    · rw [if_neg (by omega), Nat.zero_add]
      by_cases hw : iwX u w f x = true
      · rw [wU_in h (Nat.le_refl x) hx hw, dU, dP_gt gM_add rfl (fun _ _ => rfl) hf q (by omega)]
        obtain ⟨d, rfl⟩ : ∃ d, c = x + d := ⟨c - x, by omega⟩
        refine Eq.trans ?_ (sg_split gM_add x d).symm
        rw [sg_zero gM_add (n := d) (fun i hi => ?_), Nat.add_zero]
        · refine sg_congr x (fun i hi => ?_)
          have a1 := wU_in h (e := e) (k := k) (by omega : i ≤ x) hx hw
          have a2 := wU_in h (e := e) (k := k - 1) (by omega : i ≤ x) hx hw
          rw [a1, a2]
          unfold dU
          have e1 : (i < x) = True := eq_true hi
          simp only [e1, hw, true_and]
          cases mtX u f k (some i) x <;> cases rpX u k <;> simp
        · rw [if_neg (fun r => absurd r.1 (by omega)), Nat.zero_mul]
      · rw [wU, if_neg hw]
        exact (sg_zero gM_add c (fun i hi => by rw [if_neg (fun r => hw r.2.1), Nat.zero_mul])).symm
theorem use_sum {u : Nat → Nat → Int32} {n c : Nat} {w : Int32} {e : Nat} (he : e < c) (hc : c ≤ 10) : sm (fun x => sm (fun s => if decide (mbit (2 ^ x + s) e = 1) = true then fvN u n w c (2 ^ x + s) else 0) (2 ^ x)) c = sm (fun f => sm (fun x => if 0 < n then wU u w e f (n - 1) x else 0) c) (e + 1) := by
  have e1 : ∀ x, x < c → sm (fun s => if decide (mbit (2 ^ x + s) e = 1) = true then fvN u n w c (2 ^ x + s) else 0) (2 ^ x) = sm (fun f => if 0 < n then wU u w e f (n - 1) x else 0) c := by
    intro x hx
    have b := byG (mt := mtX u) (rp := rpX u) (h := fun x => x) gM_add (e := x) (by omega) (iwX u w) n (fun s => decide (mbit s e = 1))
    refine Eq.trans (sg_congr _ (fun s hs => ?_)) (b.trans ?_)
    · try dsimp only
      rw [fv_top hs hx]
      rfl
    · refine Eq.trans (sg_congr (x + 1) (g := fun f => if 0 < n then wU u w e f (n - 1) x else 0) (fun f _ => ?_)) ?_
      · unfold wU dU
        by_cases hn : 0 < n
        · by_cases hw : iwX u w f x = true
          · rw [if_pos ⟨hw, hn⟩, if_pos hn, if_pos hw]
          · rw [if_neg (fun r : iwX u w f x = true ∧ 0 < n => hw r.1), if_pos hn, if_neg hw]
        · rw [if_neg (fun r : iwX u w f x = true ∧ 0 < n => hn r.2), if_neg hn]
      · exact colG gM_add (L := fun f x => if 0 < n then wU u w e f (n - 1) x else 0) hx (fun f h1 _ => by rw [wU_lt (by omega) h1]; split <;> rfl)
  refine Eq.trans (sg_congr c e1) ((sg_swap gM_add c c).trans ?_)
  obtain ⟨d, rfl⟩ : ∃ d, c = e + 1 + d := ⟨c - (e + 1), by omega⟩
  refine (sg_split gM_add (e + 1) d).trans ?_
  rw [sg_zero gM_add (n := d) (fun i hi => ?_), Nat.add_zero]
  exact sg_zero gM_add _ (fun x hx => by rw [wU_no (by omega) (Or.inr (by omega))]; split <;> rfl)
theorem pl_use {u : Nat → Nat → Int32} {n c : Nat} {w : Int32} (h : sp_ok u n c w) (e : Nat) (he : e < c) (z : tyZ) (q : tyQ) : sUse u n w c e z (e + 1) = mSum u n w c (fun s => decide (mbit s e = 1)) q (2 ^ c - 1) := by
  have hY : ∃ Y : Nat → Nat → Nat → Nat, ∀ f k x, x < c → Y f k x = yF u n w c f (Y f) k x := ⟨fun f => Classical.choose (yN_ex u n w c f), fun f => Classical.choose_spec (yN_ex u n w c f)⟩
  obtain ⟨Y, hY⟩ := hY
  rw [s_use h he z hY (e + 1) (Nat.le_refl _), msum_tot h, use_sum he h.2.1]
  congr 1
  exact sg_congr (e + 1) (fun f hf => use_key h (by omega) he (hY f))
theorem pl_wo {u : Nat → Nat → Int32} {n c : Nat} {w : Int32} (h : sp_ok u n c w) (e : Nat) (he : e < c) (z z' : tyZ) (q : tyQ) : sFin u n w c z c - sUse u n w c e z' (e + 1) = mSum u n w c (fun s => decide (mbit s e = 0)) q (2 ^ c - 1) := by
  rw [pl_fin h z q, pl_use h e he z' q, msum_eq h, msum_eq h, msum_eq h]
  have e1 : sm (fun s => if true = true then fvN u n w c (s + 1) else 0) (2 ^ c - 1) = sm (fun s => if decide (mbit (s + 1) e = 1) = true then fvN u n w c (s + 1) else 0) (2 ^ c - 1) + sm (fun s => if decide (mbit (s + 1) e = 0) = true then fvN u n w c (s + 1) else 0) (2 ^ c - 1) := by
    refine Eq.trans (sg_congr _ (fun s _ => ?_)) (sg_op gM_add _)
    by_cases hb : mbit (s + 1) e = 1
    · simp [hb]
    · simp [mb_0 hb]
  rw [e1, pk_sub (Nat.le_add_right _ _), Nat.add_sub_cancel_left]
end
section
/-! longest, tightest: scans for the best of a score (0: none) -/
abbrev mx (f : Nat → Nat) (n : Nat) : Nat := sg (fun a b => max a b) f n
theorem nI_nn {a : Nat} (ha : a < 2 ^ 31) : ¬ nI a ≤ -4 := fun q => by
  have h1 : (-4 : Int32) < nI 0 := by decide
  have h2 := Int32.lt_of_lt_of_le h1 ((nI_leI (a := 0) (by decide) ha).mpr (Nat.zero_le a))
  exact absurd (Int32.lt_of_lt_of_le h2 q) (Int32.lt_irrefl)
theorem nI_le0 {a : Nat} (ha : a < 2 ^ 31) : nI a ≤ 0 ↔ a = 0 := by
  have := nI_leI (b := 0) ha (by decide)
  rw [nI_0] at this
  rw [this]
  omega
theorem nI_lt0 {a : Nat} (ha : a < 2 ^ 31) : ¬ nI a < 0 := by
  have := nI_ltI (b := 0) ha (by decide)
  rw [nI_0] at this
  rw [this]
  omega
theorem fo_le {u : Nat → Nat → Int32} {f s : Nat} : ∀ d k, (foN u f s d).2 k ≤ 2 ^ d := by
  intro d
  induction d with
  | zero => intro k; exact Nat.zero_le _
  | succ d ih =>
    intro k
    have a := ih k
    have b := ih (k - 1)
    by_cases hb : mbit s d = 1
    · unfold foN at a b ⊢
      rw [foG_t hb]
      dsimp only
      generalize foG (mtX u) (rpX u) (fun a b => a + b) (fun x => x) f s d = v at a b ⊢
      have h2 := Nat.two_pow_pos d
      rw [Nat.pow_succ]
      unfold tkG
      split
      · cases v.1 with
        | none => dsimp only; split <;> omega
        | some j => dsimp only; split <;> split <;> omega
      · omega
    · unfold foN at a ⊢
      rw [foG_f (mb_0 hb), Nat.pow_succ]
      omega
theorem fv_31 {u : Nat → Nat → Int32} {n c : Nat} {w : Int32} (hc : c ≤ 10) (s : Nat) : fvN u n w c s < 2 ^ 31 := by
  have h1 := fo_le (u := u) (f := mFi s 10) (s := s) c (n - 1)
  have h2 : 2 ^ c ≤ 2 ^ 10 := Nat.pow_le_pow_right (by decide) hc
  have h3 : (2 : Nat) ^ 10 < 2 ^ 31 := by decide
  unfold fvN
  split
  · decide
  · split
    · omega
    · decide
theorem rW_31 {u : Nat → Nat → Int32} {n : Nat} {w : Int32} {f e : Nat} (hf : f < 10) (he : e < 10) : rW u n w f e < 2 ^ 31 := by
  have := dN_31 (u := u) hf he (n - 1)
  unfold rW wN
  split
  · split
    · exact this
    · decide
  · decide
theorem sz_le (s : Nat) : ∀ d, mSz s d ≤ d := by
  intro d
  induction d with
  | zero => exact Nat.le_refl _
  | succ d ih =>
    have := mb_lt s d
    show mSz s d + mbit s d ≤ d + 1
    omega
theorem sz_mono {s a : Nat} : ∀ b, mSz s a ≤ mSz s (a + b) := by
  intro b
  induction b with
  | zero => exact Nat.le_refl _
  | succ b ih =>
    show mSz s a ≤ mSz s (a + b) + mbit s (a + b)
    omega
theorem sz_pos {s c : Nat} (hc : c ≤ 10) (hs : s < 2 ^ c) (h0 : s ≠ 0) : 0 < mSz s 10 := by
  obtain ⟨a, b, -⟩ := fst_spec hc hs h0
  have h1 : mSz s (mFi s 10 + 1) = mSz s (mFi s 10) + 1 := congrArg (fun t => mSz s (mFi s 10) + t) b
  obtain ⟨d, hd⟩ : ∃ d, 10 = mFi s 10 + 1 + d := ⟨10 - (mFi s 10 + 1), by omega⟩
  have h2 := sz_mono (s := s) (a := mFi s 10 + 1) d
  rw [← hd] at h2
  omega
/-! longest -/
def bL (m : Nat) : Int32 := if m = 0 then -4 else nI m
theorem bL_le {m z : Nat} (hm : m < 2 ^ 31) (hz : z < 2 ^ 31) (h0 : z ≠ 0) : nI z ≤ bL m ↔ z ≤ m := by
  unfold bL
  by_cases q : m = 0
  · rw [if_pos q]
    exact ⟨fun r => absurd r (nI_nn hz), fun r => absurd r (by omega)⟩
  · rw [if_neg q]
    exact nI_leI hz hm
theorem bL_up {m z : Nat} (hm : m < 2 ^ 31) (hz : z < 2 ^ 31) (h0 : z ≠ 0) : (if nI z ≤ bL m then bL m else nI z) = bL (max m z) := by
  by_cases q : z ≤ m
  · rw [if_pos ((bL_le hm hz h0).mpr q), Nat.max_eq_left q]
  · rw [if_neg (fun r => q ((bL_le hm hz h0).mp r)), Nat.max_eq_right (by omega), bL, if_neg h0]
theorem m_lg {u : Nat → Nat → Int32} {n c : Nat} {w : Int32} (h : sp_ok u n c w) (q : tyQ) : ∀ d, d < 2 ^ c → (mLg u n w c q d).1 = bL (mx (fun s => if fvN u n w c (s + 1) = 0 then 0 else mSz (s + 1) 10) d) := by
  have hc := h.2.1
  intro d
  induction d with
  | zero => intro _; rfl
  | succ d ih =>
    intro hd
    have ih := ih (by omega)
    have hz := sz_pos hc hd (by omega)
    have hz2 := sz_le (d + 1) 10
    have hm : mx (fun s => if fvN u n w c (s + 1) = 0 then 0 else mSz (s + 1) 10) d ≤ 10 := mx_le d (fun i _ => by have := sz_le (i + 1) 10; split <;> omega)
    show (if nI (mSz (d + 1) 10) ≤ (mLg u n w c q d).1 then mLg u n w c q d else (if mFv u n w c (d + 1) (mLg u n w c q d).2 ≤ 0 then (mLg u n w c q d).1 else nI (mSz (d + 1) 10), (mFo u n (d + 1) (mLg u n w c q d).2 c).2)).1 = bL (max (mx (fun s => if fvN u n w c (s + 1) = 0 then 0 else mSz (s + 1) 10) d) (if fvN u n w c (d + 1) = 0 then 0 else mSz (d + 1) 10))
    rw [fv_eq h]
    have hup := bL_up (m := mx (fun s => if fvN u n w c (s + 1) = 0 then 0 else mSz (s + 1) 10) d) (z := mSz (d + 1) 10) (by omega) (by omega) (by omega)
    have h0 := nI_le0 (fv_31 (u := u) (n := n) (w := w) hc (d + 1))
    by_cases q1 : fvN u n w c (d + 1) = 0
    · rw [if_pos (h0.mpr q1), if_pos q1, Nat.max_zero, ← ih]
      split <;> rfl
    · rw [if_neg (fun r => q1 (h0.mp r)), if_neg q1, ← hup, ← ih]
      split <;> rfl
/-- the longest find with first event f and last event e -/
def lW (u : Nat → Nat → Int32) (n : Nat) (w : Int32) (f e : Nat) : Nat := if 0 < n then wL u w f (n - 1) e else 0
theorem lW_0 {u : Nat → Nat → Int32} {n : Nat} {w : Int32} {f e : Nat} (hf : f < 10) (he : e < 10) : rW u n w f e = 0 ↔ lW u n w f e = 0 := by
  have := dNL (u := u) hf e he (n - 1)
  unfold rW lW wN wL
  split
  · split
    · exact this
    · exact Iff.rfl
  · exact Iff.rfl
theorem lW_le {u : Nat → Nat → Int32} {n : Nat} {w : Int32} {f e : Nat} (hf : f < 10) (he : e < 10) : lW u n w f e ≤ 10 := by
  have := dL_le (u := u) hf e he (n - 1)
  unfold lW wL
  split
  · split <;> omega
  · omega
theorem lW_lt {u : Nat → Nat → Int32} {n : Nat} {w : Int32} {f e : Nat} (he : e < f) (h10 : e < 10) : lW u n w f e = 0 := by
  unfold lW wL
  rw [dL_lt he h10]
  split
  · split <;> rfl
  · rfl
theorem x_lgI {u : Nat → Nat → Int32} {n c : Nat} {w : Int32} (h : sp_ok u n c w) {f : Nat} (hf : f < c) (q : tyQ) {m : Nat} (hm : m ≤ 10) : ∀ d, d ≤ c - f → lgI n (xRun u n w c f q).1 (xRun u n w c f q).2 f (bL m) d = bL (max m (mx (fun i => lW u n w f (f + i)) d)) := by
  have hc := h.2.1
  intro d
  induction d with
  | zero =>
    intro _
    show bL m = bL (max m 0)
    rw [Nat.max_zero]
  | succ d ih =>
    intro hd
    have ih := ih (by omega)
    show (if xWh n (xRun u n w c f q).1 (f + d) ≤ 0 then lgI n (xRun u n w c f q).1 (xRun u n w c f q).2 f (bL m) d else if (xRun u n w c f q).2 ((n - 1) * 10 + (f + d)) ≤ lgI n (xRun u n w c f q).1 (xRun u n w c f q).2 f (bL m) d then lgI n (xRun u n w c f q).1 (xRun u n w c f q).2 f (bL m) d else (xRun u n w c f q).2 ((n - 1) * 10 + (f + d))) = bL (max m (max (mx (fun i => lW u n w f (f + i)) d) (lW u n w f (f + d))))
    rw [ih, wh_eq h (by omega) (by omega), ← Nat.max_assoc]
    have h0 := nI_le0 (rW_31 (u := u) (n := n) (w := w) (f := f) (e := f + d) (by omega) (by omega))
    have h1 := lW_0 (u := u) (n := n) (w := w) (f := f) (e := f + d) (by omega) (by omega)
    have h2 := lW_le (u := u) (n := n) (w := w) (f := f) (e := f + d) (by omega) (by omega)
    have h3 : max m (mx (fun i => lW u n w f (f + i)) d) ≤ 10 := Nat.max_le.mpr ⟨hm, mx_le d (fun i hi => lW_le (by omega) (by omega))⟩
    by_cases q1 : rW u n w f (f + d) = 0
    · rw [if_pos (h0.mpr q1), h1.mp q1, Nat.max_zero]
    · rw [if_neg (fun r => q1 (h0.mp r))]
      have hn : 0 < n := by
        by_cases hn : 0 < n
        · exact hn
        · exact absurd (by unfold rW; rw [if_neg hn]) q1
      have h4 : (xRun u n w c f q).2 ((n - 1) * 10 + (f + d)) = nI (lW u n w f (f + d)) := by
        rw [lW, if_pos hn]
        exact (run_tab h hf q (by omega) (by omega) (n - 1) (by omega)).2
      rw [h4]
      exact bL_up (by omega) (by omega) (fun r => q1 (h1.mpr r))
theorem x_lg {u : Nat → Nat → Int32} {n c : Nat} {w : Int32} (h : sp_ok u n c w) (z : tyZ) : ∀ d, d ≤ c → lgO u n w c z d = bL (mx (fun f => mx (fun i => lW u n w f (f + i)) (c - f)) d) := by
  have hc := h.2.1
  intro d
  induction d with
  | zero => intro _; rfl
  | succ d ih =>
    intro hd
    show lgI n (xRun u n w c d ((zEnd u n w c z d).2.1, (zEnd u n w c z d).2.2.2)).1 (xRun u n w c d ((zEnd u n w c z d).2.1, (zEnd u n w c z d).2.2.2)).2 d (lgO u n w c z d) (c - d) = bL (max (mx (fun f => mx (fun i => lW u n w f (f + i)) (c - f)) d) (mx (fun i => lW u n w d (d + i)) (c - d)))
    rw [ih (by omega)]
    exact x_lgI h (by omega) _ (mx_le d (fun f hf => mx_le (c - f) (fun i hi => lW_le (by omega) (by omega)))) (c - d) (Nat.le_refl _)
/-- one set: the measure is its size where it counts at all -/
theorem fo_sz {u : Nat → Nat → Int32} {f s : Nat} : ∀ d, (foG (mtX u) (rpX u) (fun a b => max a b) sc f s d).1 = (foN u f s d).1 ∧ ((foN u f s d).1 ≠ none → mSz s d ≠ 0) ∧ ((foN u f s d).1 = none → mSz s d = 0) ∧ ∀ k, (foG (mtX u) (rpX u) (fun a b => max a b) sc f s d).2 k = if (foN u f s d).2 k = 0 then 0 else mSz s d := by
  intro d
  induction d with
  | zero => exact ⟨rfl, fun q => absurd rfl q, fun _ => rfl, fun _ => rfl⟩
  | succ d ih =>
    obtain ⟨i1, i2, i3, i4⟩ := ih
    by_cases hb : mbit s d = 1
    · have hz : mSz s (d + 1) = mSz s d + 1 := congrArg (fun t => mSz s d + t) hb
      unfold foN at i1 i2 i3 i4 ⊢
      rw [foG_t hb, foG_t hb, hz, i1]
      refine ⟨rfl, fun _ => by omega, fun q => by simp at q, fun k => ?_⟩
      generalize foG (mtX u) (rpX u) (fun a b => a + b) (fun x => x) f s d = v at i1 i2 i3 i4 ⊢
      generalize foG (mtX u) (rpX u) (fun a b => max a b) sc f s d = v' at i1 i4 ⊢
      show tkG (mtX u) (rpX u) (fun a b => max a b) sc f v.1 v'.2 d k = if tkG (mtX u) (rpX u) (fun a b => a + b) (fun x => x) f v.1 v.2 d k = 0 then 0 else mSz s d + 1
      unfold tkG
      by_cases hm : mtX u f k v.1 d = true
      · rw [if_pos hm, if_pos hm]
        cases hv : v.1 with
        | none =>
          dsimp only
          rw [i3 hv]
          by_cases hk : k = 0
          · rw [if_pos hk]; rfl
          · rw [if_neg hk]; rfl
        | some j =>
          have hz0 : mSz s d ≠ 0 := i2 (by rw [hv]; simp)
          have hs : ∀ k, sc (v'.2 k) = if v.2 k = 0 then 0 else mSz s d + 1 := by
            intro k
            rw [i4 k]
            unfold sc
            by_cases q : v.2 k = 0
            · rw [if_pos q, if_pos q, if_pos rfl]
            · rw [if_neg q, if_neg q, if_neg hz0]
          dsimp only
          rw [hs k, hs (k - 1)]
          generalize rpX u k = ra
          generalize v.2 k = va
          generalize v.2 (k - 1) = vb
          by_cases a1 : ra = true <;> by_cases a2 : k = 0 <;> by_cases a3 : va = 0 <;> by_cases a4 : vb = 0 <;> simp [a1, a2, a3, a4]
      · rw [if_neg hm, if_neg hm, if_pos rfl]
    · have hz : mSz s (d + 1) = mSz s d := by
        show mSz s d + mbit s d = mSz s d
        rw [mb_0 hb, Nat.add_zero]
      unfold foN at i1 i2 i3 i4 ⊢
      rw [foG_f (mb_0 hb), foG_f (mb_0 hb), hz]
      exact ⟨i1, i2, i3, i4⟩
theorem lg_sum {u : Nat → Nat → Int32} {n c : Nat} {w : Int32} (hc : c ≤ 10) : mx (fun f => mx (fun i => lW u n w f (f + i)) (c - f)) c = mx (fun s => if fvN u n w c (s + 1) = 0 then 0 else mSz (s + 1) 10) (2 ^ c - 1) := by
  refine (triG gM_max (L := fun f e => lW u n w f e) (fun f e h1 h2 => lW_lt h1 (by omega))).trans (Eq.trans ?_ (totG gM_max (g := fun s => if fvN u n w c s = 0 then 0 else mSz s 10) (by rw [fv_0, if_pos rfl]) c).symm)
  refine sg_congr c (fun e he => ?_)
  have b := byG (mt := mtX u) (rp := rpX u) (h := sc) gM_max (e := e) (by omega) (iwX u w) n (fun _ => true)
  refine Eq.trans (sg_congr (e + 1) (fun f _ => ?_)) (b.symm.trans (sg_congr _ (fun s hs => ?_)))
  · rw [dP_true]
    unfold lW wL dL
    by_cases hn : 0 < n
    · by_cases hw : iwX u w f e = true
      · rw [if_pos hn, if_pos hw, if_pos ⟨hw, hn⟩]
      · rw [if_pos hn, if_neg hw, if_neg (fun r : iwX u w f e = true ∧ 0 < n => hw r.1)]
    · rw [if_neg hn, if_neg (fun r : iwX u w f e = true ∧ 0 < n => hn r.2)]
  · rw [if_pos rfl, fv_top hs he]
    unfold fvG
    by_cases hw : iwX u w (mFi (2 ^ e + s) 10) e = true ∧ 0 < n
    · have hz : mSz (2 ^ e + s) 10 = mSz (2 ^ e + s) (e + 1) := by
        obtain ⟨d, hd⟩ : ∃ d, 10 = e + 1 + d := ⟨10 - (e + 1), by omega⟩
        rw [hd]
        exact msz_stay d (fun i h1 _ => mb_z (two_lt hs) h1)
      rw [if_pos hw, if_pos hw, hz]
      exact (fo_sz (e + 1)).2.2.2 (n - 1)
    · rw [if_neg hw, if_neg hw, if_pos rfl]
theorem pl_lg {u : Nat → Nat → Int32} {n c : Nat} {w : Int32} (h : sp_ok u n c w) (z : tyZ) (q : tyQ) : lgO u n w c z c = (mLg u n w c q (2 ^ c - 1)).1 := by
  rw [x_lg h z c (Nat.le_refl _), m_lg h q (2 ^ c - 1) (by have := Nat.two_pow_pos c; omega), lg_sum h.2.1]
end
section
/-! tightest: the score of a width t is 100 - t -/
def bT (m : Nat) : Int32 := if m = 0 then -4 else nI (100 - m)
theorem bT_up {m t : Nat} (hm : m ≤ 100) (ht : t ≤ 50) : (if ¬ bT m = -4 ∧ bT m ≤ nI t then bT m else nI t) = bT (max m (100 - t)) := by
  by_cases h0 : m = 0
  · subst h0
    rw [if_neg (fun q : ¬ bT 0 = -4 ∧ bT 0 ≤ nI t => q.1 rfl), Nat.zero_max, bT, if_neg (by omega)]
    congr 1
    omega
  · have e1 : bT m = nI (100 - m) := by unfold bT; rw [if_neg h0]
    have e2 : ¬ bT m = -4 := fun q => nI_nn (a := 100 - m) (by omega) (by rw [← e1, q]; exact Int32.le_refl _)
    have e3 : bT m ≤ nI t ↔ 100 - m ≤ t := by rw [e1]; exact nI_leI (by omega) (by omega)
    by_cases q : 100 - m ≤ t
    · rw [if_pos ⟨e2, e3.mpr q⟩, Nat.max_eq_left (by omega)]
    · rw [if_neg (fun r : ¬ bT m = -4 ∧ bT m ≤ nI t => q (e3.mp r.2)), Nat.max_eq_right (by omega), bT, if_neg (by omega)]
      congr 1
      omega
theorem bT_up2 {m t : Nat} (hm : m ≤ 100) (ht : t ≤ 50) : (if bT m < 0 then nI t else if bT m ≤ nI t then bT m else nI t) = bT (max m (100 - t)) := by
  rw [← bT_up hm ht]
  by_cases h0 : m = 0
  · subst h0
    rw [if_pos (show bT 0 < 0 by decide), if_neg (fun q : ¬ bT 0 = -4 ∧ bT 0 ≤ nI t => q.1 rfl)]
  · have e1 : bT m = nI (100 - m) := by unfold bT; rw [if_neg h0]
    have e2 : ¬ bT m = -4 := fun q => nI_nn (a := 100 - m) (by omega) (by rw [← e1, q]; exact Int32.le_refl _)
    have e4 : ¬ bT m < 0 := by rw [e1]; exact nI_lt0 (by omega)
    rw [if_neg e4]
    by_cases q : bT m ≤ nI t
    · rw [if_pos q, if_pos ⟨e2, q⟩]
    · rw [if_neg q, if_neg (fun r : ¬ bT m = -4 ∧ bT m ≤ nI t => q r.2)]
theorem set_ex {c : Nat} : ∀ {s : Nat}, s < 2 ^ c → s ≠ 0 → ∃ e s', e < c ∧ s' < 2 ^ e ∧ s = 2 ^ e + s' := by
  induction c with
  | zero => intro s h h0; exact absurd h (by simp; omega)
  | succ c ih =>
    intro s h h0
    by_cases hs : s < 2 ^ c
    · obtain ⟨e, s', a, b, d⟩ := ih hs h0
      exact ⟨e, s', by omega, b, d⟩
    · rw [Nat.pow_succ] at h
      exact ⟨c, s - 2 ^ c, by omega, by omega, by omega⟩
theorem m_tg {u : Nat → Nat → Int32} {n c : Nat} {w : Int32} (h : sp_ok u n c w) (q : tyQ) {T : Nat → Nat} (hT : ∀ i, i < c → T i ≤ 50) (hd : ∀ f e, f ≤ e → e < c → u 6 e - u 6 f = nI (T e - T f)) : ∀ d, d < 2 ^ c → (mTg u n w c q d).1 = bT (mx (fun s => if fvN u n w c (s + 1) = 0 then 0 else 100 - (T (mLa (s + 1) 10) - T (mFi (s + 1) 10))) d) := by
  have hc := h.2.1
  intro d
  induction d with
  | zero => intro _; rfl
  | succ d ih =>
    intro hd2
    have ih := ih (by omega)
    have ht : mTgt u (d + 1) = nI (T (mLa (d + 1) 10) - T (mFi (d + 1) 10)) ∧ T (mLa (d + 1) 10) - T (mFi (d + 1) 10) ≤ 50 := by
      obtain ⟨e, s', a1, a2, a3⟩ := set_ex hd2 (by omega)
      unfold mTgt
      rw [a3, lst_of (by omega) a2]
      have := fst_le (by omega) a2
      have := hT e a1
      exact ⟨hd _ _ (by omega) a1, by omega⟩
    have hm : mx (fun s => if fvN u n w c (s + 1) = 0 then 0 else 100 - (T (mLa (s + 1) 10) - T (mFi (s + 1) 10))) d ≤ 100 := mx_le d (fun i _ => by split <;> omega)
    show (if ¬ (mTg u n w c q d).1 = -4 ∧ (mTg u n w c q d).1 ≤ mTgt u (d + 1) then mTg u n w c q d else (if mFv u n w c (d + 1) (mTg u n w c q d).2 ≤ 0 then (mTg u n w c q d).1 else mTgt u (d + 1), (mFo u n (d + 1) (mTg u n w c q d).2 c).2)).1 = bT (max (mx (fun s => if fvN u n w c (s + 1) = 0 then 0 else 100 - (T (mLa (s + 1) 10) - T (mFi (s + 1) 10))) d) (if fvN u n w c (d + 1) = 0 then 0 else 100 - (T (mLa (d + 1) 10) - T (mFi (d + 1) 10))))
    rw [fv_eq h, ht.1]
    have hup := bT_up hm ht.2
    have h0 := nI_le0 (fv_31 (u := u) (n := n) (w := w) hc (d + 1))
    by_cases q1 : fvN u n w c (d + 1) = 0
    · rw [if_pos (h0.mpr q1), if_pos q1, Nat.max_zero, ← ih]
      split <;> rfl
    · rw [if_neg (fun r => q1 (h0.mp r)), if_neg q1, ← hup, ← ih]
      split <;> rfl
/-- the tightest find with first event f and last event e, as a score -/
def tW (u : Nat → Nat → Int32) (n : Nat) (w : Int32) (T : Nat → Nat) (f e : Nat) : Nat := if rW u n w f e = 0 then 0 else 100 - (T e - T f)
theorem tW_le {u : Nat → Nat → Int32} {n : Nat} {w : Int32} {T : Nat → Nat} {f e : Nat} : tW u n w T f e ≤ 100 := by
  unfold tW
  split <;> omega
theorem x_tgI {u : Nat → Nat → Int32} {n c : Nat} {w : Int32} (h : sp_ok u n c w) {T : Nat → Nat} (hT : ∀ i, i < c → T i ≤ 50) (hu : ∀ f e, f ≤ e → e < c → u 6 e - u 6 f = nI (T e - T f)) {f : Nat} (hf : f < c) (q : tyQ) {m : Nat} (hm : m ≤ 100) : ∀ d, d ≤ c - f → tgI u n (xRun u n w c f q).1 f (bT m) d = bT (max m (mx (fun i => tW u n w T f (f + i)) d)) := by
  have hc := h.2.1
  intro d
  induction d with
  | zero =>
    intro _
    show bT m = bT (max m 0)
    rw [Nat.max_zero]
  | succ d ih =>
    intro hd
    have ih := ih (by omega)
    show (if xWh n (xRun u n w c f q).1 (f + d) ≤ 0 then tgI u n (xRun u n w c f q).1 f (bT m) d else if tgI u n (xRun u n w c f q).1 f (bT m) d < 0 then u 6 (f + d) - u 6 f else if tgI u n (xRun u n w c f q).1 f (bT m) d ≤ u 6 (f + d) - u 6 f then tgI u n (xRun u n w c f q).1 f (bT m) d else u 6 (f + d) - u 6 f) = bT (max m (max (mx (fun i => tW u n w T f (f + i)) d) (tW u n w T f (f + d))))
    rw [ih, wh_eq h (by omega) (by omega), ← Nat.max_assoc, hu f (f + d) (by omega) (by omega)]
    have h0 := nI_le0 (rW_31 (u := u) (n := n) (w := w) (f := f) (e := f + d) (by omega) (by omega))
    have h3 : max m (mx (fun i => tW u n w T f (f + i)) d) ≤ 100 := Nat.max_le.mpr ⟨hm, mx_le d (fun i hi => tW_le)⟩
    have h4 := hT (f + d) (by omega)
    by_cases q1 : rW u n w f (f + d) = 0
    · have e1 : tW u n w T f (f + d) = 0 := if_pos q1
      rw [if_pos (h0.mpr q1), e1, Nat.max_zero]
    · have e1 : tW u n w T f (f + d) = 100 - (T (f + d) - T f) := if_neg q1
      rw [if_neg (fun r => q1 (h0.mp r)), e1]
      exact bT_up2 h3 (by omega)
theorem x_tg {u : Nat → Nat → Int32} {n c : Nat} {w : Int32} (h : sp_ok u n c w) {T : Nat → Nat} (hT : ∀ i, i < c → T i ≤ 50) (hu : ∀ f e, f ≤ e → e < c → u 6 e - u 6 f = nI (T e - T f)) (z : tyZ) : ∀ d, d ≤ c → tgO u n w c z d = bT (mx (fun f => mx (fun i => tW u n w T f (f + i)) (c - f)) d) := by
  intro d
  induction d with
  | zero => intro _; rfl
  | succ d ih =>
    intro hd
    show tgI u n (xRun u n w c d ((zEnd u n w c z d).2.1, (zEnd u n w c z d).2.2.2)).1 d (tgO u n w c z d) (c - d) = bT (max (mx (fun f => mx (fun i => tW u n w T f (f + i)) (c - f)) d) (mx (fun i => tW u n w T d (d + i)) (c - d)))
    rw [ih (by omega)]
    exact x_tgI h hT hu (by omega) _ (mx_le d (fun f hf => mx_le (c - f) (fun i hi => tW_le))) (c - d) (Nat.le_refl _)
theorem mx_if {g : Nat → Nat} {D : Nat} : ∀ n, mx (fun s => if g s = 0 then 0 else D) n = if sm g n = 0 then 0 else D := by
  intro n
  induction n with
  | zero => rfl
  | succ n ih =>
    show max (mx (fun s => if g s = 0 then 0 else D) n) (if g n = 0 then 0 else D) = if sm g n + g n = 0 then 0 else D
    rw [ih]
    by_cases h1 : sm g n = 0
    · rw [if_pos h1, Nat.zero_max, h1, Nat.zero_add]
    · rw [if_neg h1, if_neg (show ¬ sm g n + g n = 0 by omega)]
      split <;> omega
theorem tg_sum {u : Nat → Nat → Int32} {n c : Nat} {w : Int32} (hc : c ≤ 10) (T : Nat → Nat) : mx (fun f => mx (fun i => tW u n w T f (f + i)) (c - f)) c = mx (fun s => if fvN u n w c (s + 1) = 0 then 0 else 100 - (T (mLa (s + 1) 10) - T (mFi (s + 1) 10))) (2 ^ c - 1) := by
  refine (triG gM_max (L := fun f e => tW u n w T f e) (fun f e h1 h2 => if_pos (rW_lt h1 (by omega)))).trans (Eq.trans ?_ (totG gM_max (g := fun s => if fvN u n w c s = 0 then 0 else 100 - (T (mLa s 10) - T (mFi s 10))) (by rw [fv_0, if_pos rfl]) c).symm)
  refine sg_congr c (fun e he => ?_)
  have e1 : ∀ f, f < e + 1 → tW u n w T f e = mx (fun s => if f = mFi (2 ^ e + s) 10 then (if fvN u n w c (2 ^ e + s) = 0 then 0 else 100 - (T e - T f)) else 0) (2 ^ e) := by
    intro f hf
    have b := by_first (u := u) (n := n) (w := w) he hc (fun f' => decide (f' = f))
    have b2 : sm (fun f' => if decide (f' = f) = true then rW u n w f' e else 0) (e + 1) = rW u n w f e := by
      simp only [decide_eq_true_eq]
      refine (sg_one gM_add (f := fun f' => rW u n w f' e) f (e + 1)).trans ?_
      rw [if_pos hf]
    rw [tW, ← b2, ← b, ← mx_if]
    refine sg_congr _ (fun s _ => ?_)
    by_cases q : mFi (2 ^ e + s) 10 = f
    · simp [q]
    · have q' : ¬ f = mFi (2 ^ e + s) 10 := fun r => q r.symm
      simp [q, q']
  refine (sg_congr (e + 1) e1).trans ((sg_swap gM_max (2 ^ e) (e + 1)).trans (sg_congr _ (fun s hs => ?_)))
  rw [sg_one gM_max (f := fun f => if fvN u n w c (2 ^ e + s) = 0 then 0 else 100 - (T e - T f)) (mFi (2 ^ e + s) 10) (e + 1)]
  have := fst_le (by omega : e < 10) hs
  rw [if_pos (show mFi (2 ^ e + s) 10 < e + 1 by omega), lst_of (by omega) hs]
theorem pl_tg {u : Nat → Nat → Int32} {n c : Nat} {w : Int32} (h : sp_ok u n c w) (z : tyZ) (q : tyQ) : tgO u n w c z c = (mTg u n w c q (2 ^ c - 1)).1 := by
  obtain ⟨W, T, -, -, h1, -, h2⟩ := iw_iff h
  have hc := h.2.1
  have hT : ∀ i, i < c → T i ≤ 50 := fun i hi => by have := (h1 i hi).2; omega
  have hu : ∀ f e, f ≤ e → e < c → u 6 e - u 6 f = nI (T e - T f) := fun f e a b => (h2 f e a b).1
  rw [x_tg h hT hu z c (Nat.le_refl _), m_tg h q hT hu (2 ^ c - 1) (by have := Nat.two_pow_pos c; omega), tg_sum hc T]
end
section
/-! THE LAW: its loop, over both worlds beside each other -/
def kw_X (g : kw_C) (b L : Nat) (xs : Nat → Int32) : Prop := match g with
  | (p, l, e, R, s, m, args, below, meth, c, D, A, nL, cells, slots, Q) => va_X b L xs s s.heap ∧ b < s.heap.size ∧ ¬ A b
theorem kw_slen {g : kw_C} {cc : ByteArray} {own : String} {tys : List (ClassId × FieldType)} {nl fr lo : Nat} (hg : kw_O g cc own tys nl fr lo) {b L : Nat} {xs : Nat → Int32} (hX : kw_X g b L xs) {pc : Nat} {lv : List (Nat × Value)} {st : List Value} {w : va_W} (hd : decode cc pc = .ok (.arraylength, 1)) (kk : kw_W g (pc + 1) lv (.int (nI L) :: st) w) : kw_W g pc lv (.ref b :: st) w := by
  obtain ⟨p, l, e, R, s, m, args, below, meth, c, D, A, nL, cells, slots, Q⟩ := g
  obtain ⟨rfl, ⟨hx, hb, hml, hown, hts⟩, hK, hA, hfr, hlo, hce, hsl⟩ := hg
  obtain ⟨h1, h2, h3⟩ := hX
  intro H locs ls hP hD hS hl
  exact va_slen hx hb h1 h2 h3 hS hd (kk H locs ls hP hD hS hl)
theorem kw_sld {g : kw_C} {cc : ByteArray} {own : String} {tys : List (ClassId × FieldType)} {nl fr lo : Nat} (hg : kw_O g cc own tys nl fr lo) {b L : Nat} {xs : Nat → Int32} (hX : kw_X g b L xs) {pc : Nat} {lv : List (Nat × Value)} {st : List Value} {w : va_W} (j : Nat) (hj : j < L ∧ L ≤ 256) (hd : decode cc pc = .ok (.iaload, 1)) (kk : kw_W g (pc + 1) lv (.int (xs j) :: st) w) : kw_W g pc lv (.int (nI j) :: .ref b :: st) w := by
  obtain ⟨p, l, e, R, s, m, args, below, meth, c, D, A, nL, cells, slots, Q⟩ := g
  obtain ⟨rfl, ⟨hx, hb, hml, hown, hts⟩, hK, hA, hfr, hlo, hce, hsl⟩ := hg
  obtain ⟨h1, h2, h3⟩ := hX
  intro H locs ls hP hD hS hl
  have hc : (nI j).toNatClampNeg = j := nI_clamp (by omega)
  refine va_sld hx hb h1 h2 h3 hS (vp_in_nI hj.1 (by omega)) hd ?_
  rw [hc]
  exact kk H locs ls hP hD hS hl
theorem kw_tabIn {g : kw_C} {cc : ByteArray} {own : String} {tys : List (ClassId × FieldType)} {nl fr lo : Nat} (hg : kw_O g cc own tys nl fr lo) {pc : Nat} {lv : List (Nat × Value)} {st : List Value} {w : va_W} {dflt lo' hi : Int} {offs : Array Int} {len : Nat} {x : Int32} {off : Int} (tgt : Nat) (hd : decode cc pc = .ok (.tableswitch dflt lo' hi offs, len)) (h1 : ¬ x.toInt < lo') (h2 : ¬ hi < x.toInt) (ho : offs[(x.toInt - lo').toNat]? = some off) (ht : (pc : Int) + off = (tgt : Int)) (kk : kw_W g tgt lv st w) : kw_W g pc lv (.int x :: st) w := by
  obtain ⟨p, l, e, R, s, m, args, below, meth, c, D, A, nL, cells, slots, Q⟩ := g
  obtain ⟨rfl, ⟨hx, hb, hml, hown, hts⟩, hK, hA, hfr, hlo, hce, hsl⟩ := hg
  intro H locs ls hP hD hS hl
  exact lv_tableIn hx hb hd h1 h2 ho ht (kk H locs ls hP hD hS hl)
theorem kw_tabOut {g : kw_C} {cc : ByteArray} {own : String} {tys : List (ClassId × FieldType)} {nl fr lo : Nat} (hg : kw_O g cc own tys nl fr lo) {pc : Nat} {lv : List (Nat × Value)} {st : List Value} {w : va_W} {dflt lo' hi : Int} {offs : Array Int} {len : Nat} {x : Int32} (tgt : Nat) (hd : decode cc pc = .ok (.tableswitch dflt lo' hi offs, len)) (h : x.toInt < lo' ∨ hi < x.toInt) (ht : (pc : Int) + dflt = (tgt : Int)) (kk : kw_W g tgt lv st w) : kw_W g pc lv (.int x :: st) w := by
  obtain ⟨p, l, e, R, s, m, args, below, meth, c, D, A, nL, cells, slots, Q⟩ := g
  obtain ⟨rfl, ⟨hx, hb, hml, hown, hts⟩, hK, hA, hfr, hlo, hce, hsl⟩ := hg
  intro H locs ls hP hD hS hl
  exact lv_tableOut hx hb hd h ht (kk H locs ls hP hD hS hl)
theorem scr_t {L t : Nat} (h : L < 4 * t + 4) (hL : L ≤ 256) (ht : 4 * t ≤ 256) : nI L - 4 < nI (4 * t) := by
  rw [Int32.lt_iff_toInt_lt, show (4 : Int32) = nI 4 from rfl, pk_sub_toInt (by omega) (by omega), nI_toInt (by omega)]
  omega
theorem scr_f {L t : Nat} (h : 4 * t + 4 ≤ L) (hL : L ≤ 256) : ¬ nI L - 4 < nI (4 * t) := by
  rw [Int32.lt_iff_toInt_lt, show (4 : Int32) = nI 4 from rfl, pk_sub_toInt (by omega) (by omega), nI_toInt (by omega)]
  omega
theorem ev_in {p : Int32} {c : Nat} (hc : c ≤ 10) (h : ¬ (decide (p < 0) || decide (¬ p < nI c)) = true) : ∃ e, e < c ∧ p = nI e := by
  rcases pk_ix p (n := c) (by omega) with q | q | q
  · exact absurd (by simp [q]) h
  · exact absurd (by simp [Int32.not_lt.mpr q]) h
  · exact q
set_option maxHeartbeats 4000000 in
set_option maxRecDepth 100000 in
/-- begin -/
theorem law_0 {g : kw_C} {b L : Nat} {xs : Nat → Int32} {jx jm : Nat} {kx km : Nat → Nat} {lx lm : Nat → ClassId} (hg : kw_O g cL_law RL0 (tX lx ++ tM lm) 4 9 326) (hX : kw_X g b L xs) (hL : L ≤ 256) (t : Nat) (ht : 4 * t + 4 ≤ L) (u : Nat → Nat → Int32) (n c : Nat) (w fi : Int32) (r y o ym bm : Nat → Int32) (hk : sp_ok u n c w) (kk : ∀ (u : Nat → Nat → Int32) (n c : Nat) (w fi : Int32) (r y o ym bm : Nat → Int32), sp_ok u n c w → kw_W g 392 [(0, .ref b), (1, .ref jx), (2, .ref jm), (3, .int (nI (4 * t)))] [] (wX jx kx lx u (nI n) w (nI c) fi r y o ++ wM jm km lm u (nI n) w (nI c) ym bm)) : kw_W g 104 [(0, .ref b), (1, .ref jx), (2, .ref jm), (3, .int (nI (4 * t)))] [] (wX jx kx lx u (nI n) w (nI c) fi r y o ++ wM jm km lm u (nI n) w (nI c) ym bm) := by
  have hn : n ≤ 4 := hk.1
  have hc : c ≤ 10 := hk.2.1
  refine kw_aload_n hg 1 dL_law_104 rfl rfl ?_
  refine kw_callv hg (mX_begin) kw_J.left (fun _ _ h => h.sub [0, 1, 2, 3, 4, 5, 6, 7, 8, 9] rfl) ll_X0_begin ly_X0_begin rfl ⟨Nat.le_of_ble_eq_true rfl, Nat.le_of_ble_eq_true rfl⟩ rfl rfl rfl (Nat.le_of_ble_eq_true rfl) dL_law_105 ?_
  refine kw_aload_n hg 2 dL_law_108 rfl rfl ?_
  refine kw_callv hg (mM_begin) kw_J.right (fun _ _ h => h.sub [10, 11, 12, 13, 14, 15, 16, 17, 18] rfl) ll_X1_begin ly_X1_begin rfl ⟨Nat.le_of_ble_eq_true rfl, Nat.le_of_ble_eq_true rfl⟩ rfl rfl rfl (Nat.le_of_ble_eq_true rfl) dL_law_109 ?_
  refine kw_goto hg 392 dL_law_112 (by decide) ?_
  exact kk _ _ _ _ _ _ _ _ _ _ (pl_begin_ok hk)
set_option maxHeartbeats 4000000 in
set_option maxRecDepth 100000 in
/-- step -/
theorem law_1 {g : kw_C} {b L : Nat} {xs : Nat → Int32} {jx jm : Nat} {kx km : Nat → Nat} {lx lm : Nat → ClassId} (hg : kw_O g cL_law RL0 (tX lx ++ tM lm) 4 9 326) (hX : kw_X g b L xs) (hL : L ≤ 256) (t : Nat) (ht : 4 * t + 4 ≤ L) (u : Nat → Nat → Int32) (n c : Nat) (w fi : Int32) (r y o ym bm : Nat → Int32) (hk : sp_ok u n c w) (kk : ∀ (u : Nat → Nat → Int32) (n c : Nat) (w fi : Int32) (r y o ym bm : Nat → Int32), sp_ok u n c w → kw_W g 392 [(0, .ref b), (1, .ref jx), (2, .ref jm), (3, .int (nI (4 * t)))] [] (wX jx kx lx u (nI n) w (nI c) fi r y o ++ wM jm km lm u (nI n) w (nI c) ym bm)) : kw_W g 115 [(0, .ref b), (1, .ref jx), (2, .ref jm), (3, .int (nI (4 * t)))] [] (wX jx kx lx u (nI n) w (nI c) fi r y o ++ wM jm km lm u (nI n) w (nI c) ym bm) := by
  have hn : n ≤ 4 := hk.1
  have hc : c ≤ 10 := hk.2.1
  have e1 := pl_step_eq u n (xs (4 * t + 1)) (xs (4 * t + 2)) (xs (4 * t + 3))
  refine kw_aload_n hg 1 dL_law_115 rfl rfl ?_
  refine kw_aload_n hg 0 dL_law_116 rfl rfl ?_
  refine kw_iload_n hg 3 dL_law_117 rfl rfl ?_
  refine kw_iconst (v := 1) hg dL_law_118 (by decide) ?_
  refine kw_iadd hg dL_law_119 ?_
  refine kw_top (nI (4 * t + 1)) (show nI (4 * t) + nI 1 = nI (4 * t + 1) from nI_add _ _) ?_
  refine kw_sld hg hX _ (by omega) dL_law_120 ?_
  refine kw_aload_n hg 0 dL_law_121 rfl rfl ?_
  refine kw_iload_n hg 3 dL_law_122 rfl rfl ?_
  refine kw_iconst (v := 2) hg dL_law_123 (by decide) ?_
  refine kw_iadd hg dL_law_124 ?_
  refine kw_top (nI (4 * t + 2)) (show nI (4 * t) + nI 2 = nI (4 * t + 2) from nI_add _ _) ?_
  refine kw_sld hg hX _ (by omega) dL_law_125 ?_
  refine kw_aload_n hg 0 dL_law_126 rfl rfl ?_
  refine kw_iload_n hg 3 dL_law_127 rfl rfl ?_
  refine kw_iconst (v := 3) hg dL_law_128 (by decide) ?_
  refine kw_iadd hg dL_law_129 ?_
  refine kw_top (nI (4 * t + 3)) (show nI (4 * t) + nI 3 = nI (4 * t + 3) from nI_add _ _) ?_
  refine kw_sld hg hX _ (by omega) dL_law_130 ?_
  refine kw_calli hg (mX_step _ _ _ hn) kw_J.left (fun _ _ h => h.sub [0, 1, 2, 3, 4, 5, 6, 7, 8, 9] rfl) ll_X0_step ly_X0_step rfl ⟨Nat.le_of_ble_eq_true rfl, Nat.le_of_ble_eq_true rfl⟩ rfl rfl rfl (Nat.le_of_ble_eq_true rfl) dL_law_131 ?_
  refine kw_aload_n hg 2 dL_law_134 rfl rfl ?_
  refine kw_aload_n hg 0 dL_law_135 rfl rfl ?_
  refine kw_iload_n hg 3 dL_law_136 rfl rfl ?_
  refine kw_iconst (v := 1) hg dL_law_137 (by decide) ?_
  refine kw_iadd hg dL_law_138 ?_
  refine kw_top (nI (4 * t + 1)) (show nI (4 * t) + nI 1 = nI (4 * t + 1) from nI_add _ _) ?_
  refine kw_sld hg hX _ (by omega) dL_law_139 ?_
  refine kw_aload_n hg 0 dL_law_140 rfl rfl ?_
  refine kw_iload_n hg 3 dL_law_141 rfl rfl ?_
  refine kw_iconst (v := 2) hg dL_law_142 (by decide) ?_
  refine kw_iadd hg dL_law_143 ?_
  refine kw_top (nI (4 * t + 2)) (show nI (4 * t) + nI 2 = nI (4 * t + 2) from nI_add _ _) ?_
  refine kw_sld hg hX _ (by omega) dL_law_144 ?_
  refine kw_aload_n hg 0 dL_law_145 rfl rfl ?_
  refine kw_iload_n hg 3 dL_law_146 rfl rfl ?_
  refine kw_iconst (v := 3) hg dL_law_147 (by decide) ?_
  refine kw_iadd hg dL_law_148 ?_
  refine kw_top (nI (4 * t + 3)) (show nI (4 * t) + nI 3 = nI (4 * t + 3) from nI_add _ _) ?_
  refine kw_sld hg hX _ (by omega) dL_law_149 ?_
  refine kw_calli hg (mM_step _ _ _ hn) kw_J.right (fun _ _ h => h.sub [10, 11, 12, 13, 14, 15, 16, 17, 18] rfl) ll_X1_step ly_X1_step rfl ⟨Nat.le_of_ble_eq_true rfl, Nat.le_of_ble_eq_true rfl⟩ rfl rfl rfl (Nat.le_of_ble_eq_true rfl) dL_law_150 ?_
  refine kw_icmp_eq hg 392 dL_law_153 (by decide) (fun c153 => ?_) (fun c153 => absurd (e1.1) c153)
  rw [← e1.2.1, ← e1.2.2]
  exact kk _ _ _ _ _ _ _ _ _ _ (pl_step_ok _ _ _ _ hk)
set_option maxHeartbeats 4000000 in
set_option maxRecDepth 100000 in
/-- window -/
theorem law_2 {g : kw_C} {b L : Nat} {xs : Nat → Int32} {jx jm : Nat} {kx km : Nat → Nat} {lx lm : Nat → ClassId} (hg : kw_O g cL_law RL0 (tX lx ++ tM lm) 4 9 326) (hX : kw_X g b L xs) (hL : L ≤ 256) (t : Nat) (ht : 4 * t + 4 ≤ L) (u : Nat → Nat → Int32) (n c : Nat) (w fi : Int32) (r y o ym bm : Nat → Int32) (hk : sp_ok u n c w) (kk : ∀ (u : Nat → Nat → Int32) (n c : Nat) (w fi : Int32) (r y o ym bm : Nat → Int32), sp_ok u n c w → kw_W g 392 [(0, .ref b), (1, .ref jx), (2, .ref jm), (3, .int (nI (4 * t)))] [] (wX jx kx lx u (nI n) w (nI c) fi r y o ++ wM jm km lm u (nI n) w (nI c) ym bm)) : kw_W g 158 [(0, .ref b), (1, .ref jx), (2, .ref jm), (3, .int (nI (4 * t)))] [] (wX jx kx lx u (nI n) w (nI c) fi r y o ++ wM jm km lm u (nI n) w (nI c) ym bm) := by
  have hn : n ≤ 4 := hk.1
  have hc : c ≤ 10 := hk.2.1
  refine kw_aload_n hg 1 dL_law_158 rfl rfl ?_
  refine kw_aload_n hg 0 dL_law_159 rfl rfl ?_
  refine kw_iload_n hg 3 dL_law_160 rfl rfl ?_
  refine kw_iconst (v := 1) hg dL_law_161 (by decide) ?_
  refine kw_iadd hg dL_law_162 ?_
  refine kw_top (nI (4 * t + 1)) (show nI (4 * t) + nI 1 = nI (4 * t + 1) from nI_add _ _) ?_
  refine kw_sld hg hX _ (by omega) dL_law_163 ?_
  refine kw_calli hg (mX_window _) kw_J.left (fun _ _ h => h.sub [0, 1, 2, 3, 4, 5, 6, 7, 8, 9] rfl) ll_X0_window ly_X0_window rfl ⟨Nat.le_of_ble_eq_true rfl, Nat.le_of_ble_eq_true rfl⟩ rfl rfl rfl (Nat.le_of_ble_eq_true rfl) dL_law_164 ?_
  refine kw_aload_n hg 2 dL_law_167 rfl rfl ?_
  refine kw_aload_n hg 0 dL_law_168 rfl rfl ?_
  refine kw_iload_n hg 3 dL_law_169 rfl rfl ?_
  refine kw_iconst (v := 1) hg dL_law_170 (by decide) ?_
  refine kw_iadd hg dL_law_171 ?_
  refine kw_top (nI (4 * t + 1)) (show nI (4 * t) + nI 1 = nI (4 * t + 1) from nI_add _ _) ?_
  refine kw_sld hg hX _ (by omega) dL_law_172 ?_
  refine kw_calli hg (mM_window _) kw_J.right (fun _ _ h => h.sub [10, 11, 12, 13, 14, 15, 16, 17, 18] rfl) ll_X1_window ly_X1_window rfl ⟨Nat.le_of_ble_eq_true rfl, Nat.le_of_ble_eq_true rfl⟩ rfl rfl rfl (Nat.le_of_ble_eq_true rfl) dL_law_173 ?_
  refine kw_icmp_eq hg 392 dL_law_176 (by decide) (fun c176 => ?_) (fun c176 => absurd (rfl) c176)
  exact kk _ _ _ _ _ _ _ _ _ _ (pl_window_ok _ hk)
set_option maxHeartbeats 4000000 in
set_option maxRecDepth 100000 in
/-- event -/
theorem law_3 {g : kw_C} {b L : Nat} {xs : Nat → Int32} {jx jm : Nat} {kx km : Nat → Nat} {lx lm : Nat → ClassId} (hg : kw_O g cL_law RL0 (tX lx ++ tM lm) 4 9 326) (hX : kw_X g b L xs) (hL : L ≤ 256) (t : Nat) (ht : 4 * t + 4 ≤ L) (u : Nat → Nat → Int32) (n c : Nat) (w fi : Int32) (r y o ym bm : Nat → Int32) (hk : sp_ok u n c w) (kk : ∀ (u : Nat → Nat → Int32) (n c : Nat) (w fi : Int32) (r y o ym bm : Nat → Int32), sp_ok u n c w → kw_W g 392 [(0, .ref b), (1, .ref jx), (2, .ref jm), (3, .int (nI (4 * t)))] [] (wX jx kx lx u (nI n) w (nI c) fi r y o ++ wM jm km lm u (nI n) w (nI c) ym bm)) : kw_W g 181 [(0, .ref b), (1, .ref jx), (2, .ref jm), (3, .int (nI (4 * t)))] [] (wX jx kx lx u (nI n) w (nI c) fi r y o ++ wM jm km lm u (nI n) w (nI c) ym bm) := by
  have hn : n ≤ 4 := hk.1
  have hc : c ≤ 10 := hk.2.1
  cases hok : okE (xs (4 * t + 1)) (xs (4 * t + 2)) (xs (4 * t + 3))
  · refine kw_aload_n hg 1 dL_law_181 rfl rfl ?_
    refine kw_aload_n hg 0 dL_law_182 rfl rfl ?_
    refine kw_iload_n hg 3 dL_law_183 rfl rfl ?_
    refine kw_iconst (v := 1) hg dL_law_184 (by decide) ?_
    refine kw_iadd hg dL_law_185 ?_
    refine kw_top (nI (4 * t + 1)) (show nI (4 * t) + nI 1 = nI (4 * t + 1) from nI_add _ _) ?_
    refine kw_sld hg hX _ (by omega) dL_law_186 ?_
    refine kw_aload_n hg 0 dL_law_187 rfl rfl ?_
    refine kw_iload_n hg 3 dL_law_188 rfl rfl ?_
    refine kw_iconst (v := 2) hg dL_law_189 (by decide) ?_
    refine kw_iadd hg dL_law_190 ?_
    refine kw_top (nI (4 * t + 2)) (show nI (4 * t) + nI 2 = nI (4 * t + 2) from nI_add _ _) ?_
    refine kw_sld hg hX _ (by omega) dL_law_191 ?_
    refine kw_aload_n hg 0 dL_law_192 rfl rfl ?_
    refine kw_iload_n hg 3 dL_law_193 rfl rfl ?_
    refine kw_iconst (v := 3) hg dL_law_194 (by decide) ?_
    refine kw_iadd hg dL_law_195 ?_
    refine kw_top (nI (4 * t + 3)) (show nI (4 * t) + nI 3 = nI (4 * t + 3) from nI_add _ _) ?_
    refine kw_sld hg hX _ (by omega) dL_law_196 ?_
    refine kw_calli hg (mX_event_bad _ _ _ hok) kw_J.left (fun _ _ h => h.sub [0, 1, 2, 3, 4, 5, 6, 7, 8, 9] rfl) ll_X0_event ly_X0_event rfl ⟨Nat.le_of_ble_eq_true rfl, Nat.le_of_ble_eq_true rfl⟩ rfl rfl rfl (Nat.le_of_ble_eq_true rfl) dL_law_197 ?_
    refine kw_aload_n hg 2 dL_law_200 rfl rfl ?_
    refine kw_aload_n hg 0 dL_law_201 rfl rfl ?_
    refine kw_iload_n hg 3 dL_law_202 rfl rfl ?_
    refine kw_iconst (v := 1) hg dL_law_203 (by decide) ?_
    refine kw_iadd hg dL_law_204 ?_
    refine kw_top (nI (4 * t + 1)) (show nI (4 * t) + nI 1 = nI (4 * t + 1) from nI_add _ _) ?_
    refine kw_sld hg hX _ (by omega) dL_law_205 ?_
    refine kw_aload_n hg 0 dL_law_206 rfl rfl ?_
    refine kw_iload_n hg 3 dL_law_207 rfl rfl ?_
    refine kw_iconst (v := 2) hg dL_law_208 (by decide) ?_
    refine kw_iadd hg dL_law_209 ?_
    refine kw_top (nI (4 * t + 2)) (show nI (4 * t) + nI 2 = nI (4 * t + 2) from nI_add _ _) ?_
    refine kw_sld hg hX _ (by omega) dL_law_210 ?_
    refine kw_aload_n hg 0 dL_law_211 rfl rfl ?_
    refine kw_iload_n hg 3 dL_law_212 rfl rfl ?_
    refine kw_iconst (v := 3) hg dL_law_213 (by decide) ?_
    refine kw_iadd hg dL_law_214 ?_
    refine kw_top (nI (4 * t + 3)) (show nI (4 * t) + nI 3 = nI (4 * t + 3) from nI_add _ _) ?_
    refine kw_sld hg hX _ (by omega) dL_law_215 ?_
    refine kw_calli hg (mM_event_bad _ _ _ hok) kw_J.right (fun _ _ h => h.sub [10, 11, 12, 13, 14, 15, 16, 17, 18] rfl) ll_X1_event ly_X1_event rfl ⟨Nat.le_of_ble_eq_true rfl, Nat.le_of_ble_eq_true rfl⟩ rfl rfl rfl (Nat.le_of_ble_eq_true rfl) dL_law_216 ?_
    refine kw_icmp_eq hg 392 dL_law_219 (by decide) (fun c219 => ?_) (fun c219 => absurd (rfl) c219)
    exact kk _ _ _ _ _ _ _ _ _ _ (hk)
  · rcases Nat.lt_or_ge c 10 with hc9 | hc9
    · refine kw_aload_n hg 1 dL_law_181 rfl rfl ?_
      refine kw_aload_n hg 0 dL_law_182 rfl rfl ?_
      refine kw_iload_n hg 3 dL_law_183 rfl rfl ?_
      refine kw_iconst (v := 1) hg dL_law_184 (by decide) ?_
      refine kw_iadd hg dL_law_185 ?_
      refine kw_top (nI (4 * t + 1)) (show nI (4 * t) + nI 1 = nI (4 * t + 1) from nI_add _ _) ?_
      refine kw_sld hg hX _ (by omega) dL_law_186 ?_
      refine kw_aload_n hg 0 dL_law_187 rfl rfl ?_
      refine kw_iload_n hg 3 dL_law_188 rfl rfl ?_
      refine kw_iconst (v := 2) hg dL_law_189 (by decide) ?_
      refine kw_iadd hg dL_law_190 ?_
      refine kw_top (nI (4 * t + 2)) (show nI (4 * t) + nI 2 = nI (4 * t + 2) from nI_add _ _) ?_
      refine kw_sld hg hX _ (by omega) dL_law_191 ?_
      refine kw_aload_n hg 0 dL_law_192 rfl rfl ?_
      refine kw_iload_n hg 3 dL_law_193 rfl rfl ?_
      refine kw_iconst (v := 3) hg dL_law_194 (by decide) ?_
      refine kw_iadd hg dL_law_195 ?_
      refine kw_top (nI (4 * t + 3)) (show nI (4 * t) + nI 3 = nI (4 * t + 3) from nI_add _ _) ?_
      refine kw_sld hg hX _ (by omega) dL_law_196 ?_
      refine kw_calli hg (mX_event _ _ _ hok hn hc9) kw_J.left (fun _ _ h => h.sub [0, 1, 2, 3, 4, 5, 6, 7, 8, 9] rfl) ll_X0_event ly_X0_event rfl ⟨Nat.le_of_ble_eq_true rfl, Nat.le_of_ble_eq_true rfl⟩ rfl rfl rfl (Nat.le_of_ble_eq_true rfl) dL_law_197 ?_
      refine kw_aload_n hg 2 dL_law_200 rfl rfl ?_
      refine kw_aload_n hg 0 dL_law_201 rfl rfl ?_
      refine kw_iload_n hg 3 dL_law_202 rfl rfl ?_
      refine kw_iconst (v := 1) hg dL_law_203 (by decide) ?_
      refine kw_iadd hg dL_law_204 ?_
      refine kw_top (nI (4 * t + 1)) (show nI (4 * t) + nI 1 = nI (4 * t + 1) from nI_add _ _) ?_
      refine kw_sld hg hX _ (by omega) dL_law_205 ?_
      refine kw_aload_n hg 0 dL_law_206 rfl rfl ?_
      refine kw_iload_n hg 3 dL_law_207 rfl rfl ?_
      refine kw_iconst (v := 2) hg dL_law_208 (by decide) ?_
      refine kw_iadd hg dL_law_209 ?_
      refine kw_top (nI (4 * t + 2)) (show nI (4 * t) + nI 2 = nI (4 * t + 2) from nI_add _ _) ?_
      refine kw_sld hg hX _ (by omega) dL_law_210 ?_
      refine kw_aload_n hg 0 dL_law_211 rfl rfl ?_
      refine kw_iload_n hg 3 dL_law_212 rfl rfl ?_
      refine kw_iconst (v := 3) hg dL_law_213 (by decide) ?_
      refine kw_iadd hg dL_law_214 ?_
      refine kw_top (nI (4 * t + 3)) (show nI (4 * t) + nI 3 = nI (4 * t + 3) from nI_add _ _) ?_
      refine kw_sld hg hX _ (by omega) dL_law_215 ?_
      refine kw_calli hg (mM_event _ _ _ hok hn hc9) kw_J.right (fun _ _ h => h.sub [10, 11, 12, 13, 14, 15, 16, 17, 18] rfl) ll_X1_event ly_X1_event rfl ⟨Nat.le_of_ble_eq_true rfl, Nat.le_of_ble_eq_true rfl⟩ rfl rfl rfl (Nat.le_of_ble_eq_true rfl) dL_law_216 ?_
      refine kw_icmp_eq hg 392 dL_law_219 (by decide) (fun c219 => ?_) (fun c219 => absurd (pl_end (pl_event_ok _ _ _ hok hc9 hk) c (by omega) _ _) c219)
      exact kk _ _ _ _ _ _ _ _ _ _ (pl_event_ok _ _ _ hok hc9 hk)
    · obtain rfl : c = 10 := by omega
      refine kw_aload_n hg 1 dL_law_181 rfl rfl ?_
      refine kw_aload_n hg 0 dL_law_182 rfl rfl ?_
      refine kw_iload_n hg 3 dL_law_183 rfl rfl ?_
      refine kw_iconst (v := 1) hg dL_law_184 (by decide) ?_
      refine kw_iadd hg dL_law_185 ?_
      refine kw_top (nI (4 * t + 1)) (show nI (4 * t) + nI 1 = nI (4 * t + 1) from nI_add _ _) ?_
      refine kw_sld hg hX _ (by omega) dL_law_186 ?_
      refine kw_aload_n hg 0 dL_law_187 rfl rfl ?_
      refine kw_iload_n hg 3 dL_law_188 rfl rfl ?_
      refine kw_iconst (v := 2) hg dL_law_189 (by decide) ?_
      refine kw_iadd hg dL_law_190 ?_
      refine kw_top (nI (4 * t + 2)) (show nI (4 * t) + nI 2 = nI (4 * t + 2) from nI_add _ _) ?_
      refine kw_sld hg hX _ (by omega) dL_law_191 ?_
      refine kw_aload_n hg 0 dL_law_192 rfl rfl ?_
      refine kw_iload_n hg 3 dL_law_193 rfl rfl ?_
      refine kw_iconst (v := 3) hg dL_law_194 (by decide) ?_
      refine kw_iadd hg dL_law_195 ?_
      refine kw_top (nI (4 * t + 3)) (show nI (4 * t) + nI 3 = nI (4 * t + 3) from nI_add _ _) ?_
      refine kw_sld hg hX _ (by omega) dL_law_196 ?_
      refine kw_calli hg (mX_event_full _ _ _ hok) kw_J.left (fun _ _ h => h.sub [0, 1, 2, 3, 4, 5, 6, 7, 8, 9] rfl) ll_X0_event ly_X0_event rfl ⟨Nat.le_of_ble_eq_true rfl, Nat.le_of_ble_eq_true rfl⟩ rfl rfl rfl (Nat.le_of_ble_eq_true rfl) dL_law_197 ?_
      refine kw_aload_n hg 2 dL_law_200 rfl rfl ?_
      refine kw_aload_n hg 0 dL_law_201 rfl rfl ?_
      refine kw_iload_n hg 3 dL_law_202 rfl rfl ?_
      refine kw_iconst (v := 1) hg dL_law_203 (by decide) ?_
      refine kw_iadd hg dL_law_204 ?_
      refine kw_top (nI (4 * t + 1)) (show nI (4 * t) + nI 1 = nI (4 * t + 1) from nI_add _ _) ?_
      refine kw_sld hg hX _ (by omega) dL_law_205 ?_
      refine kw_aload_n hg 0 dL_law_206 rfl rfl ?_
      refine kw_iload_n hg 3 dL_law_207 rfl rfl ?_
      refine kw_iconst (v := 2) hg dL_law_208 (by decide) ?_
      refine kw_iadd hg dL_law_209 ?_
      refine kw_top (nI (4 * t + 2)) (show nI (4 * t) + nI 2 = nI (4 * t + 2) from nI_add _ _) ?_
      refine kw_sld hg hX _ (by omega) dL_law_210 ?_
      refine kw_aload_n hg 0 dL_law_211 rfl rfl ?_
      refine kw_iload_n hg 3 dL_law_212 rfl rfl ?_
      refine kw_iconst (v := 3) hg dL_law_213 (by decide) ?_
      refine kw_iadd hg dL_law_214 ?_
      refine kw_top (nI (4 * t + 3)) (show nI (4 * t) + nI 3 = nI (4 * t + 3) from nI_add _ _) ?_
      refine kw_sld hg hX _ (by omega) dL_law_215 ?_
      refine kw_calli hg (mM_event_full _ _ _ hok) kw_J.right (fun _ _ h => h.sub [10, 11, 12, 13, 14, 15, 16, 17, 18] rfl) ll_X1_event ly_X1_event rfl ⟨Nat.le_of_ble_eq_true rfl, Nat.le_of_ble_eq_true rfl⟩ rfl rfl rfl (Nat.le_of_ble_eq_true rfl) dL_law_216 ?_
      refine kw_icmp_eq hg 392 dL_law_219 (by decide) (fun c219 => ?_) (fun c219 => absurd (rfl) c219)
      exact kk _ _ _ _ _ _ _ _ _ _ (hk)
set_option maxHeartbeats 4000000 in
set_option maxRecDepth 100000 in
/-- restart -/
theorem law_4 {g : kw_C} {b L : Nat} {xs : Nat → Int32} {jx jm : Nat} {kx km : Nat → Nat} {lx lm : Nat → ClassId} (hg : kw_O g cL_law RL0 (tX lx ++ tM lm) 4 9 326) (hX : kw_X g b L xs) (hL : L ≤ 256) (t : Nat) (ht : 4 * t + 4 ≤ L) (u : Nat → Nat → Int32) (n c : Nat) (w fi : Int32) (r y o ym bm : Nat → Int32) (hk : sp_ok u n c w) (kk : ∀ (u : Nat → Nat → Int32) (n c : Nat) (w fi : Int32) (r y o ym bm : Nat → Int32), sp_ok u n c w → kw_W g 392 [(0, .ref b), (1, .ref jx), (2, .ref jm), (3, .int (nI (4 * t)))] [] (wX jx kx lx u (nI n) w (nI c) fi r y o ++ wM jm km lm u (nI n) w (nI c) ym bm)) : kw_W g 224 [(0, .ref b), (1, .ref jx), (2, .ref jm), (3, .int (nI (4 * t)))] [] (wX jx kx lx u (nI n) w (nI c) fi r y o ++ wM jm km lm u (nI n) w (nI c) ym bm) := by
  have hn : n ≤ 4 := hk.1
  have hc : c ≤ 10 := hk.2.1
  refine kw_aload_n hg 1 dL_law_224 rfl rfl ?_
  refine kw_callv hg (mX_restart) kw_J.left (fun _ _ h => h.sub [0, 1, 2, 3, 4, 5, 6, 7, 8, 9] rfl) ll_X0_restart ly_X0_restart rfl ⟨Nat.le_of_ble_eq_true rfl, Nat.le_of_ble_eq_true rfl⟩ rfl rfl rfl (Nat.le_of_ble_eq_true rfl) dL_law_225 ?_
  refine kw_aload_n hg 2 dL_law_228 rfl rfl ?_
  refine kw_callv hg (mM_restart) kw_J.right (fun _ _ h => h.sub [10, 11, 12, 13, 14, 15, 16, 17, 18] rfl) ll_X1_restart ly_X1_restart rfl ⟨Nat.le_of_ble_eq_true rfl, Nat.le_of_ble_eq_true rfl⟩ rfl rfl rfl (Nat.le_of_ble_eq_true rfl) dL_law_229 ?_
  refine kw_goto hg 392 dL_law_232 (by decide) ?_
  exact kk _ _ _ _ _ _ _ _ _ _ (pl_restart_ok hk)
set_option maxHeartbeats 4000000 in
set_option maxRecDepth 100000 in
/-- events -/
theorem law_5 {g : kw_C} {b L : Nat} {xs : Nat → Int32} {jx jm : Nat} {kx km : Nat → Nat} {lx lm : Nat → ClassId} (hg : kw_O g cL_law RL0 (tX lx ++ tM lm) 4 9 326) (hX : kw_X g b L xs) (hL : L ≤ 256) (t : Nat) (ht : 4 * t + 4 ≤ L) (u : Nat → Nat → Int32) (n c : Nat) (w fi : Int32) (r y o ym bm : Nat → Int32) (hk : sp_ok u n c w) (kk : ∀ (u : Nat → Nat → Int32) (n c : Nat) (w fi : Int32) (r y o ym bm : Nat → Int32), sp_ok u n c w → kw_W g 392 [(0, .ref b), (1, .ref jx), (2, .ref jm), (3, .int (nI (4 * t)))] [] (wX jx kx lx u (nI n) w (nI c) fi r y o ++ wM jm km lm u (nI n) w (nI c) ym bm)) : kw_W g 235 [(0, .ref b), (1, .ref jx), (2, .ref jm), (3, .int (nI (4 * t)))] [] (wX jx kx lx u (nI n) w (nI c) fi r y o ++ wM jm km lm u (nI n) w (nI c) ym bm) := by
  have hn : n ≤ 4 := hk.1
  have hc : c ≤ 10 := hk.2.1
  refine kw_aload_n hg 1 dL_law_235 rfl rfl ?_
  refine kw_calli hg (mX_events) kw_J.left (fun _ _ h => h.sub [0, 1, 2, 3, 4, 5, 6, 7, 8, 9] rfl) ll_X0_events ly_X0_events rfl ⟨Nat.le_of_ble_eq_true rfl, Nat.le_of_ble_eq_true rfl⟩ rfl rfl rfl (Nat.le_of_ble_eq_true rfl) dL_law_236 ?_
  refine kw_aload_n hg 2 dL_law_239 rfl rfl ?_
  refine kw_calli hg (mM_events) kw_J.right (fun _ _ h => h.sub [10, 11, 12, 13, 14, 15, 16, 17, 18] rfl) ll_X1_events ly_X1_events rfl ⟨Nat.le_of_ble_eq_true rfl, Nat.le_of_ble_eq_true rfl⟩ rfl rfl rfl (Nat.le_of_ble_eq_true rfl) dL_law_240 ?_
  refine kw_icmp_eq hg 392 dL_law_243 (by decide) (fun c243 => ?_) (fun c243 => absurd (rfl) c243)
  exact kk _ _ _ _ _ _ _ _ _ _ (hk)
set_option maxHeartbeats 4000000 in
set_option maxRecDepth 100000 in
/-- finds -/
theorem law_6 {g : kw_C} {b L : Nat} {xs : Nat → Int32} {jx jm : Nat} {kx km : Nat → Nat} {lx lm : Nat → ClassId} (hg : kw_O g cL_law RL0 (tX lx ++ tM lm) 4 9 326) (hX : kw_X g b L xs) (hL : L ≤ 256) (t : Nat) (ht : 4 * t + 4 ≤ L) (u : Nat → Nat → Int32) (n c : Nat) (w fi : Int32) (r y o ym bm : Nat → Int32) (hk : sp_ok u n c w) (kk : ∀ (u : Nat → Nat → Int32) (n c : Nat) (w fi : Int32) (r y o ym bm : Nat → Int32), sp_ok u n c w → kw_W g 392 [(0, .ref b), (1, .ref jx), (2, .ref jm), (3, .int (nI (4 * t)))] [] (wX jx kx lx u (nI n) w (nI c) fi r y o ++ wM jm km lm u (nI n) w (nI c) ym bm)) : kw_W g 248 [(0, .ref b), (1, .ref jx), (2, .ref jm), (3, .int (nI (4 * t)))] [] (wX jx kx lx u (nI n) w (nI c) fi r y o ++ wM jm km lm u (nI n) w (nI c) ym bm) := by
  have hn : n ≤ 4 := hk.1
  have hc : c ≤ 10 := hk.2.1
  refine kw_aload_n hg 1 dL_law_248 rfl rfl ?_
  refine kw_calli hg (mX_finds hn hc) kw_J.left (fun _ _ h => h.sub [0, 1, 2, 3, 4, 5, 6, 7, 8, 9] rfl) ll_X0_finds ly_X0_finds rfl ⟨Nat.le_of_ble_eq_true rfl, Nat.le_of_ble_eq_true rfl⟩ rfl rfl rfl (Nat.le_of_ble_eq_true rfl) dL_law_249 ?_
  refine kw_aload_n hg 2 dL_law_252 rfl rfl ?_
  refine kw_calli hg (mM_finds hn hc) kw_J.right (fun _ _ h => h.sub [10, 11, 12, 13, 14, 15, 16, 17, 18] rfl) ll_X1_finds ly_X1_finds rfl ⟨Nat.le_of_ble_eq_true rfl, Nat.le_of_ble_eq_true rfl⟩ rfl rfl rfl (Nat.le_of_ble_eq_true rfl) dL_law_253 ?_
  refine kw_icmp_eq hg 392 dL_law_256 (by decide) (fun c256 => ?_) (fun c256 => absurd (pl_fin hk _ _) c256)
  exact kk _ _ _ _ _ _ _ _ _ _ (hk)
set_option maxHeartbeats 4000000 in
set_option maxRecDepth 100000 in
/-- endingAt -/
theorem law_7 {g : kw_C} {b L : Nat} {xs : Nat → Int32} {jx jm : Nat} {kx km : Nat → Nat} {lx lm : Nat → ClassId} (hg : kw_O g cL_law RL0 (tX lx ++ tM lm) 4 9 326) (hX : kw_X g b L xs) (hL : L ≤ 256) (t : Nat) (ht : 4 * t + 4 ≤ L) (u : Nat → Nat → Int32) (n c : Nat) (w fi : Int32) (r y o ym bm : Nat → Int32) (hk : sp_ok u n c w) (kk : ∀ (u : Nat → Nat → Int32) (n c : Nat) (w fi : Int32) (r y o ym bm : Nat → Int32), sp_ok u n c w → kw_W g 392 [(0, .ref b), (1, .ref jx), (2, .ref jm), (3, .int (nI (4 * t)))] [] (wX jx kx lx u (nI n) w (nI c) fi r y o ++ wM jm km lm u (nI n) w (nI c) ym bm)) : kw_W g 261 [(0, .ref b), (1, .ref jx), (2, .ref jm), (3, .int (nI (4 * t)))] [] (wX jx kx lx u (nI n) w (nI c) fi r y o ++ wM jm km lm u (nI n) w (nI c) ym bm) := by
  have hn : n ≤ 4 := hk.1
  have hc : c ≤ 10 := hk.2.1
  rcases Decidable.em ((decide (xs (4 * t + 1) < 0) || decide (¬ xs (4 * t + 1) < nI c)) = true) with hp | hp
  · refine kw_aload_n hg 1 dL_law_261 rfl rfl ?_
    refine kw_aload_n hg 0 dL_law_262 rfl rfl ?_
    refine kw_iload_n hg 3 dL_law_263 rfl rfl ?_
    refine kw_iconst (v := 1) hg dL_law_264 (by decide) ?_
    refine kw_iadd hg dL_law_265 ?_
    refine kw_top (nI (4 * t + 1)) (show nI (4 * t) + nI 1 = nI (4 * t + 1) from nI_add _ _) ?_
    refine kw_sld hg hX _ (by omega) dL_law_266 ?_
    refine kw_calli hg (mX_endingAt_out _ hp) kw_J.left (fun _ _ h => h.sub [0, 1, 2, 3, 4, 5, 6, 7, 8, 9] rfl) ll_X0_endingAt ly_X0_endingAt rfl ⟨Nat.le_of_ble_eq_true rfl, Nat.le_of_ble_eq_true rfl⟩ rfl rfl rfl (Nat.le_of_ble_eq_true rfl) dL_law_267 ?_
    refine kw_aload_n hg 2 dL_law_270 rfl rfl ?_
    refine kw_aload_n hg 0 dL_law_271 rfl rfl ?_
    refine kw_iload_n hg 3 dL_law_272 rfl rfl ?_
    refine kw_iconst (v := 1) hg dL_law_273 (by decide) ?_
    refine kw_iadd hg dL_law_274 ?_
    refine kw_top (nI (4 * t + 1)) (show nI (4 * t) + nI 1 = nI (4 * t + 1) from nI_add _ _) ?_
    refine kw_sld hg hX _ (by omega) dL_law_275 ?_
    refine kw_calli hg (mM_endingAt_out _ hp) kw_J.right (fun _ _ h => h.sub [10, 11, 12, 13, 14, 15, 16, 17, 18] rfl) ll_X1_endingAt ly_X1_endingAt rfl ⟨Nat.le_of_ble_eq_true rfl, Nat.le_of_ble_eq_true rfl⟩ rfl rfl rfl (Nat.le_of_ble_eq_true rfl) dL_law_276 ?_
    refine kw_icmp_eq hg 392 dL_law_279 (by decide) (fun c279 => ?_) (fun c279 => absurd (rfl) c279)
    exact kk _ _ _ _ _ _ _ _ _ _ (hk)
  · obtain ⟨e, he, hpe⟩ := ev_in hc hp
    refine kw_aload_n hg 1 dL_law_261 rfl rfl ?_
    refine kw_aload_n hg 0 dL_law_262 rfl rfl ?_
    refine kw_iload_n hg 3 dL_law_263 rfl rfl ?_
    refine kw_iconst (v := 1) hg dL_law_264 (by decide) ?_
    refine kw_iadd hg dL_law_265 ?_
    refine kw_top (nI (4 * t + 1)) (show nI (4 * t) + nI 1 = nI (4 * t + 1) from nI_add _ _) ?_
    refine kw_sld hg hX _ (by omega) dL_law_266 ?_
    refine kw_top (nI e) (hpe) ?_
    refine kw_calli hg (mX_endingAt e he hn hc) kw_J.left (fun _ _ h => h.sub [0, 1, 2, 3, 4, 5, 6, 7, 8, 9] rfl) ll_X0_endingAt ly_X0_endingAt rfl ⟨Nat.le_of_ble_eq_true rfl, Nat.le_of_ble_eq_true rfl⟩ rfl rfl rfl (Nat.le_of_ble_eq_true rfl) dL_law_267 ?_
    refine kw_aload_n hg 2 dL_law_270 rfl rfl ?_
    refine kw_aload_n hg 0 dL_law_271 rfl rfl ?_
    refine kw_iload_n hg 3 dL_law_272 rfl rfl ?_
    refine kw_iconst (v := 1) hg dL_law_273 (by decide) ?_
    refine kw_iadd hg dL_law_274 ?_
    refine kw_top (nI (4 * t + 1)) (show nI (4 * t) + nI 1 = nI (4 * t + 1) from nI_add _ _) ?_
    refine kw_sld hg hX _ (by omega) dL_law_275 ?_
    refine kw_top (nI e) (hpe) ?_
    refine kw_calli hg (mM_endingAt e he hn hc) kw_J.right (fun _ _ h => h.sub [10, 11, 12, 13, 14, 15, 16, 17, 18] rfl) ll_X1_endingAt ly_X1_endingAt rfl ⟨Nat.le_of_ble_eq_true rfl, Nat.le_of_ble_eq_true rfl⟩ rfl rfl rfl (Nat.le_of_ble_eq_true rfl) dL_law_276 ?_
    refine kw_icmp_eq hg 392 dL_law_279 (by decide) (fun c279 => ?_) (fun c279 => absurd (pl_end hk e he _ _) c279)
    exact kk _ _ _ _ _ _ _ _ _ _ (hk)
set_option maxHeartbeats 4000000 in
set_option maxRecDepth 100000 in
/-- beginningAt -/
theorem law_8 {g : kw_C} {b L : Nat} {xs : Nat → Int32} {jx jm : Nat} {kx km : Nat → Nat} {lx lm : Nat → ClassId} (hg : kw_O g cL_law RL0 (tX lx ++ tM lm) 4 9 326) (hX : kw_X g b L xs) (hL : L ≤ 256) (t : Nat) (ht : 4 * t + 4 ≤ L) (u : Nat → Nat → Int32) (n c : Nat) (w fi : Int32) (r y o ym bm : Nat → Int32) (hk : sp_ok u n c w) (kk : ∀ (u : Nat → Nat → Int32) (n c : Nat) (w fi : Int32) (r y o ym bm : Nat → Int32), sp_ok u n c w → kw_W g 392 [(0, .ref b), (1, .ref jx), (2, .ref jm), (3, .int (nI (4 * t)))] [] (wX jx kx lx u (nI n) w (nI c) fi r y o ++ wM jm km lm u (nI n) w (nI c) ym bm)) : kw_W g 284 [(0, .ref b), (1, .ref jx), (2, .ref jm), (3, .int (nI (4 * t)))] [] (wX jx kx lx u (nI n) w (nI c) fi r y o ++ wM jm km lm u (nI n) w (nI c) ym bm) := by
  have hn : n ≤ 4 := hk.1
  have hc : c ≤ 10 := hk.2.1
  rcases Decidable.em ((decide (xs (4 * t + 1) < 0) || decide (¬ xs (4 * t + 1) < nI c)) = true) with hp | hp
  · refine kw_aload_n hg 1 dL_law_284 rfl rfl ?_
    refine kw_aload_n hg 0 dL_law_285 rfl rfl ?_
    refine kw_iload_n hg 3 dL_law_286 rfl rfl ?_
    refine kw_iconst (v := 1) hg dL_law_287 (by decide) ?_
    refine kw_iadd hg dL_law_288 ?_
    refine kw_top (nI (4 * t + 1)) (show nI (4 * t) + nI 1 = nI (4 * t + 1) from nI_add _ _) ?_
    refine kw_sld hg hX _ (by omega) dL_law_289 ?_
    refine kw_calli hg (mX_beginningAt_out _ hp) kw_J.left (fun _ _ h => h.sub [0, 1, 2, 3, 4, 5, 6, 7, 8, 9] rfl) ll_X0_beginningAt ly_X0_beginningAt rfl ⟨Nat.le_of_ble_eq_true rfl, Nat.le_of_ble_eq_true rfl⟩ rfl rfl rfl (Nat.le_of_ble_eq_true rfl) dL_law_290 ?_
    refine kw_aload_n hg 2 dL_law_293 rfl rfl ?_
    refine kw_aload_n hg 0 dL_law_294 rfl rfl ?_
    refine kw_iload_n hg 3 dL_law_295 rfl rfl ?_
    refine kw_iconst (v := 1) hg dL_law_296 (by decide) ?_
    refine kw_iadd hg dL_law_297 ?_
    refine kw_top (nI (4 * t + 1)) (show nI (4 * t) + nI 1 = nI (4 * t + 1) from nI_add _ _) ?_
    refine kw_sld hg hX _ (by omega) dL_law_298 ?_
    refine kw_calli hg (mM_beginningAt_out _ hp) kw_J.right (fun _ _ h => h.sub [10, 11, 12, 13, 14, 15, 16, 17, 18] rfl) ll_X1_beginningAt ly_X1_beginningAt rfl ⟨Nat.le_of_ble_eq_true rfl, Nat.le_of_ble_eq_true rfl⟩ rfl rfl rfl (Nat.le_of_ble_eq_true rfl) dL_law_299 ?_
    refine kw_icmp_eq hg 392 dL_law_302 (by decide) (fun c302 => ?_) (fun c302 => absurd (rfl) c302)
    exact kk _ _ _ _ _ _ _ _ _ _ (hk)
  · obtain ⟨e, he, hpe⟩ := ev_in hc hp
    refine kw_aload_n hg 1 dL_law_284 rfl rfl ?_
    refine kw_aload_n hg 0 dL_law_285 rfl rfl ?_
    refine kw_iload_n hg 3 dL_law_286 rfl rfl ?_
    refine kw_iconst (v := 1) hg dL_law_287 (by decide) ?_
    refine kw_iadd hg dL_law_288 ?_
    refine kw_top (nI (4 * t + 1)) (show nI (4 * t) + nI 1 = nI (4 * t + 1) from nI_add _ _) ?_
    refine kw_sld hg hX _ (by omega) dL_law_289 ?_
    refine kw_top (nI e) (hpe) ?_
    refine kw_calli hg (mX_beginningAt e he hn hc) kw_J.left (fun _ _ h => h.sub [0, 1, 2, 3, 4, 5, 6, 7, 8, 9] rfl) ll_X0_beginningAt ly_X0_beginningAt rfl ⟨Nat.le_of_ble_eq_true rfl, Nat.le_of_ble_eq_true rfl⟩ rfl rfl rfl (Nat.le_of_ble_eq_true rfl) dL_law_290 ?_
    refine kw_aload_n hg 2 dL_law_293 rfl rfl ?_
    refine kw_aload_n hg 0 dL_law_294 rfl rfl ?_
    refine kw_iload_n hg 3 dL_law_295 rfl rfl ?_
    refine kw_iconst (v := 1) hg dL_law_296 (by decide) ?_
    refine kw_iadd hg dL_law_297 ?_
    refine kw_top (nI (4 * t + 1)) (show nI (4 * t) + nI 1 = nI (4 * t + 1) from nI_add _ _) ?_
    refine kw_sld hg hX _ (by omega) dL_law_298 ?_
    refine kw_top (nI e) (hpe) ?_
    refine kw_calli hg (mM_beginningAt e he hn hc) kw_J.right (fun _ _ h => h.sub [10, 11, 12, 13, 14, 15, 16, 17, 18] rfl) ll_X1_beginningAt ly_X1_beginningAt rfl ⟨Nat.le_of_ble_eq_true rfl, Nat.le_of_ble_eq_true rfl⟩ rfl rfl rfl (Nat.le_of_ble_eq_true rfl) dL_law_299 ?_
    refine kw_icmp_eq hg 392 dL_law_302 (by decide) (fun c302 => ?_) (fun c302 => absurd (pl_beg hk e he _ _) c302)
    exact kk _ _ _ _ _ _ _ _ _ _ (hk)
set_option maxHeartbeats 4000000 in
set_option maxRecDepth 100000 in
/-- using -/
theorem law_9 {g : kw_C} {b L : Nat} {xs : Nat → Int32} {jx jm : Nat} {kx km : Nat → Nat} {lx lm : Nat → ClassId} (hg : kw_O g cL_law RL0 (tX lx ++ tM lm) 4 9 326) (hX : kw_X g b L xs) (hL : L ≤ 256) (t : Nat) (ht : 4 * t + 4 ≤ L) (u : Nat → Nat → Int32) (n c : Nat) (w fi : Int32) (r y o ym bm : Nat → Int32) (hk : sp_ok u n c w) (kk : ∀ (u : Nat → Nat → Int32) (n c : Nat) (w fi : Int32) (r y o ym bm : Nat → Int32), sp_ok u n c w → kw_W g 392 [(0, .ref b), (1, .ref jx), (2, .ref jm), (3, .int (nI (4 * t)))] [] (wX jx kx lx u (nI n) w (nI c) fi r y o ++ wM jm km lm u (nI n) w (nI c) ym bm)) : kw_W g 307 [(0, .ref b), (1, .ref jx), (2, .ref jm), (3, .int (nI (4 * t)))] [] (wX jx kx lx u (nI n) w (nI c) fi r y o ++ wM jm km lm u (nI n) w (nI c) ym bm) := by
  have hn : n ≤ 4 := hk.1
  have hc : c ≤ 10 := hk.2.1
  rcases Decidable.em ((decide (xs (4 * t + 1) < 0) || decide (¬ xs (4 * t + 1) < nI c)) = true) with hp | hp
  · refine kw_aload_n hg 1 dL_law_307 rfl rfl ?_
    refine kw_aload_n hg 0 dL_law_308 rfl rfl ?_
    refine kw_iload_n hg 3 dL_law_309 rfl rfl ?_
    refine kw_iconst (v := 1) hg dL_law_310 (by decide) ?_
    refine kw_iadd hg dL_law_311 ?_
    refine kw_top (nI (4 * t + 1)) (show nI (4 * t) + nI 1 = nI (4 * t + 1) from nI_add _ _) ?_
    refine kw_sld hg hX _ (by omega) dL_law_312 ?_
    refine kw_calli hg (mX_using_out _ hp) kw_J.left (fun _ _ h => h.sub [0, 1, 2, 3, 4, 5, 6, 7, 8, 9] rfl) ll_X0_using ly_X0_using rfl ⟨Nat.le_of_ble_eq_true rfl, Nat.le_of_ble_eq_true rfl⟩ rfl rfl rfl (Nat.le_of_ble_eq_true rfl) dL_law_313 ?_
    refine kw_aload_n hg 2 dL_law_316 rfl rfl ?_
    refine kw_aload_n hg 0 dL_law_317 rfl rfl ?_
    refine kw_iload_n hg 3 dL_law_318 rfl rfl ?_
    refine kw_iconst (v := 1) hg dL_law_319 (by decide) ?_
    refine kw_iadd hg dL_law_320 ?_
    refine kw_top (nI (4 * t + 1)) (show nI (4 * t) + nI 1 = nI (4 * t + 1) from nI_add _ _) ?_
    refine kw_sld hg hX _ (by omega) dL_law_321 ?_
    refine kw_calli hg (mM_using_out _ hp) kw_J.right (fun _ _ h => h.sub [10, 11, 12, 13, 14, 15, 16, 17, 18] rfl) ll_X1_using ly_X1_using rfl ⟨Nat.le_of_ble_eq_true rfl, Nat.le_of_ble_eq_true rfl⟩ rfl rfl rfl (Nat.le_of_ble_eq_true rfl) dL_law_322 ?_
    refine kw_icmp_eq hg 392 dL_law_325 (by decide) (fun c325 => ?_) (fun c325 => absurd (rfl) c325)
    exact kk _ _ _ _ _ _ _ _ _ _ (hk)
  · obtain ⟨e, he, hpe⟩ := ev_in hc hp
    refine kw_aload_n hg 1 dL_law_307 rfl rfl ?_
    refine kw_aload_n hg 0 dL_law_308 rfl rfl ?_
    refine kw_iload_n hg 3 dL_law_309 rfl rfl ?_
    refine kw_iconst (v := 1) hg dL_law_310 (by decide) ?_
    refine kw_iadd hg dL_law_311 ?_
    refine kw_top (nI (4 * t + 1)) (show nI (4 * t) + nI 1 = nI (4 * t + 1) from nI_add _ _) ?_
    refine kw_sld hg hX _ (by omega) dL_law_312 ?_
    refine kw_top (nI e) (hpe) ?_
    refine kw_calli hg (mX_using e he hn hc) kw_J.left (fun _ _ h => h.sub [0, 1, 2, 3, 4, 5, 6, 7, 8, 9] rfl) ll_X0_using ly_X0_using rfl ⟨Nat.le_of_ble_eq_true rfl, Nat.le_of_ble_eq_true rfl⟩ rfl rfl rfl (Nat.le_of_ble_eq_true rfl) dL_law_313 ?_
    refine kw_aload_n hg 2 dL_law_316 rfl rfl ?_
    refine kw_aload_n hg 0 dL_law_317 rfl rfl ?_
    refine kw_iload_n hg 3 dL_law_318 rfl rfl ?_
    refine kw_iconst (v := 1) hg dL_law_319 (by decide) ?_
    refine kw_iadd hg dL_law_320 ?_
    refine kw_top (nI (4 * t + 1)) (show nI (4 * t) + nI 1 = nI (4 * t + 1) from nI_add _ _) ?_
    refine kw_sld hg hX _ (by omega) dL_law_321 ?_
    refine kw_top (nI e) (hpe) ?_
    refine kw_calli hg (mM_using e he hn hc) kw_J.right (fun _ _ h => h.sub [10, 11, 12, 13, 14, 15, 16, 17, 18] rfl) ll_X1_using ly_X1_using rfl ⟨Nat.le_of_ble_eq_true rfl, Nat.le_of_ble_eq_true rfl⟩ rfl rfl rfl (Nat.le_of_ble_eq_true rfl) dL_law_322 ?_
    refine kw_icmp_eq hg 392 dL_law_325 (by decide) (fun c325 => ?_) (fun c325 => absurd (pl_use hk e he _ _) c325)
    exact kk _ _ _ _ _ _ _ _ _ _ (hk)
set_option maxHeartbeats 4000000 in
set_option maxRecDepth 100000 in
/-- longest -/
theorem law_10 {g : kw_C} {b L : Nat} {xs : Nat → Int32} {jx jm : Nat} {kx km : Nat → Nat} {lx lm : Nat → ClassId} (hg : kw_O g cL_law RL0 (tX lx ++ tM lm) 4 9 326) (hX : kw_X g b L xs) (hL : L ≤ 256) (t : Nat) (ht : 4 * t + 4 ≤ L) (u : Nat → Nat → Int32) (n c : Nat) (w fi : Int32) (r y o ym bm : Nat → Int32) (hk : sp_ok u n c w) (kk : ∀ (u : Nat → Nat → Int32) (n c : Nat) (w fi : Int32) (r y o ym bm : Nat → Int32), sp_ok u n c w → kw_W g 392 [(0, .ref b), (1, .ref jx), (2, .ref jm), (3, .int (nI (4 * t)))] [] (wX jx kx lx u (nI n) w (nI c) fi r y o ++ wM jm km lm u (nI n) w (nI c) ym bm)) : kw_W g 330 [(0, .ref b), (1, .ref jx), (2, .ref jm), (3, .int (nI (4 * t)))] [] (wX jx kx lx u (nI n) w (nI c) fi r y o ++ wM jm km lm u (nI n) w (nI c) ym bm) := by
  have hn : n ≤ 4 := hk.1
  have hc : c ≤ 10 := hk.2.1
  refine kw_aload_n hg 1 dL_law_330 rfl rfl ?_
  refine kw_calli hg (mX_longest hn hc) kw_J.left (fun _ _ h => h.sub [0, 1, 2, 3, 4, 5, 6, 7, 8, 9] rfl) ll_X0_longest ly_X0_longest rfl ⟨Nat.le_of_ble_eq_true rfl, Nat.le_of_ble_eq_true rfl⟩ rfl rfl rfl (Nat.le_of_ble_eq_true rfl) dL_law_331 ?_
  refine kw_aload_n hg 2 dL_law_334 rfl rfl ?_
  refine kw_calli hg (mM_longest hn hc) kw_J.right (fun _ _ h => h.sub [10, 11, 12, 13, 14, 15, 16, 17, 18] rfl) ll_X1_longest ly_X1_longest rfl ⟨Nat.le_of_ble_eq_true rfl, Nat.le_of_ble_eq_true rfl⟩ rfl rfl rfl (Nat.le_of_ble_eq_true rfl) dL_law_335 ?_
  refine kw_icmp_eq hg 392 dL_law_338 (by decide) (fun c338 => ?_) (fun c338 => absurd (pl_lg hk _ _) c338)
  exact kk _ _ _ _ _ _ _ _ _ _ (hk)
set_option maxHeartbeats 4000000 in
set_option maxRecDepth 100000 in
/-- tightest -/
theorem law_11 {g : kw_C} {b L : Nat} {xs : Nat → Int32} {jx jm : Nat} {kx km : Nat → Nat} {lx lm : Nat → ClassId} (hg : kw_O g cL_law RL0 (tX lx ++ tM lm) 4 9 326) (hX : kw_X g b L xs) (hL : L ≤ 256) (t : Nat) (ht : 4 * t + 4 ≤ L) (u : Nat → Nat → Int32) (n c : Nat) (w fi : Int32) (r y o ym bm : Nat → Int32) (hk : sp_ok u n c w) (kk : ∀ (u : Nat → Nat → Int32) (n c : Nat) (w fi : Int32) (r y o ym bm : Nat → Int32), sp_ok u n c w → kw_W g 392 [(0, .ref b), (1, .ref jx), (2, .ref jm), (3, .int (nI (4 * t)))] [] (wX jx kx lx u (nI n) w (nI c) fi r y o ++ wM jm km lm u (nI n) w (nI c) ym bm)) : kw_W g 343 [(0, .ref b), (1, .ref jx), (2, .ref jm), (3, .int (nI (4 * t)))] [] (wX jx kx lx u (nI n) w (nI c) fi r y o ++ wM jm km lm u (nI n) w (nI c) ym bm) := by
  have hn : n ≤ 4 := hk.1
  have hc : c ≤ 10 := hk.2.1
  refine kw_aload_n hg 1 dL_law_343 rfl rfl ?_
  refine kw_calli hg (mX_tightest hn hc) kw_J.left (fun _ _ h => h.sub [0, 1, 2, 3, 4, 5, 6, 7, 8, 9] rfl) ll_X0_tightest ly_X0_tightest rfl ⟨Nat.le_of_ble_eq_true rfl, Nat.le_of_ble_eq_true rfl⟩ rfl rfl rfl (Nat.le_of_ble_eq_true rfl) dL_law_344 ?_
  refine kw_aload_n hg 2 dL_law_347 rfl rfl ?_
  refine kw_calli hg (mM_tightest hn hc) kw_J.right (fun _ _ h => h.sub [10, 11, 12, 13, 14, 15, 16, 17, 18] rfl) ll_X1_tightest ly_X1_tightest rfl ⟨Nat.le_of_ble_eq_true rfl, Nat.le_of_ble_eq_true rfl⟩ rfl rfl rfl (Nat.le_of_ble_eq_true rfl) dL_law_348 ?_
  refine kw_icmp_eq hg 392 dL_law_351 (by decide) (fun c351 => ?_) (fun c351 => absurd (pl_tg hk _ _) c351)
  exact kk _ _ _ _ _ _ _ _ _ _ (hk)
set_option maxHeartbeats 4000000 in
set_option maxRecDepth 100000 in
/-- lastValues -/
theorem law_12 {g : kw_C} {b L : Nat} {xs : Nat → Int32} {jx jm : Nat} {kx km : Nat → Nat} {lx lm : Nat → ClassId} (hg : kw_O g cL_law RL0 (tX lx ++ tM lm) 4 9 326) (hX : kw_X g b L xs) (hL : L ≤ 256) (t : Nat) (ht : 4 * t + 4 ≤ L) (u : Nat → Nat → Int32) (n c : Nat) (w fi : Int32) (r y o ym bm : Nat → Int32) (hk : sp_ok u n c w) (kk : ∀ (u : Nat → Nat → Int32) (n c : Nat) (w fi : Int32) (r y o ym bm : Nat → Int32), sp_ok u n c w → kw_W g 392 [(0, .ref b), (1, .ref jx), (2, .ref jm), (3, .int (nI (4 * t)))] [] (wX jx kx lx u (nI n) w (nI c) fi r y o ++ wM jm km lm u (nI n) w (nI c) ym bm)) : kw_W g 356 [(0, .ref b), (1, .ref jx), (2, .ref jm), (3, .int (nI (4 * t)))] [] (wX jx kx lx u (nI n) w (nI c) fi r y o ++ wM jm km lm u (nI n) w (nI c) ym bm) := by
  have hn : n ≤ 4 := hk.1
  have hc : c ≤ 10 := hk.2.1
  refine kw_aload_n hg 1 dL_law_356 rfl rfl ?_
  refine kw_calli hg (mX_lastValues hn hc) kw_J.left (fun _ _ h => h.sub [0, 1, 2, 3, 4, 5, 6, 7, 8, 9] rfl) ll_X0_lastValues ly_X0_lastValues rfl ⟨Nat.le_of_ble_eq_true rfl, Nat.le_of_ble_eq_true rfl⟩ rfl rfl rfl (Nat.le_of_ble_eq_true rfl) dL_law_357 ?_
  refine kw_aload_n hg 2 dL_law_360 rfl rfl ?_
  refine kw_calli hg (mM_lastValues hn hc) kw_J.right (fun _ _ h => h.sub [10, 11, 12, 13, 14, 15, 16, 17, 18] rfl) ll_X1_lastValues ly_X1_lastValues rfl ⟨Nat.le_of_ble_eq_true rfl, Nat.le_of_ble_eq_true rfl⟩ rfl rfl rfl (Nat.le_of_ble_eq_true rfl) dL_law_361 ?_
  refine kw_icmp_eq hg 392 dL_law_364 (by decide) (fun c364 => ?_) (fun c364 => absurd (pl_las hk _ _) c364)
  exact kk _ _ _ _ _ _ _ _ _ _ (hk)
set_option maxHeartbeats 4000000 in
set_option maxRecDepth 100000 in
/-- without -/
theorem law_13 {g : kw_C} {b L : Nat} {xs : Nat → Int32} {jx jm : Nat} {kx km : Nat → Nat} {lx lm : Nat → ClassId} (hg : kw_O g cL_law RL0 (tX lx ++ tM lm) 4 9 326) (hX : kw_X g b L xs) (hL : L ≤ 256) (t : Nat) (ht : 4 * t + 4 ≤ L) (u : Nat → Nat → Int32) (n c : Nat) (w fi : Int32) (r y o ym bm : Nat → Int32) (hk : sp_ok u n c w) (kk : ∀ (u : Nat → Nat → Int32) (n c : Nat) (w fi : Int32) (r y o ym bm : Nat → Int32), sp_ok u n c w → kw_W g 392 [(0, .ref b), (1, .ref jx), (2, .ref jm), (3, .int (nI (4 * t)))] [] (wX jx kx lx u (nI n) w (nI c) fi r y o ++ wM jm km lm u (nI n) w (nI c) ym bm)) : kw_W g 369 [(0, .ref b), (1, .ref jx), (2, .ref jm), (3, .int (nI (4 * t)))] [] (wX jx kx lx u (nI n) w (nI c) fi r y o ++ wM jm km lm u (nI n) w (nI c) ym bm) := by
  have hn : n ≤ 4 := hk.1
  have hc : c ≤ 10 := hk.2.1
  rcases Decidable.em ((decide (xs (4 * t + 1) < 0) || decide (¬ xs (4 * t + 1) < nI c)) = true) with hp | hp
  · refine kw_aload_n hg 1 dL_law_369 rfl rfl ?_
    refine kw_aload_n hg 0 dL_law_370 rfl rfl ?_
    refine kw_iload_n hg 3 dL_law_371 rfl rfl ?_
    refine kw_iconst (v := 1) hg dL_law_372 (by decide) ?_
    refine kw_iadd hg dL_law_373 ?_
    refine kw_top (nI (4 * t + 1)) (show nI (4 * t) + nI 1 = nI (4 * t + 1) from nI_add _ _) ?_
    refine kw_sld hg hX _ (by omega) dL_law_374 ?_
    refine kw_calli hg (mX_without_out _ hp) kw_J.left (fun _ _ h => h.sub [0, 1, 2, 3, 4, 5, 6, 7, 8, 9] rfl) ll_X0_without ly_X0_without rfl ⟨Nat.le_of_ble_eq_true rfl, Nat.le_of_ble_eq_true rfl⟩ rfl rfl rfl (Nat.le_of_ble_eq_true rfl) dL_law_375 ?_
    refine kw_aload_n hg 2 dL_law_378 rfl rfl ?_
    refine kw_aload_n hg 0 dL_law_379 rfl rfl ?_
    refine kw_iload_n hg 3 dL_law_380 rfl rfl ?_
    refine kw_iconst (v := 1) hg dL_law_381 (by decide) ?_
    refine kw_iadd hg dL_law_382 ?_
    refine kw_top (nI (4 * t + 1)) (show nI (4 * t) + nI 1 = nI (4 * t + 1) from nI_add _ _) ?_
    refine kw_sld hg hX _ (by omega) dL_law_383 ?_
    refine kw_calli hg (mM_without_out _ hp) kw_J.right (fun _ _ h => h.sub [10, 11, 12, 13, 14, 15, 16, 17, 18] rfl) ll_X1_without ly_X1_without rfl ⟨Nat.le_of_ble_eq_true rfl, Nat.le_of_ble_eq_true rfl⟩ rfl rfl rfl (Nat.le_of_ble_eq_true rfl) dL_law_384 ?_
    refine kw_icmp_eq hg 392 dL_law_387 (by decide) (fun c387 => ?_) (fun c387 => absurd (rfl) c387)
    exact kk _ _ _ _ _ _ _ _ _ _ (hk)
  · obtain ⟨e, he, hpe⟩ := ev_in hc hp
    refine kw_aload_n hg 1 dL_law_369 rfl rfl ?_
    refine kw_aload_n hg 0 dL_law_370 rfl rfl ?_
    refine kw_iload_n hg 3 dL_law_371 rfl rfl ?_
    refine kw_iconst (v := 1) hg dL_law_372 (by decide) ?_
    refine kw_iadd hg dL_law_373 ?_
    refine kw_top (nI (4 * t + 1)) (show nI (4 * t) + nI 1 = nI (4 * t + 1) from nI_add _ _) ?_
    refine kw_sld hg hX _ (by omega) dL_law_374 ?_
    refine kw_top (nI e) (hpe) ?_
    refine kw_calli hg (mX_without e he hn hc) kw_J.left (fun _ _ h => h.sub [0, 1, 2, 3, 4, 5, 6, 7, 8, 9] rfl) ll_X0_without ly_X0_without rfl ⟨Nat.le_of_ble_eq_true rfl, Nat.le_of_ble_eq_true rfl⟩ rfl rfl rfl (Nat.le_of_ble_eq_true rfl) dL_law_375 ?_
    refine kw_aload_n hg 2 dL_law_378 rfl rfl ?_
    refine kw_aload_n hg 0 dL_law_379 rfl rfl ?_
    refine kw_iload_n hg 3 dL_law_380 rfl rfl ?_
    refine kw_iconst (v := 1) hg dL_law_381 (by decide) ?_
    refine kw_iadd hg dL_law_382 ?_
    refine kw_top (nI (4 * t + 1)) (show nI (4 * t) + nI 1 = nI (4 * t + 1) from nI_add _ _) ?_
    refine kw_sld hg hX _ (by omega) dL_law_383 ?_
    refine kw_top (nI e) (hpe) ?_
    refine kw_calli hg (mM_without e he hn hc) kw_J.right (fun _ _ h => h.sub [10, 11, 12, 13, 14, 15, 16, 17, 18] rfl) ll_X1_without ly_X1_without rfl ⟨Nat.le_of_ble_eq_true rfl, Nat.le_of_ble_eq_true rfl⟩ rfl rfl rfl (Nat.le_of_ble_eq_true rfl) dL_law_384 ?_
    refine kw_icmp_eq hg 392 dL_law_387 (by decide) (fun c387 => ?_) (fun c387 => absurd (pl_wo hk e he _ _ _) c387)
    exact kk _ _ _ _ _ _ _ _ _ _ (hk)
set_option maxHeartbeats 4000000 in
set_option maxRecDepth 100000 in
/-- the loop, from its head, with t calls done -/
theorem law_loop {g : kw_C} {b L : Nat} {xs : Nat → Int32} {jx jm : Nat} {kx km : Nat → Nat} {lx lm : Nat → ClassId} (hg : kw_O g cL_law RL0 (tX lx ++ tM lm) 4 9 326) (hX : kw_X g b L xs) (hL : L ≤ 256) (hret : ∀ (pc : Nat) (lv : List (Nat × Value)) (w : va_W), decode cL_law pc = .ok (.ireturn, 1) → kw_W g pc lv [.int 1] w) : ∀ d t : Nat, L < 4 * (t + d) → 4 * t ≤ 256 → ∀ (u : Nat → Nat → Int32) (n c : Nat) (w fi : Int32) (r y o ym bm : Nat → Int32) (hk : sp_ok u n c w), kw_W g 18 [(0, .ref b), (1, .ref jx), (2, .ref jm), (3, .int (nI (4 * t)))] [] (wX jx kx lx u (nI n) w (nI c) fi r y o ++ wM jm km lm u (nI n) w (nI c) ym bm) := by
  intro d
  induction d with
  | zero =>
    intro t hd ht u n c w fi r y o ym bm hk
    refine kw_iload_n hg 3 dL_law_18 rfl rfl ?_
    refine kw_aload_n hg 0 dL_law_19 rfl rfl ?_
    refine kw_slen hg hX dL_law_20 ?_
    refine kw_iconst (v := 4) hg dL_law_21 (by decide) ?_
    refine kw_isub hg dL_law_22 ?_
    refine kw_icmp_gt hg 398 dL_law_23 (by decide) (fun c23 => ?_) (fun c23 => absurd (scr_t (by omega) hL ht) c23)
    refine kw_iconst (v := 1) hg dL_law_398 (by decide) ?_
    exact hret _ _ _ dL_law_399
  | succ d ih =>
    intro t hd ht u n c w fi r y o ym bm hk
    rcases Nat.lt_or_ge L (4 * t + 4) with hlt | hge
    · refine kw_iload_n hg 3 dL_law_18 rfl rfl ?_
      refine kw_aload_n hg 0 dL_law_19 rfl rfl ?_
      refine kw_slen hg hX dL_law_20 ?_
      refine kw_iconst (v := 4) hg dL_law_21 (by decide) ?_
      refine kw_isub hg dL_law_22 ?_
      refine kw_icmp_gt hg 398 dL_law_23 (by decide) (fun c23 => ?_) (fun c23 => absurd (scr_t (by omega) hL ht) c23)
      refine kw_iconst (v := 1) hg dL_law_398 (by decide) ?_
      exact hret _ _ _ dL_law_399
    · have k392 : ∀ (u : Nat → Nat → Int32) (n c : Nat) (w fi : Int32) (r y o ym bm : Nat → Int32), sp_ok u n c w → kw_W g 392 [(0, .ref b), (1, .ref jx), (2, .ref jm), (3, .int (nI (4 * t)))] [] (wX jx kx lx u (nI n) w (nI c) fi r y o ++ wM jm km lm u (nI n) w (nI c) ym bm) := by
        intro u n c w fi r y o ym bm hk
        refine kw_iinc (v := nI (4 * (t + 1))) hg 3 [some 0, some 1, some 2, none] dL_law_392 rfl (show nI (4 * t) + nI 4 = nI (4 * t + 4) from nI_add _ _) (Nat.le_of_ble_eq_true rfl) rfl (lv2 := [(0, _), (1, _), (2, _), (3, _)]) rfl ?_
        refine kw_goto hg 18 dL_law_395 (by decide) ?_
        exact ih (t + 1) (by omega) (by omega) u n c w fi r y o ym bm hk
      refine kw_iload_n hg 3 dL_law_18 rfl rfl ?_
      refine kw_aload_n hg 0 dL_law_19 rfl rfl ?_
      refine kw_slen hg hX dL_law_20 ?_
      refine kw_iconst (v := 4) hg dL_law_21 (by decide) ?_
      refine kw_isub hg dL_law_22 ?_
      refine kw_icmp_gt hg 398 dL_law_23 (by decide) (fun c23 => absurd c23 (scr_f hge hL)) (fun c23 => ?_)
      refine kw_aload_n hg 0 dL_law_26 rfl rfl ?_
      refine kw_iload_n hg 3 dL_law_27 rfl rfl ?_
      refine kw_sld hg hX _ (by omega) dL_law_28 ?_
      refine kw_bipush (v := 15) hg dL_law_29 (by decide) ?_
      refine kw_iand hg dL_law_31 ?_
      obtain ⟨v, hv, ev⟩ := pk_andE (xs (4 * t)) (m := 15) 4 (by decide)
      refine kw_top (nI v) ev ?_
      have hv : v = 0 ∨ v = 1 ∨ v = 2 ∨ v = 3 ∨ v = 4 ∨ v = 5 ∨ v = 6 ∨ v = 7 ∨ v = 8 ∨ v = 9 ∨ v = 10 ∨ v = 11 ∨ v = 12 ∨ v = 13 ∨ v = 14 ∨ v = 15 := by omega
      rcases hv with rfl | rfl | rfl | rfl | rfl | rfl | rfl | rfl | rfl | rfl | rfl | rfl | rfl | rfl | rfl | rfl
      · exact kw_tabIn (off := 72) hg 104 dL_law_32 (by decide) (by decide) (by decide) (by decide) (law_0 hg hX hL t hge u n c w fi r y o ym bm hk k392)
      · exact kw_tabIn (off := 83) hg 115 dL_law_32 (by decide) (by decide) (by decide) (by decide) (law_1 hg hX hL t hge u n c w fi r y o ym bm hk k392)
      · exact kw_tabIn (off := 126) hg 158 dL_law_32 (by decide) (by decide) (by decide) (by decide) (law_2 hg hX hL t hge u n c w fi r y o ym bm hk k392)
      · exact kw_tabIn (off := 149) hg 181 dL_law_32 (by decide) (by decide) (by decide) (by decide) (law_3 hg hX hL t hge u n c w fi r y o ym bm hk k392)
      · exact kw_tabIn (off := 192) hg 224 dL_law_32 (by decide) (by decide) (by decide) (by decide) (law_4 hg hX hL t hge u n c w fi r y o ym bm hk k392)
      · exact kw_tabIn (off := 203) hg 235 dL_law_32 (by decide) (by decide) (by decide) (by decide) (law_5 hg hX hL t hge u n c w fi r y o ym bm hk k392)
      · exact kw_tabIn (off := 216) hg 248 dL_law_32 (by decide) (by decide) (by decide) (by decide) (law_6 hg hX hL t hge u n c w fi r y o ym bm hk k392)
      · exact kw_tabIn (off := 229) hg 261 dL_law_32 (by decide) (by decide) (by decide) (by decide) (law_7 hg hX hL t hge u n c w fi r y o ym bm hk k392)
      · exact kw_tabIn (off := 252) hg 284 dL_law_32 (by decide) (by decide) (by decide) (by decide) (law_8 hg hX hL t hge u n c w fi r y o ym bm hk k392)
      · exact kw_tabIn (off := 275) hg 307 dL_law_32 (by decide) (by decide) (by decide) (by decide) (law_9 hg hX hL t hge u n c w fi r y o ym bm hk k392)
      · exact kw_tabIn (off := 298) hg 330 dL_law_32 (by decide) (by decide) (by decide) (by decide) (law_10 hg hX hL t hge u n c w fi r y o ym bm hk k392)
      · exact kw_tabIn (off := 311) hg 343 dL_law_32 (by decide) (by decide) (by decide) (by decide) (law_11 hg hX hL t hge u n c w fi r y o ym bm hk k392)
      · exact kw_tabIn (off := 324) hg 356 dL_law_32 (by decide) (by decide) (by decide) (by decide) (law_12 hg hX hL t hge u n c w fi r y o ym bm hk k392)
      · exact kw_tabIn (off := 337) hg 369 dL_law_32 (by decide) (by decide) (by decide) (by decide) (law_13 hg hX hL t hge u n c w fi r y o ym bm hk k392)
      · exact kw_tabOut hg 392 dL_law_32 (by decide) (by decide) (k392 u n c w fi r y o ym bm hk)
      · exact kw_tabOut hg 392 dL_law_32 (by decide) (by decide) (k392 u n c w fi r y o ym bm hk)
end
section
/-! THE CLAIM OUT OF ONE WALK OF THE LAW'S BODY. Your part is whole_start (and what it stands on); all else here is the same for every law, but numbers. -/
def R_law : String := "SequencePatternsLaw"
def lw_P (b : Addr) (xs : List Int32) (args : Array Value) (s : State) : Prop := args = #[.ref b] ∧ s.IntsAt b xs ∧ xs.length ≤ 256 ∧ (Jvm.Cond.and given_1 narrow_1).before args s = true
def lw_Q (_ : Array Value) (s : State) (o : Outcome) (t : State) : Prop := o = .returned (some (.int 1)) ∧ Framed s o t [] 600000 7290000
def lw_Z (below : List Frame) (a : Array Value) (s : State) : State → Prop := fun t => ∃ o, t.status = .running ∧ Ended t below o ∧ lw_Q a s o t
/-- the law's own end, with 1 on the stack, nothing written that was there before, its room as the claim has it -/
theorem lw_ret {p : Program} {l : Launch} {e : Env} {s : State} {m : MethodId} {below : List Frame} {meth : Method} {c : Code} {b : Nat} (hx : p.tables.exec = Jvm.exec) (hb : c.code = code) (hr : meth.sig.returnType = ret) (hlocks : meth.locks = false) {pc : Nat} {H : Heap} {ls : Array Slot} (hdg : decode code pc = .ok (.ireturn, 1)) : W p l e room_1 s m #[Value.ref b] below meth c H [] 600000 7290000 (lw_Z below #[Value.ref b] s) (F0 m pc ls [.int 1]) := by
  intro T hT X
  obtain ⟨fs, hret, hrun, hended, hW, hframe⟩ := X.leave (v := some (.int 1)) (hlocks := hlocks) (fun h => by rw [hr] at h; cases h)
  have hmeth' : T.vm.method? m = some meth := X.method'
  refine ⟨T.setFrames fs, ?_, .returned (some (.int 1)), hrun, hended, rfl, ⟨_, rfl⟩, hW, hframe⟩
  jvm_step X.here [X.here.top, hx, hb, hdg, hmeth', hr, ret, narrow_b1]
  (try refine ⟨rfl, ?_⟩); (try refine ⟨rfl, ?_⟩)
  first | (intro acts; rw [hret _ acts rfl rfl rfl]) | rw [hret _ _ rfl rfl rfl]
  exact Steps.refl _
/-- what holds at the law's entry: the machine, the code, the tables' words (any of lw_tbl by 'hts w (by decide +kernel)'), the script of L ints xs at the cell b, what the Statement gives of the start (any of its parts by flat_of_before) -/
def lw_At (p : Program) (s : State) (m : MethodId) (meth : Method) (c : Code) (b L : Nat) (xs : Nat → Int32) : Prop :=
  p.tables.exec = Jvm.exec ∧ c.code = code ∧ meth.sig.returnType = ret ∧ c.maxLocals = 4 ∧ s.vm.findClass R_law = some m.cls ∧ (∀ w ∈ lw_tbl, w.before #[Value.ref b] s = true) ∧ va_X b L xs s s.heap ∧ b < s.heap.size ∧ meth.locks = false ∧ (Jvm.Cond.and given_1 narrow_1).before #[Value.ref b] s = true
set_option maxHeartbeats 4000000 in
set_option maxRecDepth 100000 in
/-- THE LAW, from its entry -/
theorem whole_start {p : Program} {e : Env} {s : State} {m : MethodId} {below : List Frame} {meth : Method} {c : Code} (l : Launch) {b L : Nat} {xs : Nat → Int32} (hL : L ≤ 256) (C0 : lw_At p s m meth c b L xs) : W p l e room_1 s m #[Value.ref b] below meth c s.heap [] 0 0 (lw_Z below #[Value.ref b] s) (entryFrame m ([Value.ref b] : List Value).toArray 4) := by
  obtain ⟨hx, hb, hr, hml, hown, hts0, hX, hbl, hlocks, hgv⟩ := id C0
  have hts : ∀ w ∈ lw_all, w.before #[Value.ref b] s = true := fun w h => hts0 w (lw_all_tbl h)
  have hA : ∀ q : Nat, s.heap.size ≤ q → (fun q : Nat => s.heap.size ≤ q) q := fun _ h => h
  have hbA : ¬ (fun q : Nat => s.heap.size ≤ q) b := Nat.not_le.mpr hbl
  obtain ⟨c0, iS0, hKn0⟩ := u_known (C := RX0) (T := TX0) (N := 14) (n := 14) hts in_X0 (hts _ q21)
  obtain ⟨c1, iS1, hKn1⟩ := u_known (C := RX1) (T := TX1) (N := 12) (n := 12) hts in_X1 (hts _ q174)
  obtain ⟨D, hKc⟩ : ∃ D : va_G, ∀ (k : Nat) (q : vw_C), vwCl[k]? = some q → u_Kn s q.1 q.2.1 q.2.2 (D.1 k) (D.2 k) := by
    refine ⟨(fun k => if k = 0 then c0 else c1, fun k => if k = 0 then iS0 else iS1), ?_⟩
    intro k q hq
    match k, hq with
    | 0, hq => cases hq; exact hKn0
    | 1, hq => cases hq; exact hKn1
    | k + 2, hq => simp [vwCl] at hq
  have hS : va_S (fun q : Nat => s.heap.size ≤ q) s.heap s.heap [] := va_S.rf
  have hK : va_K D vwCl [] s := ⟨hKc, fun k q h => by simp at h⟩
  have hP : va_P D vwCl [] s.heap := fun k q h => by simp at h
  have hD : va_D (fun q : Nat => s.heap.size ≤ q) [] := ⟨fun i j p q h => by simp at h, fun k q h => by simp at h⟩
  have hl := lv_entry ([.ref b]) (n := 4) (Nat.le_of_ble_eq_true rfl)
  rw [lg_entry_eq]
  generalize (lg_sl ([.ref b]) ++ List.replicate (4 - (lg_sl ([.ref b])).length) Slot.unset).toArray = ls at hl ⊢
  have hl : lv_has ls 4 [(0, .ref b)] := hl
  refine va_new (ci := 0) (fs := [.int 0, .null, .null, .null, .null, .int 0, .int 0, .null, .null, .null, .int 0, .null, .null, .null]) (C := RX0) (T := TX0) (N := 14) hx hb hts in_X0 tyX0 tyX0_ok hown (hts _ q20) (hts _ q21) (hts _ q18) hK hP hD hS hA rfl (fun j hj => by rcases (show j = 0 ∨ j = 1 ∨ j = 2 ∨ j = 3 ∨ j = 4 ∨ j = 5 ∨ j = 6 ∨ j = 7 ∨ j = 8 ∨ j = 9 ∨ j = 10 ∨ j = 11 ∨ j = 12 ∨ j = 13 by omega) with rfl | rfl | rfl | rfl | rfl | rfl | rfl | rfl | rfl | rfl | rfl | rfl | rfl | rfl <;> rfl) (Nat.le_of_ble_eq_true rfl) (Nat.le_of_ble_eq_true rfl) dL_law_0 (fun jx H hP hD hS => ?_)
  refine W.widen (k := 1) (n := 14) (Nat.le_refl _) (Nat.le_refl _) ?_
  refine lv_dup hx hb dL_law_3 rfl ?_
  have hPc : va_P D vwCl [(jx, .inr (0, [.int 0, .null, .null, .null, .null, .int 0, .int 0, .null, .null, .null, .int 0, .null, .null, .null]))] H := kw_Pmem.mpr (fun q hq => kw_Pmem.mp hP q (List.mem_append_right _ hq))
  have hDc : va_D (fun q : Nat => s.heap.size ≤ q) [(jx, .inr (0, [.int 0, .null, .null, .null, .null, .int 0, .int 0, .null, .null, .null, .int 0, .null, .null, .null]))] := (kw_Dsplit hD).2.1
  have hFc : ∀ q, va_A [(jx, .inr (0, [.int 0, .null, .null, .null, .null, .int 0, .int 0, .null, .null, .null, .int 0, .null, .null, .null]))] H.size q → s.heap.size ≤ q := by
    rintro q (⟨k, e0, hk⟩ | hq)
    · exact hDc.2 k _ hk
    · exact Nat.le_trans hS.1 hq
  have hKc := hK.sub (tys' := []) [] rfl
  refine va_callv (va_runI (As := []) (rest := [.ref jx]) ⟨hx, hb, hml, hown, hts⟩ (mX_init l D jx H.size) (cwI 0 hts (lw_meth q24) rfl rfl rfl (hts _ q18) (hts _ q22) (hts _ q23) rfl (by decide +kernel) ⟨Nat.le_of_ble_eq_true rfl, Nat.le_of_ble_eq_true rfl⟩) ⟨fun a U g mk q => by obtain ⟨q0, q1, qP, qK, qD⟩ := q; exact ⟨q0, q1, qP, va_K.moved (u := U) (U := U.calling g mk a) (Vm.Alike.refl U.vm) qK, qD⟩, fun U hU hW => ⟨rfl, by rw [hU], by rw [hU]; exact hPc, va_K.moved hW.alike hKc, hDc.weaken (fun _ _ _ _ => trivial)⟩⟩ rfl rfl hl.1 rfl (lv_room (Nat.le_of_ble_eq_true rfl)) dL_law_4 ⟨Nat.le_of_ble_eq_true rfl, Nat.le_of_ble_eq_true rfl⟩) hS (fun q _ h => hFc q h) hFc (fun ux t H1 locs ht hvm hw1 hB hz1 hk1 hS => ?_)
  refine W.widen (k := 11) (n := 180) (Nat.le_refl _) (Nat.le_refl _) ?_
  obtain ⟨hP1, hK1, hD1⟩ := hB
  rw [ht] at hP1
  have hK1 := va_K.moved hvm.symm hK1
  obtain ⟨hP, hD⟩ := (kw_J.right (wl := []) (w := [(jx, .inr (0, [.int 0, .null, .null, .null, .null, .int 0, .int 0, .null, .null, .null, .int 0, .null, .null, .null]))]) (w2 := wX jx ux.1 ux.2 u00 (nI 1) 10 (nI 0) 0 (fun _ => 0) (fun _ => 0) (fun _ => 0))).2.2 D (fun q : Nat => s.heap.size ≤ q) H H1 hP hD hk1 hFc hP1 hD1
  have hK := hK.app hK1
  generalize H1 = H at hP hS ⊢
  have hP : va_P D vwCl (wX jx ux.1 ux.2 u00 (nI 1) 10 (nI 0) 0 (fun _ => 0) (fun _ => 0) (fun _ => 0)) H := hP
  have hD : va_D (fun q : Nat => s.heap.size ≤ q) (wX jx ux.1 ux.2 u00 (nI 1) 10 (nI 0) 0 (fun _ => 0) (fun _ => 0) (fun _ => 0)) := hD
  have hK : va_K D vwCl (tX ux.2) s := hK
  refine lv_astore_n (lv' := [(1, .ref jx), (0, .ref b)]) hx hb dL_law_7 rfl hl (by decide) rfl (fun ls hl => ?_)
  refine va_new (ci := 1) (fs := [.null, .null, .null, .int 0, .null, .null, .null, .null, .int 0, .int 0, .null, .null]) (C := RX1) (T := TX1) (N := 12) hx hb hts in_X1 tyX1 tyX1_ok hown (hts _ q173) (hts _ q174) (hts _ q19) hK hP hD hS hA rfl (fun j hj => by rcases (show j = 0 ∨ j = 1 ∨ j = 2 ∨ j = 3 ∨ j = 4 ∨ j = 5 ∨ j = 6 ∨ j = 7 ∨ j = 8 ∨ j = 9 ∨ j = 10 ∨ j = 11 by omega) with rfl | rfl | rfl | rfl | rfl | rfl | rfl | rfl | rfl | rfl | rfl | rfl <;> rfl) (Nat.le_of_ble_eq_true rfl) (Nat.le_of_ble_eq_true rfl) dL_law_8 (fun jm H hP hD hS => ?_)
  refine W.widen (k := 12) (n := 192) (Nat.le_refl _) (Nat.le_refl _) ?_
  refine lv_dup hx hb dL_law_11 rfl ?_
  have hPc : va_P D vwCl [(jm, .inr (1, [.null, .null, .null, .int 0, .null, .null, .null, .null, .int 0, .int 0, .null, .null]))] H := kw_Pmem.mpr (fun q hq => kw_Pmem.mp hP q (List.mem_append_right _ hq))
  have hDc : va_D (fun q : Nat => s.heap.size ≤ q) [(jm, .inr (1, [.null, .null, .null, .int 0, .null, .null, .null, .null, .int 0, .int 0, .null, .null]))] := (kw_Dsplit hD).2.1
  have hFc : ∀ q, va_A [(jm, .inr (1, [.null, .null, .null, .int 0, .null, .null, .null, .null, .int 0, .int 0, .null, .null]))] H.size q → s.heap.size ≤ q := by
    rintro q (⟨k, e0, hk⟩ | hq)
    · exact hDc.2 k _ hk
    · exact Nat.le_trans hS.1 hq
  have hKc := hK.sub (tys' := []) [] rfl
  refine va_callv (va_runI (As := []) (rest := [.ref jm]) ⟨hx, hb, hml, hown, hts⟩ (mM_init l D jm H.size) (cwI 0 hts (lw_meth q177) rfl rfl rfl (hts _ q19) (hts _ q175) (hts _ q176) rfl (by decide +kernel) ⟨Nat.le_of_ble_eq_true rfl, Nat.le_of_ble_eq_true rfl⟩) ⟨fun a U g mk q => by obtain ⟨q0, q1, qP, qK, qD⟩ := q; exact ⟨q0, q1, qP, va_K.moved (u := U) (U := U.calling g mk a) (Vm.Alike.refl U.vm) qK, qD⟩, fun U hU hW => ⟨rfl, by rw [hU], by rw [hU]; exact hPc, va_K.moved hW.alike hKc, hDc.weaken (fun _ _ _ _ => trivial)⟩⟩ rfl rfl hl.1 rfl (lv_room (Nat.le_of_ble_eq_true rfl)) dL_law_12 ⟨Nat.le_of_ble_eq_true rfl, Nat.le_of_ble_eq_true rfl⟩) hS (fun q _ h => hFc q h) hFc (fun um t H1 locs ht hvm hw1 hB hz1 hk1 hS => ?_)
  refine W.widen (k := 21) (n := 246) (Nat.le_refl _) (Nat.le_refl _) ?_
  obtain ⟨hP1, hK1, hD1⟩ := hB
  rw [ht] at hP1
  have hK1 := va_K.moved hvm.symm hK1
  obtain ⟨hP, hD⟩ := (kw_J.right (wl := wX jx ux.1 ux.2 u00 (nI 1) 10 (nI 0) 0 (fun _ => 0) (fun _ => 0) (fun _ => 0)) (w := [(jm, .inr (1, [.null, .null, .null, .int 0, .null, .null, .null, .null, .int 0, .int 0, .null, .null]))]) (w2 := wM jm um.1 um.2 u00 (nI 1) 10 (nI 0) (fun _ => 0) (fun _ => 0))).2.2 D (fun q : Nat => s.heap.size ≤ q) H H1 hP hD hk1 hFc hP1 hD1
  have hK := hK.app hK1
  generalize H1 = H at hP hS ⊢
  refine lv_astore_n (lv' := [(2, .ref jm), (1, .ref jx), (0, .ref b)]) hx hb dL_law_15 rfl hl (by decide) rfl (fun ls hl => ?_)
  refine lv_iconst (v := 0) hx hb dL_law_16 (by decide) ?_
  refine lv_istore_n (lv' := [(3, .int 0), (2, .ref jm), (1, .ref jx), (0, .ref b)]) hx hb dL_law_17 rfl hl (by decide) rfl (fun ls hl => ?_)
  have hl := lv_sub hl (l' := [(0, .ref b), (1, .ref jx), (2, .ref jm), (3, .int (nI (4 * 0)))]) [3, 2, 1, 0] rfl
  refine law_loop (g := (p, l, e, room_1, s, m, #[Value.ref b], below, meth, c, D, fun q : Nat => s.heap.size ≤ q, 4, 21, 246, lw_Z below #[Value.ref b] s)) (b := b) (L := L) (xs := xs) (jx := jx) (jm := jm) (kx := ux.1) (km := um.1) (lx := ux.2) (lm := um.2) ⟨rfl, ⟨hx, hb, hml, hown, hts⟩, hK, hA, Nat.le_of_ble_eq_true rfl, Nat.le_of_ble_eq_true rfl, Nat.le_of_ble_eq_true rfl, Nat.le_of_ble_eq_true rfl⟩ ⟨hX, hbl, hbA⟩ hL ?_ 65 0 (by omega) (by omega) u00 1 0 10 0 (fun _ => 0) (fun _ => 0) (fun _ => 0) (fun _ => 0) (fun _ => 0) pl_init_ok H locs ls hP hD hS hl
  intro pc lv w hd H locs ls hP hD hS hl
  refine va_forget (fun q hq => hS.2.2 q hq) ?_
  refine W.widen (k := 600000) (n := 7290000) (Nat.le_of_ble_eq_true rfl) (Nat.le_of_ble_eq_true rfl) ?_
  exact lw_ret hx hb hr hlocks hd
set_option maxHeartbeats 4000000 in
theorem lw_walk (l : Launch) (b : Addr) (xs : List Int32) : MetFree l x (headSpec (Jvm.Cond.code x code maxLocals ret :: tables_1) room_1) (lw_P b xs) (fun _ _ _ _ _ => True) lw_Q := by
  refine MetFree.of_bodyS (code := code) (maxLocals := maxLocals) (ret := ret) (by decide) ?_ ?_
  · intro args s m h hn
    obtain ⟨meth, c, h1, h2, h3, h4, h5, h6, -, -⟩ := Cond.code_spec hn (atoms_spec (ws := Jvm.Cond.code x code maxLocals ret :: tables_1) h _ List.mem_cons_self)
    exact ⟨meth, c, h1, h2, h3, h4, h5, h6⟩
  · intro p e s m args below meth c s₁ B hml0 hP _
    obtain ⟨rfl, hx, hbd, hgv⟩ := hP
    obtain ⟨scr, harrAt, hlist, hof, hsmall⟩ := hx
    obtain ⟨hcb, hkn, -, -⟩ := State.arrayAt?_spec harrAt
    have hown : s.vm.findClass R_law = some m.cls := findClass_of_methodNamed B.named
    have hts0 : ∀ c ∈ (Jvm.Cond.code x code maxLocals ret :: tables_1), c.before #[Value.ref b] s = true := atoms_spec (ws := Jvm.Cond.code x code maxLocals ret :: tables_1) B.pre
    have hts : ∀ w ∈ lw_tbl, w.before #[Value.ref b] s = true := k2_hts_sels lw_privs (fun w hw => hts0 w (List.mem_cons_of_mem _ hw)) lw_privs_ok
    have hml : c.maxLocals = 4 := B.maxLocals_eq (hts0 _ List.mem_cons_self)
    have X₀ : Stand p l e room_1 s m #[Value.ref b] below meth c s₁ [] 0 0 := Stand.of_body B
    have hh0 : s₁.heap = s.heap := by rw [B.state]; rfl
    have hsz : scr.slots.size = xs.length := by rw [← Array.length_toList, hlist, List.length_map]
    have hval : ∀ j : Nat, j < xs.length → scr.slots[j]? = some (.int (xs.getD j 0)) := fun j hj => by
      rw [← Array.getElem?_toList, hlist]
      simp [hj]
    have hbl : b < s.heap.size := (Array.getElem?_eq_some_iff.mp hcb).1
    have hX : va_X b xs.length (fun j => xs.getD j 0) s s.heap := ⟨scr, hcb, hof, hkn, hsz, hval⟩
    have K : W p l e room_1 s m #[Value.ref b] below meth c s₁.heap [] 0 0 (lw_Z below #[Value.ref b] s) (entryFrame m ([Value.ref b] : List Value).toArray 4) := by
      rw [hh0]
      exact whole_start l hbd ⟨B.exec, B.bytes, B.returns, hml, hown, hts, hX, hbl, B.notSynchronized, hgv⟩
    obtain ⟨t, a1, o, b1, b2, b3⟩ := K s₁ rfl X₀
    exact ⟨t, o, a1, b1, b2, b3⟩
theorem lw_pre_spec {args : Array Value} {s : State} (h : (Jvm.Cond.and given_1 narrow_1).before args s = true) (hr : rest_1_c.before args s = true) : ∃ (b : Addr) (xs : List Int32), lw_P b xs args s := by
  have hs := flat_of_before _ h
  have hq := flat_of_before _ hr
  have hc : (Cond.count 1).before args s = true := hs _ (by decide +kernel)
  have harr : (Cond.arrayOf (.arg 0) .int).before args s = true := hs _ (by decide +kernel)
  have hle : (Cond.le (.length (.arg 0)) (.int 256)).before args s = true := hs _ (by decide +kernel)
  have hlen : (Cond.isInt (.length (.arg 0))).before args s = true := hq _ (by decide +kernel)
  have hall : (Cond.all (.arg 0) (.isInt (.elem (.arg 0) (.index 0)))).before args s = true := hq _ (by decide +kernel)
  obtain ⟨b, xs, hb, hx⟩ := State.ints_of_pre rfl harr hlen hall
  have hsm : xs.length < 2 ^ 31 := hx.choose_spec.2.2.2
  have hev : (Term.length (.arg 0)).eval args s none [] s = some (.int xs.length.toInt32) := hx.length_eval hb
  have hv := Cond.le_ints hev (show (Term.int 256).eval args s none [] s = some (.int 256) from rfl)
  have hd : xs.length.toInt32 ≤ 256 := by
    simpa [Cond.before, Cond.holds, hv] using hle
  have hN : xs.length ≤ 256 := (Int32.ofNat_le_ofNat hsm (by decide)).mp (show Int32.ofNat xs.length ≤ Int32.ofNat 256 from hd)
  exact ⟨b, xs, Cond.one_arg hc (show args[0]? = some (.ref b) from hb), hx, hN, h⟩
theorem lw_comes (l : Launch) : Comes l x (Jvm.Cond.code x code maxLocals ret :: tables_1) room_1 (fun tb e args s => Calls_1 tb e args s ∧ rest_1 tb e args s ∧ Pre_1 tb e args s)
    (fun _ _ args s o t => lw_Q args s o t) := by
  intro p e ha hc hk s m args below hf hfit hheap happ hpre
  obtain ⟨b, xs, hP⟩ := lw_pre_spec hpre.2.2 hpre.2.1
  obtain ⟨k, o, h1, h2, h3, hQ⟩ := lw_walk l b xs p e ha hc hk s m args below hf ((Spec.applies_iff_loose hf).mp happ).1 hP trivial
  exact ⟨k, o, h1, h2, h3, hQ⟩
theorem lw_frame {s t : State} {o : Outcome} {args : Array Value} (h : Framed s o t [] 600000 7290000) :
    Framed s o t (fieldLocs frame_1_writes args s ++ arrayLocs frame_1_arrays args s ++ staticLocs frame_1_statics s) 600000 7290000 := h
theorem lw_limb (L : Cond) (hL : ∀ (args : Array Value) (s t : State), L.after args s (.returned (some (.int 1))) t = true) :
    ArmFor flags0 classFile x code maxLocals ret World_1 tables_1 room_1 Calls_1 rest_1 Pre_1
      (fun tb e a s o t => postC L tb e a s o t ∧ Framed s o t (fieldLocs frame_1_writes a s ++ arrayLocs frame_1_arrays a s ++ staticLocs frame_1_statics s) 600000 7290000) := by
  intro l _ _ _ p e ha hc hk s m args below hf hfit hheap happ hpre
  obtain ⟨k, o, h1, h2, h3, rfl, hF⟩ := lw_comes l p e ha hc hk s m args below hf hfit hheap happ hpre
  exact ⟨k, _, h1, h2, h3, hL args s _, lw_frame hF⟩
theorem i_vc : Claimed_1_1 ∧ Claimed_1_2 := ⟨lw_limb limb_1_1 (fun args s t => by simp [limb_1_1, Cond.after, Cond.holds, Cond.value]), lw_limb limb_1_2 (fun args s t => Cond.after_iff.mpr (by
  first | (rw [show limb_1_2 = Cond.eq .result (.int 1) from rfl, Cond.eq_ints (x := 1) (y := 1) rfl rfl]; simp; done) | (simp [limb_1_2, Cond.value, Term.eval]; done)))⟩
end
