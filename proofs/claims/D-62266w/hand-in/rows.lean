section
-- ===== PART A: goes FIRST, ahead of the names: the tables' words, and 'selects' of the private methods out of them =====
/-- a private method of a class that the tables say can be made, by its rows of tables_1 -/
def lw_okq (q : MethodName × Nat) : Prop := (q.1.cls ≠ "java/lang/invoke/MethodHandle" ∧ q.1.cls ≠ "java/lang/invoke/VarHandle") ∧ Cond.instantiable q.1.cls q.2 ∈ tables_1 ∧ Cond.privateMethod q.1 ∈ tables_1 ∧ Cond.instanceMethod q.1 ∈ tables_1
set_option maxRecDepth 100000
theorem lw_t1 {w : Cond} (h : w ∈ tables_1_1) : w ∈ tables_1 := List.mem_append_left _ h
theorem lw_t2 {w : Cond} (h : w ∈ tables_1_2) : w ∈ tables_1 := List.mem_append_right _ h
theorem lw_p0 : lw_okq (⟨"ZoneLookup", "findNode", "()I"⟩, 15) := ⟨⟨by decide +kernel, by decide +kernel⟩, lw_t1 (List.mem_of_getElem? (i := 4) rfl), lw_t1 (List.mem_of_getElem? (i := 82) rfl), lw_t1 (List.mem_of_getElem? (i := 83) rfl)⟩
theorem lw_p1 : lw_okq (⟨"ZoneLookup", "count", "(II)I"⟩, 15) := ⟨⟨by decide +kernel, by decide +kernel⟩, lw_t1 (List.mem_of_getElem? (i := 4) rfl), lw_t1 (List.mem_of_getElem? (i := 86) rfl), lw_t1 (List.mem_of_getElem? (i := 87) rfl)⟩
theorem lw_p2 : lw_okq (⟨"ZoneLookup", "entryAt", "(III)I"⟩, 15) := ⟨⟨by decide +kernel, by decide +kernel⟩, lw_t1 (List.mem_of_getElem? (i := 4) rfl), lw_t1 (List.mem_of_getElem? (i := 90) rfl), lw_t1 (List.mem_of_getElem? (i := 91) rfl)⟩
theorem lw_p3 : lw_okq (⟨"ZoneLookup", "growNode", "()I"⟩, 15) := ⟨⟨by decide +kernel, by decide +kernel⟩, lw_t1 (List.mem_of_getElem? (i := 4) rfl), lw_t1 (List.mem_of_getElem? (i := 94) rfl), lw_t1 (List.mem_of_getElem? (i := 95) rfl)⟩
theorem lw_p4 : lw_okq (⟨"ZoneLookup", "freeNode", "()I"⟩, 15) := ⟨⟨by decide +kernel, by decide +kernel⟩, lw_t1 (List.mem_of_getElem? (i := 4) rfl), lw_t1 (List.mem_of_getElem? (i := 98) rfl), lw_t1 (List.mem_of_getElem? (i := 99) rfl)⟩
theorem lw_p5 : lw_okq (⟨"ZoneLookup", "shrinkPath", "()V"⟩, 15) := ⟨⟨by decide +kernel, by decide +kernel⟩, lw_t1 (List.mem_of_getElem? (i := 4) rfl), lw_t1 (List.mem_of_getElem? (i := 106) rfl), lw_t1 (List.mem_of_getElem? (i := 107) rfl)⟩
theorem lw_p6 : lw_okq (⟨"ZoneLookup", "lookUp", "(I)V"⟩, 15) := ⟨⟨by decide +kernel, by decide +kernel⟩, lw_t1 (List.mem_of_getElem? (i := 4) rfl), lw_t1 (List.mem_of_getElem? (i := 118) rfl), lw_t1 (List.mem_of_getElem? (i := 119) rfl)⟩
theorem lw_p7 : lw_okq (⟨"ZoneLookup", "walk", "(I)V"⟩, 15) := ⟨⟨by decide +kernel, by decide +kernel⟩, lw_t1 (List.mem_of_getElem? (i := 4) rfl), lw_t1 (List.mem_of_getElem? (i := 122) rfl), lw_t1 (List.mem_of_getElem? (i := 123) rfl)⟩
theorem lw_p8 : lw_okq (⟨"ZoneLookup", "settle", "(II)V"⟩, 15) := ⟨⟨by decide +kernel, by decide +kernel⟩, lw_t1 (List.mem_of_getElem? (i := 4) rfl), lw_t1 (List.mem_of_getElem? (i := 126) rfl), lw_t1 (List.mem_of_getElem? (i := 127) rfl)⟩
theorem lw_p9 : lw_okq (⟨"ZoneLookup", "askedNumber", "()I"⟩, 15) := ⟨⟨by decide +kernel, by decide +kernel⟩, lw_t1 (List.mem_of_getElem? (i := 4) rfl), lw_t1 (List.mem_of_getElem? (i := 130) rfl), lw_t1 (List.mem_of_getElem? (i := 131) rfl)⟩
theorem lw_p10 : lw_okq (⟨"ZoneLookup", "decide", "(II)V"⟩, 15) := ⟨⟨by decide +kernel, by decide +kernel⟩, lw_t1 (List.mem_of_getElem? (i := 4) rfl), lw_t1 (List.mem_of_getElem? (i := 134) rfl), lw_t1 (List.mem_of_getElem? (i := 135) rfl)⟩
theorem lw_p11 : lw_okq (⟨"ZoneLookup", "ranked", "(III)I"⟩, 15) := ⟨⟨by decide +kernel, by decide +kernel⟩, lw_t1 (List.mem_of_getElem? (i := 4) rfl), lw_t1 (List.mem_of_getElem? (i := 138) rfl), lw_t1 (List.mem_of_getElem? (i := 139) rfl)⟩
theorem lw_p12 : lw_okq (⟨"ZoneLookup", "askNumber", "(I)V"⟩, 15) := ⟨⟨by decide +kernel, by decide +kernel⟩, lw_t1 (List.mem_of_getElem? (i := 4) rfl), lw_t1 (List.mem_of_getElem? (i := 142) rfl), lw_t1 (List.mem_of_getElem? (i := 143) rfl)⟩
theorem lw_p13 : lw_okq (⟨"ZoneLookupModel", "find", "(III)I"⟩, 8) := ⟨⟨by decide +kernel, by decide +kernel⟩, lw_t1 (List.mem_of_getElem? (i := 158) rfl), lw_t1 (List.mem_of_getElem? (i := 212) rfl), lw_t1 (List.mem_of_getElem? (i := 213) rfl)⟩
theorem lw_p14 : lw_okq (⟨"ZoneLookupModel", "count", "(II)I"⟩, 8) := ⟨⟨by decide +kernel, by decide +kernel⟩, lw_t1 (List.mem_of_getElem? (i := 158) rfl), lw_t1 (List.mem_of_getElem? (i := 216) rfl), lw_t1 (List.mem_of_getElem? (i := 217) rfl)⟩
theorem lw_p15 : lw_okq (⟨"ZoneLookupModel", "there", "(I)Z"⟩, 8) := ⟨⟨by decide +kernel, by decide +kernel⟩, lw_t1 (List.mem_of_getElem? (i := 158) rfl), lw_t1 (List.mem_of_getElem? (i := 228) rfl), lw_t1 (List.mem_of_getElem? (i := 229) rfl)⟩
def lw_privs_1 : List (MethodName × Nat) := [(⟨"ZoneLookup", "findNode", "()I"⟩, 15), (⟨"ZoneLookup", "count", "(II)I"⟩, 15), (⟨"ZoneLookup", "entryAt", "(III)I"⟩, 15), (⟨"ZoneLookup", "growNode", "()I"⟩, 15), (⟨"ZoneLookup", "freeNode", "()I"⟩, 15), (⟨"ZoneLookup", "shrinkPath", "()V"⟩, 15), (⟨"ZoneLookup", "lookUp", "(I)V"⟩, 15), (⟨"ZoneLookup", "walk", "(I)V"⟩, 15), (⟨"ZoneLookup", "settle", "(II)V"⟩, 15), (⟨"ZoneLookup", "askedNumber", "()I"⟩, 15), (⟨"ZoneLookup", "decide", "(II)V"⟩, 15), (⟨"ZoneLookup", "ranked", "(III)I"⟩, 15), (⟨"ZoneLookup", "askNumber", "(I)V"⟩, 15), (⟨"ZoneLookupModel", "find", "(III)I"⟩, 8), (⟨"ZoneLookupModel", "count", "(II)I"⟩, 8), (⟨"ZoneLookupModel", "there", "(I)Z"⟩, 8)]
theorem lw_r1 : ∀ q ∈ lw_privs_1, lw_okq q := List.forall_mem_cons.mpr ⟨lw_p0, List.forall_mem_cons.mpr ⟨lw_p1, List.forall_mem_cons.mpr ⟨lw_p2, List.forall_mem_cons.mpr ⟨lw_p3, List.forall_mem_cons.mpr ⟨lw_p4, List.forall_mem_cons.mpr ⟨lw_p5, List.forall_mem_cons.mpr ⟨lw_p6, List.forall_mem_cons.mpr ⟨lw_p7, List.forall_mem_cons.mpr ⟨lw_p8, List.forall_mem_cons.mpr ⟨lw_p9, List.forall_mem_cons.mpr ⟨lw_p10, List.forall_mem_cons.mpr ⟨lw_p11, List.forall_mem_cons.mpr ⟨lw_p12, List.forall_mem_cons.mpr ⟨lw_p13, List.forall_mem_cons.mpr ⟨lw_p14, List.forall_mem_cons.mpr ⟨lw_p15, fun _ h => absurd h List.not_mem_nil⟩⟩⟩⟩⟩⟩⟩⟩⟩⟩⟩⟩⟩⟩⟩⟩
theorem lw_p16 : lw_okq (⟨"ZoneLookupModel", "lookUp", "(I)I"⟩, 8) := ⟨⟨by decide +kernel, by decide +kernel⟩, lw_t1 (List.mem_of_getElem? (i := 158) rfl), lw_t2 (List.mem_of_getElem? (i := 2) rfl), lw_t2 (List.mem_of_getElem? (i := 3) rfl)⟩
theorem lw_p17 : lw_okq (⟨"ZoneLookupModel", "handed", "(I)I"⟩, 8) := ⟨⟨by decide +kernel, by decide +kernel⟩, lw_t1 (List.mem_of_getElem? (i := 158) rfl), lw_t2 (List.mem_of_getElem? (i := 6) rfl), lw_t2 (List.mem_of_getElem? (i := 7) rfl)⟩
theorem lw_p18 : lw_okq (⟨"ZoneLookupModel", "answering", "(I)I"⟩, 8) := ⟨⟨by decide +kernel, by decide +kernel⟩, lw_t1 (List.mem_of_getElem? (i := 158) rfl), lw_t2 (List.mem_of_getElem? (i := 10) rfl), lw_t2 (List.mem_of_getElem? (i := 11) rfl)⟩
theorem lw_p19 : lw_okq (⟨"ZoneLookupModel", "valueOf", "(III)I"⟩, 8) := ⟨⟨by decide +kernel, by decide +kernel⟩, lw_t1 (List.mem_of_getElem? (i := 158) rfl), lw_t2 (List.mem_of_getElem? (i := 14) rfl), lw_t2 (List.mem_of_getElem? (i := 15) rfl)⟩
def lw_privs_2 : List (MethodName × Nat) := [(⟨"ZoneLookupModel", "lookUp", "(I)I"⟩, 8), (⟨"ZoneLookupModel", "handed", "(I)I"⟩, 8), (⟨"ZoneLookupModel", "answering", "(I)I"⟩, 8), (⟨"ZoneLookupModel", "valueOf", "(III)I"⟩, 8)]
theorem lw_r2 : ∀ q ∈ lw_privs_2, lw_okq q := List.forall_mem_cons.mpr ⟨lw_p16, List.forall_mem_cons.mpr ⟨lw_p17, List.forall_mem_cons.mpr ⟨lw_p18, List.forall_mem_cons.mpr ⟨lw_p19, fun _ h => absurd h List.not_mem_nil⟩⟩⟩⟩
def lw_privs : List (MethodName × Nat) := lw_privs_1 ++ (lw_privs_2)
def lw_tbl : List Cond := k2_sels lw_privs ++ tables_1
theorem lw_privs_ok : ∀ q ∈ lw_privs, lw_okq q := by
  show ∀ q ∈ lw_privs_1 ++ (lw_privs_2), lw_okq q
  exact List.forall_mem_append.mpr ⟨lw_r1, lw_r2⟩
-- ===== ONE list of words for every method: the tables' words that hold all through a run =====
def lw_all : List Cond := lw_tbl.filter goodWord
/-- a word of the tables by its place: claim/WORDS.tsv -/
theorem lw_w {w : Cond} (i : Nat) (h : lw_tbl[i]? = some w) (g : goodWord w = true) : w ∈ lw_all := List.mem_filter.mpr ⟨List.mem_of_getElem? h, g⟩
theorem lw_all_tbl {w : Cond} (h : w ∈ lw_all) : w ∈ lw_tbl := (List.mem_filter.mp h).1
theorem lw_self : GoodIn lw_all lw_all := fun w h => ⟨h, good_of_word (List.mem_filter.mp h).2⟩
/-- a class's field words, by their places -/
theorem lw_in (ws : List Cond) (ps : List Nat) (hp : ws = ps.filterMap (fun i => lw_tbl[i]?)) (hg : ws.all goodWord = true) : ∀ w ∈ ws, w ∈ lw_all := by
  intro w h
  have h1 := List.all_eq_true.mp hg w h
  rw [hp] at h
  obtain ⟨i, -, hi⟩ := List.mem_filterMap.mp h
  exact lw_w i hi h1
/-- the words of a contract for the method y with code b, L locals, answer r -/
abbrev ws_ (y : MethodName) (b : ByteArray) (L : Nat) (r : Option FieldType) : List Cond := Cond.code y b L r :: lw_all
theorem lw_meth {y : MethodName} {b : ByteArray} {L : Nat} {r : Option FieldType} (h : Cond.code y b L r ∈ lw_all) : GoodIn lw_all (ws_ y b L r) := by
  intro w hw
  rcases List.mem_cons.mp hw with e | e
  · rw [e]
    exact lw_self _ h
  · exact lw_self _ e
theorem lw_app {a c : List Cond} (ha : ∀ w ∈ a, w ∈ lw_all) (hc : GoodIn lw_all c) : GoodIn lw_all (a ++ c) := by
  intro w hw
  rcases List.mem_append.mp hw with e | e
  · exact lw_self w (ha w e)
  · exact hc w e
/-- what a call through an object asks: cwV n hts (lw_V ..) -/
theorem lw_V {own : String} {idx : Nat} {C : String} {y : MethodName} {b : ByteArray} {L : Nat} {r : Option FieldType} (h1 : Cond.methodLink own idx y ∈ lw_all) (h2 : Cond.instanceMethod y ∈ lw_all) (h3 : Cond.selects C y y ∈ lw_all) (h4 : Cond.initialized C ∈ lw_all) (h5 : Cond.code y b L r ∈ lw_all) : GoodIn lw_all (wsV own idx C y (ws_ y b L r)) := by
  refine lw_app ?_ (lw_meth h5)
  intro w hw
  simp only [List.mem_cons, List.not_mem_nil, or_false] at hw
  rcases hw with e | e | e | e
  · rw [e]; exact h1
  · rw [e]; exact h2
  · rw [e]; exact h3
  · rw [e]; exact h4
/-- what a static call asks: va_cwS n hts (lw_S ..) -/
theorem lw_S {own : String} {idx : Nat} {y : MethodName} {b : ByteArray} {L : Nat} {r : Option FieldType} (h1 : Cond.methodLink own idx y ∈ lw_all) (h2 : Cond.static y ∈ lw_all) (h3 : Cond.initialized y.cls ∈ lw_all) (h4 : Cond.code y b L r ∈ lw_all) : GoodIn lw_all (va_wsS own idx y (ws_ y b L r)) := by
  refine lw_app ?_ (lw_meth h4)
  intro w hw
  simp only [List.mem_cons, List.not_mem_nil, or_false] at hw
  rcases hw with e | e | e
  · rw [e]; exact h1
  · rw [e]; exact h2
  · rw [e]; exact h3
/-- the words of a contract for a method WITH HANDLERS (hh: its table) -/
abbrev wsW_ (y : MethodName) (b : ByteArray) (L : Nat) (r : Option FieldType) (hh : List (Nat × Nat × Nat × Nat)) : List Cond := Cond.codeWith y b L r hh :: lw_all
theorem lw_methW {y : MethodName} {b : ByteArray} {L : Nat} {r : Option FieldType} {hh : List (Nat × Nat × Nat × Nat)} (h : Cond.codeWith y b L r hh ∈ lw_all) : GoodIn lw_all (wsW_ y b L r hh) := by
  intro w hw
  rcases List.mem_cons.mp hw with e | e
  · rw [e]
    exact lw_self _ h
  · exact lw_self _ e
/-- any list of words by their places (lw_in), good -/
theorem lw_good {ws : List Cond} (h : ∀ w ∈ ws, w ∈ lw_all) : GoodIn lw_all ws := fun w hw => lw_self w (h w hw)
/-- what a call of a method with handlers asks: vx_cwVW n hts (lw_VW ..), vx_cwSW n hts (lw_SW ..) -/
theorem lw_VW {own : String} {idx : Nat} {C : String} {y : MethodName} {b : ByteArray} {L : Nat} {r : Option FieldType} {hh : List (Nat × Nat × Nat × Nat)} (h1 : Cond.methodLink own idx y ∈ lw_all) (h2 : Cond.instanceMethod y ∈ lw_all) (h3 : Cond.selects C y y ∈ lw_all) (h4 : Cond.initialized C ∈ lw_all) (h5 : Cond.codeWith y b L r hh ∈ lw_all) : GoodIn lw_all (wsV own idx C y (wsW_ y b L r hh)) := by
  refine lw_app ?_ (lw_methW h5)
  intro w hw
  simp only [List.mem_cons, List.not_mem_nil, or_false] at hw
  rcases hw with e | e | e | e
  · rw [e]; exact h1
  · rw [e]; exact h2
  · rw [e]; exact h3
  · rw [e]; exact h4
theorem lw_SW {own : String} {idx : Nat} {y : MethodName} {b : ByteArray} {L : Nat} {r : Option FieldType} {hh : List (Nat × Nat × Nat × Nat)} (h1 : Cond.methodLink own idx y ∈ lw_all) (h2 : Cond.static y ∈ lw_all) (h3 : Cond.initialized y.cls ∈ lw_all) (h4 : Cond.codeWith y b L r hh ∈ lw_all) : GoodIn lw_all (va_wsS own idx y (wsW_ y b L r hh)) := by
  refine lw_app ?_ (lw_methW h4)
  intro w hw
  simp only [List.mem_cons, List.not_mem_nil, or_false] at hw
  rcases hw with e | e | e
  · rw [e]; exact h1
  · rw [e]; exact h2
  · rw [e]; exact h3
/-- a word by its place in its run of the tables -/
theorem lw_at {r : List Cond} (hr : ∀ w ∈ r, w ∈ lw_tbl) {w : Cond} (i : Nat) (h : r[i]? = some w) : w ∈ lw_tbl := hr w (List.mem_of_getElem? h)
theorem lw_g {w : Cond} (h : w ∈ lw_tbl) (g : goodWord w = true) : w ∈ lw_all := List.mem_filter.mpr ⟨h, g⟩
theorem lw_ms : ∀ w ∈ k2_sels lw_privs, w ∈ lw_tbl := fun w h => show w ∈ k2_sels lw_privs ++ tables_1 from List.mem_append_left _ h
theorem lw_m1 : ∀ w ∈ tables_1_1, w ∈ lw_tbl := fun w h => show w ∈ k2_sels lw_privs ++ tables_1 from List.mem_append_right (k2_sels lw_privs) (show w ∈ tables_1 from List.mem_append_left _ h)
theorem lw_m2 : ∀ w ∈ tables_1_2, w ∈ lw_tbl := fun w h => show w ∈ k2_sels lw_privs ++ tables_1 from List.mem_append_right (k2_sels lw_privs) (show w ∈ tables_1 from List.mem_append_right _ h)
theorem qs0 : (Cond.selects "ZoneLookup" ⟨"ZoneLookup", "findNode", "()I"⟩ ⟨"ZoneLookup", "findNode", "()I"⟩) ∈ lw_all := lw_g (lw_at lw_ms 0 rfl) rfl
theorem qs1 : (Cond.selects "ZoneLookup" ⟨"ZoneLookup", "count", "(II)I"⟩ ⟨"ZoneLookup", "count", "(II)I"⟩) ∈ lw_all := lw_g (lw_at lw_ms 1 rfl) rfl
theorem qs2 : (Cond.selects "ZoneLookup" ⟨"ZoneLookup", "entryAt", "(III)I"⟩ ⟨"ZoneLookup", "entryAt", "(III)I"⟩) ∈ lw_all := lw_g (lw_at lw_ms 2 rfl) rfl
theorem qs3 : (Cond.selects "ZoneLookup" ⟨"ZoneLookup", "growNode", "()I"⟩ ⟨"ZoneLookup", "growNode", "()I"⟩) ∈ lw_all := lw_g (lw_at lw_ms 3 rfl) rfl
theorem qs4 : (Cond.selects "ZoneLookup" ⟨"ZoneLookup", "freeNode", "()I"⟩ ⟨"ZoneLookup", "freeNode", "()I"⟩) ∈ lw_all := lw_g (lw_at lw_ms 4 rfl) rfl
theorem qs5 : (Cond.selects "ZoneLookup" ⟨"ZoneLookup", "shrinkPath", "()V"⟩ ⟨"ZoneLookup", "shrinkPath", "()V"⟩) ∈ lw_all := lw_g (lw_at lw_ms 5 rfl) rfl
theorem qs6 : (Cond.selects "ZoneLookup" ⟨"ZoneLookup", "lookUp", "(I)V"⟩ ⟨"ZoneLookup", "lookUp", "(I)V"⟩) ∈ lw_all := lw_g (lw_at lw_ms 6 rfl) rfl
theorem qs7 : (Cond.selects "ZoneLookup" ⟨"ZoneLookup", "walk", "(I)V"⟩ ⟨"ZoneLookup", "walk", "(I)V"⟩) ∈ lw_all := lw_g (lw_at lw_ms 7 rfl) rfl
theorem qs8 : (Cond.selects "ZoneLookup" ⟨"ZoneLookup", "settle", "(II)V"⟩ ⟨"ZoneLookup", "settle", "(II)V"⟩) ∈ lw_all := lw_g (lw_at lw_ms 8 rfl) rfl
theorem qs9 : (Cond.selects "ZoneLookup" ⟨"ZoneLookup", "askedNumber", "()I"⟩ ⟨"ZoneLookup", "askedNumber", "()I"⟩) ∈ lw_all := lw_g (lw_at lw_ms 9 rfl) rfl
theorem qs10 : (Cond.selects "ZoneLookup" ⟨"ZoneLookup", "decide", "(II)V"⟩ ⟨"ZoneLookup", "decide", "(II)V"⟩) ∈ lw_all := lw_g (lw_at lw_ms 10 rfl) rfl
theorem qs11 : (Cond.selects "ZoneLookup" ⟨"ZoneLookup", "ranked", "(III)I"⟩ ⟨"ZoneLookup", "ranked", "(III)I"⟩) ∈ lw_all := lw_g (lw_at lw_ms 11 rfl) rfl
theorem qs12 : (Cond.selects "ZoneLookup" ⟨"ZoneLookup", "askNumber", "(I)V"⟩ ⟨"ZoneLookup", "askNumber", "(I)V"⟩) ∈ lw_all := lw_g (lw_at lw_ms 12 rfl) rfl
theorem qs13 : (Cond.selects "ZoneLookupModel" ⟨"ZoneLookupModel", "find", "(III)I"⟩ ⟨"ZoneLookupModel", "find", "(III)I"⟩) ∈ lw_all := lw_g (lw_at lw_ms 13 rfl) rfl
theorem qs14 : (Cond.selects "ZoneLookupModel" ⟨"ZoneLookupModel", "count", "(II)I"⟩ ⟨"ZoneLookupModel", "count", "(II)I"⟩) ∈ lw_all := lw_g (lw_at lw_ms 14 rfl) rfl
theorem qs15 : (Cond.selects "ZoneLookupModel" ⟨"ZoneLookupModel", "there", "(I)Z"⟩ ⟨"ZoneLookupModel", "there", "(I)Z"⟩) ∈ lw_all := lw_g (lw_at lw_ms 15 rfl) rfl
theorem qs16 : (Cond.selects "ZoneLookupModel" ⟨"ZoneLookupModel", "lookUp", "(I)I"⟩ ⟨"ZoneLookupModel", "lookUp", "(I)I"⟩) ∈ lw_all := lw_g (lw_at lw_ms 16 rfl) rfl
theorem qs17 : (Cond.selects "ZoneLookupModel" ⟨"ZoneLookupModel", "handed", "(I)I"⟩ ⟨"ZoneLookupModel", "handed", "(I)I"⟩) ∈ lw_all := lw_g (lw_at lw_ms 17 rfl) rfl
theorem qs18 : (Cond.selects "ZoneLookupModel" ⟨"ZoneLookupModel", "answering", "(I)I"⟩ ⟨"ZoneLookupModel", "answering", "(I)I"⟩) ∈ lw_all := lw_g (lw_at lw_ms 18 rfl) rfl
theorem qs19 : (Cond.selects "ZoneLookupModel" ⟨"ZoneLookupModel", "valueOf", "(III)I"⟩ ⟨"ZoneLookupModel", "valueOf", "(III)I"⟩) ∈ lw_all := lw_g (lw_at lw_ms 19 rfl) rfl
end
section
set_option maxRecDepth 100000
/-! ZoneLookup -/
def RX0 : String := "ZoneLookup"
def TX0 : u_T := fun k => match k with
  | 0 => ("ZoneLookup", "keyLength", "I", false)
  | 1 => ("ZoneLookup", "key", "[I", true)
  | 2 => ("ZoneLookup", "child", "[I", true)
  | 3 => ("ZoneLookup", "numberOf", "[I", true)
  | 4 => ("ZoneLookup", "below", "[I", true)
  | 5 => ("ZoneLookup", "held", "I", false)
  | 6 => ("ZoneLookup", "entryNode", "[I", true)
  | 7 => ("ZoneLookup", "entrySort", "[I", true)
  | 8 => ("ZoneLookup", "entryValue", "[I", true)
  | 9 => ("ZoneLookup", "answer", "I", false)
  | 10 => ("ZoneLookup", "answerPlace", "I", false)
  | 11 => ("ZoneLookup", "answerNode", "I", false)
  | 12 => ("ZoneLookup", "answerRounds", "I", false)
  | 13 => ("ZoneLookup", "askedLength", "I", false)
  | _ => ("ZoneLookup", "asked", "[I", true)
def tyX0 : Nat → FieldType := fun k => match k with
  | 0 => .int
  | 1 => .array .int
  | 2 => .array .int
  | 3 => .array .int
  | 4 => .array .int
  | 5 => .int
  | 6 => .array .int
  | 7 => .array .int
  | 8 => .array .int
  | 9 => .int
  | 10 => .int
  | 11 => .int
  | 12 => .int
  | 13 => .int
  | _ => .array .int
abbrev wsX00 : List Cond := u_ws RX0 TX0 15
set_option maxRecDepth 100000 in
theorem nmX0 : ∀ a, a < 15 → ∀ b, b < 15 → a ≠ b → (TX0 a).2.1 ≠ (TX0 b).2.1 := by decide +kernel
set_option maxRecDepth 100000 in
theorem tyX0_ok : ∀ k, k < 15 → parseFieldDescriptor (TX0 k).2.2.1 = some (tyX0 k) := by decide +kernel
abbrev cX0_init : ByteArray := prog_1_method_1_code
def yX0_init : MethodName := ⟨RX0, "<init>", "()V"⟩
theorem dX0_init_0 : decode cX0_init 0 = .ok (.aload_n 0, 1) := by decide +kernel
theorem dX0_init_1 : decode cX0_init 1 = .ok (.invokespecial 1, 3) := by decide +kernel
theorem dX0_init_4 : decode cX0_init 4 = .ok (.aload_n 0, 1) := by decide +kernel
theorem dX0_init_5 : decode cX0_init 5 = .ok (.iconst 4, 1) := by decide +kernel
theorem dX0_init_6 : decode cX0_init 6 = .ok (.newarray .int, 2) := by decide +kernel
theorem dX0_init_8 : decode cX0_init 8 = .ok (.putfield 7, 3) := by decide +kernel
theorem dX0_init_11 : decode cX0_init 11 = .ok (.aload_n 0, 1) := by decide +kernel
theorem dX0_init_12 : decode cX0_init 12 = .ok (.sipush 800, 3) := by decide +kernel
theorem dX0_init_15 : decode cX0_init 15 = .ok (.newarray .int, 2) := by decide +kernel
theorem dX0_init_17 : decode cX0_init 17 = .ok (.putfield 13, 3) := by decide +kernel
theorem dX0_init_20 : decode cX0_init 20 = .ok (.aload_n 0, 1) := by decide +kernel
theorem dX0_init_21 : decode cX0_init 21 = .ok (.bipush 100, 2) := by decide +kernel
theorem dX0_init_23 : decode cX0_init 23 = .ok (.newarray .int, 2) := by decide +kernel
theorem dX0_init_25 : decode cX0_init 25 = .ok (.putfield 16, 3) := by decide +kernel
theorem dX0_init_28 : decode cX0_init 28 = .ok (.aload_n 0, 1) := by decide +kernel
theorem dX0_init_29 : decode cX0_init 29 = .ok (.bipush 100, 2) := by decide +kernel
theorem dX0_init_31 : decode cX0_init 31 = .ok (.newarray .int, 2) := by decide +kernel
theorem dX0_init_33 : decode cX0_init 33 = .ok (.putfield 19, 3) := by decide +kernel
theorem dX0_init_36 : decode cX0_init 36 = .ok (.aload_n 0, 1) := by decide +kernel
theorem dX0_init_37 : decode cX0_init 37 = .ok (.bipush 24, 2) := by decide +kernel
theorem dX0_init_39 : decode cX0_init 39 = .ok (.newarray .int, 2) := by decide +kernel
theorem dX0_init_41 : decode cX0_init 41 = .ok (.putfield 22, 3) := by decide +kernel
theorem dX0_init_44 : decode cX0_init 44 = .ok (.aload_n 0, 1) := by decide +kernel
theorem dX0_init_45 : decode cX0_init 45 = .ok (.bipush 24, 2) := by decide +kernel
theorem dX0_init_47 : decode cX0_init 47 = .ok (.newarray .int, 2) := by decide +kernel
theorem dX0_init_49 : decode cX0_init 49 = .ok (.putfield 25, 3) := by decide +kernel
theorem dX0_init_52 : decode cX0_init 52 = .ok (.aload_n 0, 1) := by decide +kernel
theorem dX0_init_53 : decode cX0_init 53 = .ok (.bipush 24, 2) := by decide +kernel
theorem dX0_init_55 : decode cX0_init 55 = .ok (.newarray .int, 2) := by decide +kernel
theorem dX0_init_57 : decode cX0_init 57 = .ok (.putfield 28, 3) := by decide +kernel
theorem dX0_init_60 : decode cX0_init 60 = .ok (.aload_n 0, 1) := by decide +kernel
theorem dX0_init_61 : decode cX0_init 61 = .ok (.iconst 4, 1) := by decide +kernel
theorem dX0_init_62 : decode cX0_init 62 = .ok (.newarray .int, 2) := by decide +kernel
theorem dX0_init_64 : decode cX0_init 64 = .ok (.putfield 31, 3) := by decide +kernel
theorem dX0_init_67 : decode cX0_init 67 = .ok (.return_, 1) := by decide +kernel
abbrev cX0_label : ByteArray := prog_1_method_2_code
def yX0_label : MethodName := ⟨RX0, "label", "(I)I"⟩
theorem dX0_label_0 : decode cX0_label 0 = .ok (.aload_n 0, 1) := by decide +kernel
theorem dX0_label_1 : decode cX0_label 1 = .ok (.getfield 34, 3) := by decide +kernel
theorem dX0_label_4 : decode cX0_label 4 = .ok (.iconst 4, 1) := by decide +kernel
theorem dX0_label_5 : decode cX0_label 5 = .ok (.if_icmp .lt 5, 3) := by decide +kernel
theorem dX0_label_8 : decode cX0_label 8 = .ok (.iconst (-1), 1) := by decide +kernel
theorem dX0_label_9 : decode cX0_label 9 = .ok (.ireturn, 1) := by decide +kernel
theorem dX0_label_10 : decode cX0_label 10 = .ok (.aload_n 0, 1) := by decide +kernel
theorem dX0_label_11 : decode cX0_label 11 = .ok (.getfield 7, 3) := by decide +kernel
theorem dX0_label_14 : decode cX0_label 14 = .ok (.aload_n 0, 1) := by decide +kernel
theorem dX0_label_15 : decode cX0_label 15 = .ok (.getfield 34, 3) := by decide +kernel
theorem dX0_label_18 : decode cX0_label 18 = .ok (.iload_n 1, 1) := by decide +kernel
theorem dX0_label_19 : decode cX0_label 19 = .ok (.bipush 7, 2) := by decide +kernel
theorem dX0_label_21 : decode cX0_label 21 = .ok (.iand, 1) := by decide +kernel
theorem dX0_label_22 : decode cX0_label 22 = .ok (.iastore, 1) := by decide +kernel
theorem dX0_label_23 : decode cX0_label 23 = .ok (.aload_n 0, 1) := by decide +kernel
theorem dX0_label_24 : decode cX0_label 24 = .ok (.dup, 1) := by decide +kernel
theorem dX0_label_25 : decode cX0_label 25 = .ok (.getfield 34, 3) := by decide +kernel
theorem dX0_label_28 : decode cX0_label 28 = .ok (.iconst 1, 1) := by decide +kernel
theorem dX0_label_29 : decode cX0_label 29 = .ok (.iadd, 1) := by decide +kernel
theorem dX0_label_30 : decode cX0_label 30 = .ok (.putfield 34, 3) := by decide +kernel
theorem dX0_label_33 : decode cX0_label 33 = .ok (.aload_n 0, 1) := by decide +kernel
theorem dX0_label_34 : decode cX0_label 34 = .ok (.getfield 34, 3) := by decide +kernel
theorem dX0_label_37 : decode cX0_label 37 = .ok (.ireturn, 1) := by decide +kernel
abbrev cX0_back : ByteArray := prog_1_method_3_code
def yX0_back : MethodName := ⟨RX0, "back", "()I"⟩
theorem dX0_back_0 : decode cX0_back 0 = .ok (.aload_n 0, 1) := by decide +kernel
theorem dX0_back_1 : decode cX0_back 1 = .ok (.getfield 34, 3) := by decide +kernel
theorem dX0_back_4 : decode cX0_back 4 = .ok (.ifCond .ne 5, 3) := by decide +kernel
theorem dX0_back_7 : decode cX0_back 7 = .ok (.iconst (-1), 1) := by decide +kernel
theorem dX0_back_8 : decode cX0_back 8 = .ok (.ireturn, 1) := by decide +kernel
theorem dX0_back_9 : decode cX0_back 9 = .ok (.aload_n 0, 1) := by decide +kernel
theorem dX0_back_10 : decode cX0_back 10 = .ok (.dup, 1) := by decide +kernel
theorem dX0_back_11 : decode cX0_back 11 = .ok (.getfield 34, 3) := by decide +kernel
theorem dX0_back_14 : decode cX0_back 14 = .ok (.iconst 1, 1) := by decide +kernel
theorem dX0_back_15 : decode cX0_back 15 = .ok (.isub, 1) := by decide +kernel
theorem dX0_back_16 : decode cX0_back 16 = .ok (.putfield 34, 3) := by decide +kernel
theorem dX0_back_19 : decode cX0_back 19 = .ok (.aload_n 0, 1) := by decide +kernel
theorem dX0_back_20 : decode cX0_back 20 = .ok (.getfield 7, 3) := by decide +kernel
theorem dX0_back_23 : decode cX0_back 23 = .ok (.aload_n 0, 1) := by decide +kernel
theorem dX0_back_24 : decode cX0_back 24 = .ok (.getfield 34, 3) := by decide +kernel
theorem dX0_back_27 : decode cX0_back 27 = .ok (.iaload, 1) := by decide +kernel
theorem dX0_back_28 : decode cX0_back 28 = .ok (.ireturn, 1) := by decide +kernel
abbrev cX0_erase : ByteArray := prog_1_method_4_code
def yX0_erase : MethodName := ⟨RX0, "erase", "()V"⟩
theorem dX0_erase_0 : decode cX0_erase 0 = .ok (.aload_n 0, 1) := by decide +kernel
theorem dX0_erase_1 : decode cX0_erase 1 = .ok (.iconst 0, 1) := by decide +kernel
theorem dX0_erase_2 : decode cX0_erase 2 = .ok (.putfield 34, 3) := by decide +kernel
theorem dX0_erase_5 : decode cX0_erase 5 = .ok (.return_, 1) := by decide +kernel
abbrev cX0_number : ByteArray := prog_1_method_5_code
def yX0_number : MethodName := ⟨RX0, "number", "()I"⟩
theorem dX0_number_0 : decode cX0_number 0 = .ok (.iconst 0, 1) := by decide +kernel
theorem dX0_number_1 : decode cX0_number 1 = .ok (.istore_n 1, 1) := by decide +kernel
theorem dX0_number_2 : decode cX0_number 2 = .ok (.iconst 0, 1) := by decide +kernel
theorem dX0_number_3 : decode cX0_number 3 = .ok (.istore_n 2, 1) := by decide +kernel
theorem dX0_number_4 : decode cX0_number 4 = .ok (.iload_n 2, 1) := by decide +kernel
theorem dX0_number_5 : decode cX0_number 5 = .ok (.aload_n 0, 1) := by decide +kernel
theorem dX0_number_6 : decode cX0_number 6 = .ok (.getfield 34, 3) := by decide +kernel
theorem dX0_number_9 : decode cX0_number 9 = .ok (.if_icmp .ge 23, 3) := by decide +kernel
theorem dX0_number_12 : decode cX0_number 12 = .ok (.bipush 9, 2) := by decide +kernel
theorem dX0_number_14 : decode cX0_number 14 = .ok (.iload_n 1, 1) := by decide +kernel
theorem dX0_number_15 : decode cX0_number 15 = .ok (.imul, 1) := by decide +kernel
theorem dX0_number_16 : decode cX0_number 16 = .ok (.aload_n 0, 1) := by decide +kernel
theorem dX0_number_17 : decode cX0_number 17 = .ok (.getfield 7, 3) := by decide +kernel
theorem dX0_number_20 : decode cX0_number 20 = .ok (.iload_n 2, 1) := by decide +kernel
theorem dX0_number_21 : decode cX0_number 21 = .ok (.iaload, 1) := by decide +kernel
theorem dX0_number_22 : decode cX0_number 22 = .ok (.iadd, 1) := by decide +kernel
theorem dX0_number_23 : decode cX0_number 23 = .ok (.iconst 1, 1) := by decide +kernel
theorem dX0_number_24 : decode cX0_number 24 = .ok (.iadd, 1) := by decide +kernel
theorem dX0_number_25 : decode cX0_number 25 = .ok (.istore_n 1, 1) := by decide +kernel
theorem dX0_number_26 : decode cX0_number 26 = .ok (.iinc 2 1, 3) := by decide +kernel
theorem dX0_number_29 : decode cX0_number 29 = .ok (.goto (-25), 3) := by decide +kernel
theorem dX0_number_32 : decode cX0_number 32 = .ok (.iload_n 1, 1) := by decide +kernel
theorem dX0_number_33 : decode cX0_number 33 = .ok (.ireturn, 1) := by decide +kernel
abbrev cX0_add : ByteArray := prog_1_method_6_code
def yX0_add : MethodName := ⟨RX0, "add", "(II)I"⟩
theorem dX0_add_0 : decode cX0_add 0 = .ok (.iload_n 1, 1) := by decide +kernel
theorem dX0_add_1 : decode cX0_add 1 = .ok (.iconst 1, 1) := by decide +kernel
theorem dX0_add_2 : decode cX0_add 2 = .ok (.if_icmp .lt 29, 3) := by decide +kernel
theorem dX0_add_5 : decode cX0_add 5 = .ok (.iload_n 1, 1) := by decide +kernel
theorem dX0_add_6 : decode cX0_add 6 = .ok (.iconst 4, 1) := by decide +kernel
theorem dX0_add_7 : decode cX0_add 7 = .ok (.if_icmp .gt 24, 3) := by decide +kernel
theorem dX0_add_10 : decode cX0_add 10 = .ok (.aload_n 0, 1) := by decide +kernel
theorem dX0_add_11 : decode cX0_add 11 = .ok (.getfield 38, 3) := by decide +kernel
theorem dX0_add_14 : decode cX0_add 14 = .ok (.bipush 24, 2) := by decide +kernel
theorem dX0_add_16 : decode cX0_add 16 = .ok (.if_icmp .ge 15, 3) := by decide +kernel
theorem dX0_add_19 : decode cX0_add 19 = .ok (.iload_n 1, 1) := by decide +kernel
theorem dX0_add_20 : decode cX0_add 20 = .ok (.iconst 3, 1) := by decide +kernel
theorem dX0_add_21 : decode cX0_add 21 = .ok (.if_icmp .ne 12, 3) := by decide +kernel
theorem dX0_add_24 : decode cX0_add 24 = .ok (.iload_n 2, 1) := by decide +kernel
theorem dX0_add_25 : decode cX0_add 25 = .ok (.invokestatic 41, 3) := by decide +kernel
theorem dX0_add_28 : decode cX0_add 28 = .ok (.ifCond .ne 5, 3) := by decide +kernel
theorem dX0_add_31 : decode cX0_add 31 = .ok (.iconst (-1), 1) := by decide +kernel
theorem dX0_add_32 : decode cX0_add 32 = .ok (.ireturn, 1) := by decide +kernel
theorem dX0_add_33 : decode cX0_add 33 = .ok (.aload_n 0, 1) := by decide +kernel
theorem dX0_add_34 : decode cX0_add 34 = .ok (.invokevirtual 45, 3) := by decide +kernel
theorem dX0_add_37 : decode cX0_add 37 = .ok (.istore_n 3, 1) := by decide +kernel
theorem dX0_add_38 : decode cX0_add 38 = .ok (.iload_n 1, 1) := by decide +kernel
theorem dX0_add_39 : decode cX0_add 39 = .ok (.iconst 3, 1) := by decide +kernel
theorem dX0_add_40 : decode cX0_add 40 = .ok (.if_icmp .eq 8, 3) := by decide +kernel
theorem dX0_add_43 : decode cX0_add 43 = .ok (.iload_n 1, 1) := by decide +kernel
theorem dX0_add_44 : decode cX0_add 44 = .ok (.iconst 4, 1) := by decide +kernel
theorem dX0_add_45 : decode cX0_add 45 = .ok (.if_icmp .ne 7, 3) := by decide +kernel
theorem dX0_add_48 : decode cX0_add 48 = .ok (.iconst 1, 1) := by decide +kernel
theorem dX0_add_49 : decode cX0_add 49 = .ok (.goto 4, 3) := by decide +kernel
theorem dX0_add_52 : decode cX0_add 52 = .ok (.iconst 3, 1) := by decide +kernel
theorem dX0_add_53 : decode cX0_add 53 = .ok (.istore 4, 2) := by decide +kernel
theorem dX0_add_55 : decode cX0_add 55 = .ok (.iload_n 3, 1) := by decide +kernel
theorem dX0_add_56 : decode cX0_add 56 = .ok (.ifCond .lt 26, 3) := by decide +kernel
theorem dX0_add_59 : decode cX0_add 59 = .ok (.aload_n 0, 1) := by decide +kernel
theorem dX0_add_60 : decode cX0_add 60 = .ok (.iload_n 3, 1) := by decide +kernel
theorem dX0_add_61 : decode cX0_add 61 = .ok (.iload_n 1, 1) := by decide +kernel
theorem dX0_add_62 : decode cX0_add 62 = .ok (.invokevirtual 49, 3) := by decide +kernel
theorem dX0_add_65 : decode cX0_add 65 = .ok (.iload 4, 2) := by decide +kernel
theorem dX0_add_67 : decode cX0_add 67 = .ok (.if_icmp .ge 13, 3) := by decide +kernel
theorem dX0_add_70 : decode cX0_add 70 = .ok (.aload_n 0, 1) := by decide +kernel
theorem dX0_add_71 : decode cX0_add 71 = .ok (.iload_n 3, 1) := by decide +kernel
theorem dX0_add_72 : decode cX0_add 72 = .ok (.iload_n 1, 1) := by decide +kernel
theorem dX0_add_73 : decode cX0_add 73 = .ok (.iload_n 2, 1) := by decide +kernel
theorem dX0_add_74 : decode cX0_add 74 = .ok (.invokevirtual 53, 3) := by decide +kernel
theorem dX0_add_77 : decode cX0_add 77 = .ok (.ifCond .lt 5, 3) := by decide +kernel
theorem dX0_add_80 : decode cX0_add 80 = .ok (.iconst (-1), 1) := by decide +kernel
theorem dX0_add_81 : decode cX0_add 81 = .ok (.ireturn, 1) := by decide +kernel
theorem dX0_add_82 : decode cX0_add 82 = .ok (.aload_n 0, 1) := by decide +kernel
theorem dX0_add_83 : decode cX0_add 83 = .ok (.getfield 22, 3) := by decide +kernel
theorem dX0_add_86 : decode cX0_add 86 = .ok (.aload_n 0, 1) := by decide +kernel
theorem dX0_add_87 : decode cX0_add 87 = .ok (.getfield 38, 3) := by decide +kernel
theorem dX0_add_90 : decode cX0_add 90 = .ok (.aload_n 0, 1) := by decide +kernel
theorem dX0_add_91 : decode cX0_add 91 = .ok (.invokevirtual 57, 3) := by decide +kernel
theorem dX0_add_94 : decode cX0_add 94 = .ok (.iastore, 1) := by decide +kernel
theorem dX0_add_95 : decode cX0_add 95 = .ok (.aload_n 0, 1) := by decide +kernel
theorem dX0_add_96 : decode cX0_add 96 = .ok (.getfield 25, 3) := by decide +kernel
theorem dX0_add_99 : decode cX0_add 99 = .ok (.aload_n 0, 1) := by decide +kernel
theorem dX0_add_100 : decode cX0_add 100 = .ok (.getfield 38, 3) := by decide +kernel
theorem dX0_add_103 : decode cX0_add 103 = .ok (.iload_n 1, 1) := by decide +kernel
theorem dX0_add_104 : decode cX0_add 104 = .ok (.iastore, 1) := by decide +kernel
theorem dX0_add_105 : decode cX0_add 105 = .ok (.aload_n 0, 1) := by decide +kernel
theorem dX0_add_106 : decode cX0_add 106 = .ok (.getfield 28, 3) := by decide +kernel
theorem dX0_add_109 : decode cX0_add 109 = .ok (.aload_n 0, 1) := by decide +kernel
theorem dX0_add_110 : decode cX0_add 110 = .ok (.getfield 38, 3) := by decide +kernel
theorem dX0_add_113 : decode cX0_add 113 = .ok (.iload_n 2, 1) := by decide +kernel
theorem dX0_add_114 : decode cX0_add 114 = .ok (.iastore, 1) := by decide +kernel
theorem dX0_add_115 : decode cX0_add 115 = .ok (.aload_n 0, 1) := by decide +kernel
theorem dX0_add_116 : decode cX0_add 116 = .ok (.dup, 1) := by decide +kernel
theorem dX0_add_117 : decode cX0_add 117 = .ok (.getfield 38, 3) := by decide +kernel
theorem dX0_add_120 : decode cX0_add 120 = .ok (.iconst 1, 1) := by decide +kernel
theorem dX0_add_121 : decode cX0_add 121 = .ok (.iadd, 1) := by decide +kernel
theorem dX0_add_122 : decode cX0_add 122 = .ok (.putfield 38, 3) := by decide +kernel
theorem dX0_add_125 : decode cX0_add 125 = .ok (.aload_n 0, 1) := by decide +kernel
theorem dX0_add_126 : decode cX0_add 126 = .ok (.getfield 38, 3) := by decide +kernel
theorem dX0_add_129 : decode cX0_add 129 = .ok (.ireturn, 1) := by decide +kernel
abbrev cX0_isNumber : ByteArray := prog_1_method_13_code
def yX0_isNumber : MethodName := ⟨RX0, "isNumber", "(I)Z"⟩
theorem dX0_isNumber_0 : decode cX0_isNumber 0 = .ok (.iload_n 0, 1) := by decide +kernel
theorem dX0_isNumber_1 : decode cX0_isNumber 1 = .ok (.ifCond .lt 10, 3) := by decide +kernel
theorem dX0_isNumber_4 : decode cX0_isNumber 4 = .ok (.iload_n 0, 1) := by decide +kernel
theorem dX0_isNumber_5 : decode cX0_isNumber 5 = .ok (.sipush 6560, 3) := by decide +kernel
theorem dX0_isNumber_8 : decode cX0_isNumber 8 = .ok (.if_icmp .le 5, 3) := by decide +kernel
theorem dX0_isNumber_11 : decode cX0_isNumber 11 = .ok (.iconst 0, 1) := by decide +kernel
theorem dX0_isNumber_12 : decode cX0_isNumber 12 = .ok (.ireturn, 1) := by decide +kernel
theorem dX0_isNumber_13 : decode cX0_isNumber 13 = .ok (.iload_n 0, 1) := by decide +kernel
theorem dX0_isNumber_14 : decode cX0_isNumber 14 = .ok (.istore_n 1, 1) := by decide +kernel
theorem dX0_isNumber_15 : decode cX0_isNumber 15 = .ok (.iconst 0, 1) := by decide +kernel
theorem dX0_isNumber_16 : decode cX0_isNumber 16 = .ok (.istore_n 2, 1) := by decide +kernel
theorem dX0_isNumber_17 : decode cX0_isNumber 17 = .ok (.iload_n 2, 1) := by decide +kernel
theorem dX0_isNumber_18 : decode cX0_isNumber 18 = .ok (.iconst 4, 1) := by decide +kernel
theorem dX0_isNumber_19 : decode cX0_isNumber 19 = .ok (.if_icmp .ge 27, 3) := by decide +kernel
theorem dX0_isNumber_22 : decode cX0_isNumber 22 = .ok (.iload_n 1, 1) := by decide +kernel
theorem dX0_isNumber_23 : decode cX0_isNumber 23 = .ok (.ifCond .le 12, 3) := by decide +kernel
theorem dX0_isNumber_26 : decode cX0_isNumber 26 = .ok (.iload_n 1, 1) := by decide +kernel
theorem dX0_isNumber_27 : decode cX0_isNumber 27 = .ok (.bipush 9, 2) := by decide +kernel
theorem dX0_isNumber_29 : decode cX0_isNumber 29 = .ok (.irem, 1) := by decide +kernel
theorem dX0_isNumber_30 : decode cX0_isNumber 30 = .ok (.ifCond .ne 5, 3) := by decide +kernel
theorem dX0_isNumber_33 : decode cX0_isNumber 33 = .ok (.iconst 0, 1) := by decide +kernel
theorem dX0_isNumber_34 : decode cX0_isNumber 34 = .ok (.ireturn, 1) := by decide +kernel
theorem dX0_isNumber_35 : decode cX0_isNumber 35 = .ok (.iload_n 1, 1) := by decide +kernel
theorem dX0_isNumber_36 : decode cX0_isNumber 36 = .ok (.bipush 9, 2) := by decide +kernel
theorem dX0_isNumber_38 : decode cX0_isNumber 38 = .ok (.idiv, 1) := by decide +kernel
theorem dX0_isNumber_39 : decode cX0_isNumber 39 = .ok (.istore_n 1, 1) := by decide +kernel
theorem dX0_isNumber_40 : decode cX0_isNumber 40 = .ok (.iinc 2 1, 3) := by decide +kernel
theorem dX0_isNumber_43 : decode cX0_isNumber 43 = .ok (.goto (-26), 3) := by decide +kernel
theorem dX0_isNumber_46 : decode cX0_isNumber 46 = .ok (.iconst 1, 1) := by decide +kernel
theorem dX0_isNumber_47 : decode cX0_isNumber 47 = .ok (.ireturn, 1) := by decide +kernel
abbrev cX0_findNode : ByteArray := prog_1_method_15_code
def yX0_findNode : MethodName := ⟨RX0, "findNode", "()I"⟩
theorem dX0_findNode_0 : decode cX0_findNode 0 = .ok (.iconst 0, 1) := by decide +kernel
theorem dX0_findNode_1 : decode cX0_findNode 1 = .ok (.istore_n 1, 1) := by decide +kernel
theorem dX0_findNode_2 : decode cX0_findNode 2 = .ok (.iconst 0, 1) := by decide +kernel
theorem dX0_findNode_3 : decode cX0_findNode 3 = .ok (.istore_n 2, 1) := by decide +kernel
theorem dX0_findNode_4 : decode cX0_findNode 4 = .ok (.iload_n 2, 1) := by decide +kernel
theorem dX0_findNode_5 : decode cX0_findNode 5 = .ok (.aload_n 0, 1) := by decide +kernel
theorem dX0_findNode_6 : decode cX0_findNode 6 = .ok (.getfield 34, 3) := by decide +kernel
theorem dX0_findNode_9 : decode cX0_findNode 9 = .ok (.if_icmp .ge 32, 3) := by decide +kernel
theorem dX0_findNode_12 : decode cX0_findNode 12 = .ok (.aload_n 0, 1) := by decide +kernel
theorem dX0_findNode_13 : decode cX0_findNode 13 = .ok (.getfield 13, 3) := by decide +kernel
theorem dX0_findNode_16 : decode cX0_findNode 16 = .ok (.bipush 8, 2) := by decide +kernel
theorem dX0_findNode_18 : decode cX0_findNode 18 = .ok (.iload_n 1, 1) := by decide +kernel
theorem dX0_findNode_19 : decode cX0_findNode 19 = .ok (.imul, 1) := by decide +kernel
theorem dX0_findNode_20 : decode cX0_findNode 20 = .ok (.aload_n 0, 1) := by decide +kernel
theorem dX0_findNode_21 : decode cX0_findNode 21 = .ok (.getfield 7, 3) := by decide +kernel
theorem dX0_findNode_24 : decode cX0_findNode 24 = .ok (.iload_n 2, 1) := by decide +kernel
theorem dX0_findNode_25 : decode cX0_findNode 25 = .ok (.iaload, 1) := by decide +kernel
theorem dX0_findNode_26 : decode cX0_findNode 26 = .ok (.iadd, 1) := by decide +kernel
theorem dX0_findNode_27 : decode cX0_findNode 27 = .ok (.iaload, 1) := by decide +kernel
theorem dX0_findNode_28 : decode cX0_findNode 28 = .ok (.istore_n 1, 1) := by decide +kernel
theorem dX0_findNode_29 : decode cX0_findNode 29 = .ok (.iload_n 1, 1) := by decide +kernel
theorem dX0_findNode_30 : decode cX0_findNode 30 = .ok (.ifCond .ne 5, 3) := by decide +kernel
theorem dX0_findNode_33 : decode cX0_findNode 33 = .ok (.iconst (-1), 1) := by decide +kernel
theorem dX0_findNode_34 : decode cX0_findNode 34 = .ok (.ireturn, 1) := by decide +kernel
theorem dX0_findNode_35 : decode cX0_findNode 35 = .ok (.iinc 2 1, 3) := by decide +kernel
theorem dX0_findNode_38 : decode cX0_findNode 38 = .ok (.goto (-34), 3) := by decide +kernel
theorem dX0_findNode_41 : decode cX0_findNode 41 = .ok (.iload_n 1, 1) := by decide +kernel
theorem dX0_findNode_42 : decode cX0_findNode 42 = .ok (.ireturn, 1) := by decide +kernel
abbrev cX0_count : ByteArray := prog_1_method_19_code
def yX0_count : MethodName := ⟨RX0, "count", "(II)I"⟩
theorem dX0_count_0 : decode cX0_count 0 = .ok (.iconst 0, 1) := by decide +kernel
theorem dX0_count_1 : decode cX0_count 1 = .ok (.istore_n 3, 1) := by decide +kernel
theorem dX0_count_2 : decode cX0_count 2 = .ok (.iconst 0, 1) := by decide +kernel
theorem dX0_count_3 : decode cX0_count 3 = .ok (.istore 4, 2) := by decide +kernel
theorem dX0_count_5 : decode cX0_count 5 = .ok (.iload 4, 2) := by decide +kernel
theorem dX0_count_7 : decode cX0_count 7 = .ok (.aload_n 0, 1) := by decide +kernel
theorem dX0_count_8 : decode cX0_count 8 = .ok (.getfield 38, 3) := by decide +kernel
theorem dX0_count_11 : decode cX0_count 11 = .ok (.if_icmp .ge 39, 3) := by decide +kernel
theorem dX0_count_14 : decode cX0_count 14 = .ok (.iload_n 3, 1) := by decide +kernel
theorem dX0_count_15 : decode cX0_count 15 = .ok (.aload_n 0, 1) := by decide +kernel
theorem dX0_count_16 : decode cX0_count 16 = .ok (.getfield 22, 3) := by decide +kernel
theorem dX0_count_19 : decode cX0_count 19 = .ok (.iload 4, 2) := by decide +kernel
theorem dX0_count_21 : decode cX0_count 21 = .ok (.iaload, 1) := by decide +kernel
theorem dX0_count_22 : decode cX0_count 22 = .ok (.iload_n 1, 1) := by decide +kernel
theorem dX0_count_23 : decode cX0_count 23 = .ok (.if_icmp .ne 18, 3) := by decide +kernel
theorem dX0_count_26 : decode cX0_count 26 = .ok (.aload_n 0, 1) := by decide +kernel
theorem dX0_count_27 : decode cX0_count 27 = .ok (.getfield 25, 3) := by decide +kernel
theorem dX0_count_30 : decode cX0_count 30 = .ok (.iload 4, 2) := by decide +kernel
theorem dX0_count_32 : decode cX0_count 32 = .ok (.iaload, 1) := by decide +kernel
theorem dX0_count_33 : decode cX0_count 33 = .ok (.iload_n 2, 1) := by decide +kernel
theorem dX0_count_34 : decode cX0_count 34 = .ok (.if_icmp .ne 7, 3) := by decide +kernel
theorem dX0_count_37 : decode cX0_count 37 = .ok (.iconst 1, 1) := by decide +kernel
theorem dX0_count_38 : decode cX0_count 38 = .ok (.goto 4, 3) := by decide +kernel
theorem dX0_count_41 : decode cX0_count 41 = .ok (.iconst 0, 1) := by decide +kernel
theorem dX0_count_42 : decode cX0_count 42 = .ok (.iadd, 1) := by decide +kernel
theorem dX0_count_43 : decode cX0_count 43 = .ok (.istore_n 3, 1) := by decide +kernel
theorem dX0_count_44 : decode cX0_count 44 = .ok (.iinc 4 1, 3) := by decide +kernel
theorem dX0_count_47 : decode cX0_count 47 = .ok (.goto (-42), 3) := by decide +kernel
theorem dX0_count_50 : decode cX0_count 50 = .ok (.iload_n 3, 1) := by decide +kernel
theorem dX0_count_51 : decode cX0_count 51 = .ok (.ireturn, 1) := by decide +kernel
abbrev cX0_entryAt : ByteArray := prog_1_method_20_code
def yX0_entryAt : MethodName := ⟨RX0, "entryAt", "(III)I"⟩
theorem dX0_entryAt_0 : decode cX0_entryAt 0 = .ok (.iconst 0, 1) := by decide +kernel
theorem dX0_entryAt_1 : decode cX0_entryAt 1 = .ok (.istore 4, 2) := by decide +kernel
theorem dX0_entryAt_3 : decode cX0_entryAt 3 = .ok (.iload 4, 2) := by decide +kernel
theorem dX0_entryAt_5 : decode cX0_entryAt 5 = .ok (.aload_n 0, 1) := by decide +kernel
theorem dX0_entryAt_6 : decode cX0_entryAt 6 = .ok (.getfield 38, 3) := by decide +kernel
theorem dX0_entryAt_9 : decode cX0_entryAt 9 = .ok (.if_icmp .ge 45, 3) := by decide +kernel
theorem dX0_entryAt_12 : decode cX0_entryAt 12 = .ok (.aload_n 0, 1) := by decide +kernel
theorem dX0_entryAt_13 : decode cX0_entryAt 13 = .ok (.getfield 22, 3) := by decide +kernel
theorem dX0_entryAt_16 : decode cX0_entryAt 16 = .ok (.iload 4, 2) := by decide +kernel
theorem dX0_entryAt_18 : decode cX0_entryAt 18 = .ok (.iaload, 1) := by decide +kernel
theorem dX0_entryAt_19 : decode cX0_entryAt 19 = .ok (.iload_n 1, 1) := by decide +kernel
theorem dX0_entryAt_20 : decode cX0_entryAt 20 = .ok (.if_icmp .ne 28, 3) := by decide +kernel
theorem dX0_entryAt_23 : decode cX0_entryAt 23 = .ok (.aload_n 0, 1) := by decide +kernel
theorem dX0_entryAt_24 : decode cX0_entryAt 24 = .ok (.getfield 25, 3) := by decide +kernel
theorem dX0_entryAt_27 : decode cX0_entryAt 27 = .ok (.iload 4, 2) := by decide +kernel
theorem dX0_entryAt_29 : decode cX0_entryAt 29 = .ok (.iaload, 1) := by decide +kernel
theorem dX0_entryAt_30 : decode cX0_entryAt 30 = .ok (.iload_n 2, 1) := by decide +kernel
theorem dX0_entryAt_31 : decode cX0_entryAt 31 = .ok (.if_icmp .ne 17, 3) := by decide +kernel
theorem dX0_entryAt_34 : decode cX0_entryAt 34 = .ok (.aload_n 0, 1) := by decide +kernel
theorem dX0_entryAt_35 : decode cX0_entryAt 35 = .ok (.getfield 28, 3) := by decide +kernel
theorem dX0_entryAt_38 : decode cX0_entryAt 38 = .ok (.iload 4, 2) := by decide +kernel
theorem dX0_entryAt_40 : decode cX0_entryAt 40 = .ok (.iaload, 1) := by decide +kernel
theorem dX0_entryAt_41 : decode cX0_entryAt 41 = .ok (.iload_n 3, 1) := by decide +kernel
theorem dX0_entryAt_42 : decode cX0_entryAt 42 = .ok (.if_icmp .ne 6, 3) := by decide +kernel
theorem dX0_entryAt_45 : decode cX0_entryAt 45 = .ok (.iload 4, 2) := by decide +kernel
theorem dX0_entryAt_47 : decode cX0_entryAt 47 = .ok (.ireturn, 1) := by decide +kernel
theorem dX0_entryAt_48 : decode cX0_entryAt 48 = .ok (.iinc 4 1, 3) := by decide +kernel
theorem dX0_entryAt_51 : decode cX0_entryAt 51 = .ok (.goto (-48), 3) := by decide +kernel
theorem dX0_entryAt_54 : decode cX0_entryAt 54 = .ok (.iconst (-1), 1) := by decide +kernel
theorem dX0_entryAt_55 : decode cX0_entryAt 55 = .ok (.ireturn, 1) := by decide +kernel
end
section
set_option maxRecDepth 100000
abbrev cX0_growNode : ByteArray := prog_1_method_16_code
def yX0_growNode : MethodName := ⟨RX0, "growNode", "()I"⟩
theorem dX0_growNode_0 : decode cX0_growNode 0 = .ok (.iconst 0, 1) := by decide +kernel
theorem dX0_growNode_1 : decode cX0_growNode 1 = .ok (.istore_n 1, 1) := by decide +kernel
theorem dX0_growNode_2 : decode cX0_growNode 2 = .ok (.aload_n 0, 1) := by decide +kernel
theorem dX0_growNode_3 : decode cX0_growNode 3 = .ok (.getfield 19, 3) := by decide +kernel
theorem dX0_growNode_6 : decode cX0_growNode 6 = .ok (.iconst 0, 1) := by decide +kernel
theorem dX0_growNode_7 : decode cX0_growNode 7 = .ok (.dup2, 1) := by decide +kernel
theorem dX0_growNode_8 : decode cX0_growNode 8 = .ok (.iaload, 1) := by decide +kernel
theorem dX0_growNode_9 : decode cX0_growNode 9 = .ok (.iconst 1, 1) := by decide +kernel
theorem dX0_growNode_10 : decode cX0_growNode 10 = .ok (.iadd, 1) := by decide +kernel
theorem dX0_growNode_11 : decode cX0_growNode 11 = .ok (.iastore, 1) := by decide +kernel
theorem dX0_growNode_12 : decode cX0_growNode 12 = .ok (.iconst 0, 1) := by decide +kernel
theorem dX0_growNode_13 : decode cX0_growNode 13 = .ok (.istore_n 2, 1) := by decide +kernel
theorem dX0_growNode_14 : decode cX0_growNode 14 = .ok (.iload_n 2, 1) := by decide +kernel
theorem dX0_growNode_15 : decode cX0_growNode 15 = .ok (.aload_n 0, 1) := by decide +kernel
theorem dX0_growNode_16 : decode cX0_growNode 16 = .ok (.getfield 34, 3) := by decide +kernel
theorem dX0_growNode_19 : decode cX0_growNode 19 = .ok (.if_icmp .ge 88, 3) := by decide +kernel
theorem dX0_growNode_22 : decode cX0_growNode 22 = .ok (.aload_n 0, 1) := by decide +kernel
theorem dX0_growNode_23 : decode cX0_growNode 23 = .ok (.getfield 13, 3) := by decide +kernel
theorem dX0_growNode_26 : decode cX0_growNode 26 = .ok (.bipush 8, 2) := by decide +kernel
theorem dX0_growNode_28 : decode cX0_growNode 28 = .ok (.iload_n 1, 1) := by decide +kernel
theorem dX0_growNode_29 : decode cX0_growNode 29 = .ok (.imul, 1) := by decide +kernel
theorem dX0_growNode_30 : decode cX0_growNode 30 = .ok (.aload_n 0, 1) := by decide +kernel
theorem dX0_growNode_31 : decode cX0_growNode 31 = .ok (.getfield 7, 3) := by decide +kernel
theorem dX0_growNode_34 : decode cX0_growNode 34 = .ok (.iload_n 2, 1) := by decide +kernel
theorem dX0_growNode_35 : decode cX0_growNode 35 = .ok (.iaload, 1) := by decide +kernel
theorem dX0_growNode_36 : decode cX0_growNode 36 = .ok (.iadd, 1) := by decide +kernel
theorem dX0_growNode_37 : decode cX0_growNode 37 = .ok (.iaload, 1) := by decide +kernel
theorem dX0_growNode_38 : decode cX0_growNode 38 = .ok (.istore_n 3, 1) := by decide +kernel
theorem dX0_growNode_39 : decode cX0_growNode 39 = .ok (.iload_n 3, 1) := by decide +kernel
theorem dX0_growNode_40 : decode cX0_growNode 40 = .ok (.ifCond .ne 49, 3) := by decide +kernel
theorem dX0_growNode_43 : decode cX0_growNode 43 = .ok (.aload_n 0, 1) := by decide +kernel
theorem dX0_growNode_44 : decode cX0_growNode 44 = .ok (.invokevirtual 85, 3) := by decide +kernel
theorem dX0_growNode_47 : decode cX0_growNode 47 = .ok (.istore_n 3, 1) := by decide +kernel
theorem dX0_growNode_48 : decode cX0_growNode 48 = .ok (.aload_n 0, 1) := by decide +kernel
theorem dX0_growNode_49 : decode cX0_growNode 49 = .ok (.getfield 13, 3) := by decide +kernel
theorem dX0_growNode_52 : decode cX0_growNode 52 = .ok (.bipush 8, 2) := by decide +kernel
theorem dX0_growNode_54 : decode cX0_growNode 54 = .ok (.iload_n 1, 1) := by decide +kernel
theorem dX0_growNode_55 : decode cX0_growNode 55 = .ok (.imul, 1) := by decide +kernel
theorem dX0_growNode_56 : decode cX0_growNode 56 = .ok (.aload_n 0, 1) := by decide +kernel
theorem dX0_growNode_57 : decode cX0_growNode 57 = .ok (.getfield 7, 3) := by decide +kernel
theorem dX0_growNode_60 : decode cX0_growNode 60 = .ok (.iload_n 2, 1) := by decide +kernel
theorem dX0_growNode_61 : decode cX0_growNode 61 = .ok (.iaload, 1) := by decide +kernel
theorem dX0_growNode_62 : decode cX0_growNode 62 = .ok (.iadd, 1) := by decide +kernel
theorem dX0_growNode_63 : decode cX0_growNode 63 = .ok (.iload_n 3, 1) := by decide +kernel
theorem dX0_growNode_64 : decode cX0_growNode 64 = .ok (.iastore, 1) := by decide +kernel
theorem dX0_growNode_65 : decode cX0_growNode 65 = .ok (.aload_n 0, 1) := by decide +kernel
theorem dX0_growNode_66 : decode cX0_growNode 66 = .ok (.getfield 16, 3) := by decide +kernel
theorem dX0_growNode_69 : decode cX0_growNode 69 = .ok (.iload_n 3, 1) := by decide +kernel
theorem dX0_growNode_70 : decode cX0_growNode 70 = .ok (.bipush 9, 2) := by decide +kernel
theorem dX0_growNode_72 : decode cX0_growNode 72 = .ok (.aload_n 0, 1) := by decide +kernel
theorem dX0_growNode_73 : decode cX0_growNode 73 = .ok (.getfield 16, 3) := by decide +kernel
theorem dX0_growNode_76 : decode cX0_growNode 76 = .ok (.iload_n 1, 1) := by decide +kernel
theorem dX0_growNode_77 : decode cX0_growNode 77 = .ok (.iaload, 1) := by decide +kernel
theorem dX0_growNode_78 : decode cX0_growNode 78 = .ok (.imul, 1) := by decide +kernel
theorem dX0_growNode_79 : decode cX0_growNode 79 = .ok (.aload_n 0, 1) := by decide +kernel
theorem dX0_growNode_80 : decode cX0_growNode 80 = .ok (.getfield 7, 3) := by decide +kernel
theorem dX0_growNode_83 : decode cX0_growNode 83 = .ok (.iload_n 2, 1) := by decide +kernel
theorem dX0_growNode_84 : decode cX0_growNode 84 = .ok (.iaload, 1) := by decide +kernel
theorem dX0_growNode_85 : decode cX0_growNode 85 = .ok (.iadd, 1) := by decide +kernel
theorem dX0_growNode_86 : decode cX0_growNode 86 = .ok (.iconst 1, 1) := by decide +kernel
theorem dX0_growNode_87 : decode cX0_growNode 87 = .ok (.iadd, 1) := by decide +kernel
theorem dX0_growNode_88 : decode cX0_growNode 88 = .ok (.iastore, 1) := by decide +kernel
theorem dX0_growNode_89 : decode cX0_growNode 89 = .ok (.aload_n 0, 1) := by decide +kernel
theorem dX0_growNode_90 : decode cX0_growNode 90 = .ok (.getfield 19, 3) := by decide +kernel
theorem dX0_growNode_93 : decode cX0_growNode 93 = .ok (.iload_n 3, 1) := by decide +kernel
theorem dX0_growNode_94 : decode cX0_growNode 94 = .ok (.dup2, 1) := by decide +kernel
theorem dX0_growNode_95 : decode cX0_growNode 95 = .ok (.iaload, 1) := by decide +kernel
theorem dX0_growNode_96 : decode cX0_growNode 96 = .ok (.iconst 1, 1) := by decide +kernel
theorem dX0_growNode_97 : decode cX0_growNode 97 = .ok (.iadd, 1) := by decide +kernel
theorem dX0_growNode_98 : decode cX0_growNode 98 = .ok (.iastore, 1) := by decide +kernel
theorem dX0_growNode_99 : decode cX0_growNode 99 = .ok (.iload_n 3, 1) := by decide +kernel
theorem dX0_growNode_100 : decode cX0_growNode 100 = .ok (.istore_n 1, 1) := by decide +kernel
theorem dX0_growNode_101 : decode cX0_growNode 101 = .ok (.iinc 2 1, 3) := by decide +kernel
theorem dX0_growNode_104 : decode cX0_growNode 104 = .ok (.goto (-90), 3) := by decide +kernel
theorem dX0_growNode_107 : decode cX0_growNode 107 = .ok (.iload_n 1, 1) := by decide +kernel
theorem dX0_growNode_108 : decode cX0_growNode 108 = .ok (.ireturn, 1) := by decide +kernel
abbrev cX0_freeNode : ByteArray := prog_1_method_17_code
def yX0_freeNode : MethodName := ⟨RX0, "freeNode", "()I"⟩
theorem dX0_freeNode_0 : decode cX0_freeNode 0 = .ok (.iconst 1, 1) := by decide +kernel
theorem dX0_freeNode_1 : decode cX0_freeNode 1 = .ok (.istore_n 1, 1) := by decide +kernel
theorem dX0_freeNode_2 : decode cX0_freeNode 2 = .ok (.iload_n 1, 1) := by decide +kernel
theorem dX0_freeNode_3 : decode cX0_freeNode 3 = .ok (.bipush 100, 2) := by decide +kernel
theorem dX0_freeNode_5 : decode cX0_freeNode 5 = .ok (.if_icmp .ge 20, 3) := by decide +kernel
theorem dX0_freeNode_8 : decode cX0_freeNode 8 = .ok (.aload_n 0, 1) := by decide +kernel
theorem dX0_freeNode_9 : decode cX0_freeNode 9 = .ok (.getfield 19, 3) := by decide +kernel
theorem dX0_freeNode_12 : decode cX0_freeNode 12 = .ok (.iload_n 1, 1) := by decide +kernel
theorem dX0_freeNode_13 : decode cX0_freeNode 13 = .ok (.iaload, 1) := by decide +kernel
theorem dX0_freeNode_14 : decode cX0_freeNode 14 = .ok (.ifCond .ne 5, 3) := by decide +kernel
theorem dX0_freeNode_17 : decode cX0_freeNode 17 = .ok (.iload_n 1, 1) := by decide +kernel
theorem dX0_freeNode_18 : decode cX0_freeNode 18 = .ok (.ireturn, 1) := by decide +kernel
theorem dX0_freeNode_19 : decode cX0_freeNode 19 = .ok (.iinc 1 1, 3) := by decide +kernel
theorem dX0_freeNode_22 : decode cX0_freeNode 22 = .ok (.goto (-20), 3) := by decide +kernel
theorem dX0_freeNode_25 : decode cX0_freeNode 25 = .ok (.bipush 99, 2) := by decide +kernel
theorem dX0_freeNode_27 : decode cX0_freeNode 27 = .ok (.ireturn, 1) := by decide +kernel
abbrev cX0_remove : ByteArray := prog_1_method_7_code
def yX0_remove : MethodName := ⟨RX0, "remove", "(II)I"⟩
theorem dX0_remove_0 : decode cX0_remove 0 = .ok (.aload_n 0, 1) := by decide +kernel
theorem dX0_remove_1 : decode cX0_remove 1 = .ok (.invokevirtual 45, 3) := by decide +kernel
theorem dX0_remove_4 : decode cX0_remove 4 = .ok (.istore_n 3, 1) := by decide +kernel
theorem dX0_remove_5 : decode cX0_remove 5 = .ok (.iload_n 3, 1) := by decide +kernel
theorem dX0_remove_6 : decode cX0_remove 6 = .ok (.ifCond .ge 7, 3) := by decide +kernel
theorem dX0_remove_9 : decode cX0_remove 9 = .ok (.iconst (-1), 1) := by decide +kernel
theorem dX0_remove_10 : decode cX0_remove 10 = .ok (.goto 10, 3) := by decide +kernel
theorem dX0_remove_13 : decode cX0_remove 13 = .ok (.aload_n 0, 1) := by decide +kernel
theorem dX0_remove_14 : decode cX0_remove 14 = .ok (.iload_n 3, 1) := by decide +kernel
theorem dX0_remove_15 : decode cX0_remove 15 = .ok (.iload_n 1, 1) := by decide +kernel
theorem dX0_remove_16 : decode cX0_remove 16 = .ok (.iload_n 2, 1) := by decide +kernel
theorem dX0_remove_17 : decode cX0_remove 17 = .ok (.invokevirtual 53, 3) := by decide +kernel
theorem dX0_remove_20 : decode cX0_remove 20 = .ok (.istore 4, 2) := by decide +kernel
theorem dX0_remove_22 : decode cX0_remove 22 = .ok (.iload 4, 2) := by decide +kernel
theorem dX0_remove_24 : decode cX0_remove 24 = .ok (.ifCond .ge 5, 3) := by decide +kernel
theorem dX0_remove_27 : decode cX0_remove 27 = .ok (.iconst (-1), 1) := by decide +kernel
theorem dX0_remove_28 : decode cX0_remove 28 = .ok (.ireturn, 1) := by decide +kernel
theorem dX0_remove_29 : decode cX0_remove 29 = .ok (.aload_n 0, 1) := by decide +kernel
theorem dX0_remove_30 : decode cX0_remove 30 = .ok (.dup, 1) := by decide +kernel
theorem dX0_remove_31 : decode cX0_remove 31 = .ok (.getfield 38, 3) := by decide +kernel
theorem dX0_remove_34 : decode cX0_remove 34 = .ok (.iconst 1, 1) := by decide +kernel
theorem dX0_remove_35 : decode cX0_remove 35 = .ok (.isub, 1) := by decide +kernel
theorem dX0_remove_36 : decode cX0_remove 36 = .ok (.putfield 38, 3) := by decide +kernel
theorem dX0_remove_39 : decode cX0_remove 39 = .ok (.aload_n 0, 1) := by decide +kernel
theorem dX0_remove_40 : decode cX0_remove 40 = .ok (.getfield 22, 3) := by decide +kernel
theorem dX0_remove_43 : decode cX0_remove 43 = .ok (.iload 4, 2) := by decide +kernel
theorem dX0_remove_45 : decode cX0_remove 45 = .ok (.aload_n 0, 1) := by decide +kernel
theorem dX0_remove_46 : decode cX0_remove 46 = .ok (.getfield 22, 3) := by decide +kernel
theorem dX0_remove_49 : decode cX0_remove 49 = .ok (.aload_n 0, 1) := by decide +kernel
theorem dX0_remove_50 : decode cX0_remove 50 = .ok (.getfield 38, 3) := by decide +kernel
theorem dX0_remove_53 : decode cX0_remove 53 = .ok (.iaload, 1) := by decide +kernel
theorem dX0_remove_54 : decode cX0_remove 54 = .ok (.iastore, 1) := by decide +kernel
theorem dX0_remove_55 : decode cX0_remove 55 = .ok (.aload_n 0, 1) := by decide +kernel
theorem dX0_remove_56 : decode cX0_remove 56 = .ok (.getfield 25, 3) := by decide +kernel
theorem dX0_remove_59 : decode cX0_remove 59 = .ok (.iload 4, 2) := by decide +kernel
theorem dX0_remove_61 : decode cX0_remove 61 = .ok (.aload_n 0, 1) := by decide +kernel
theorem dX0_remove_62 : decode cX0_remove 62 = .ok (.getfield 25, 3) := by decide +kernel
theorem dX0_remove_65 : decode cX0_remove 65 = .ok (.aload_n 0, 1) := by decide +kernel
theorem dX0_remove_66 : decode cX0_remove 66 = .ok (.getfield 38, 3) := by decide +kernel
theorem dX0_remove_69 : decode cX0_remove 69 = .ok (.iaload, 1) := by decide +kernel
theorem dX0_remove_70 : decode cX0_remove 70 = .ok (.iastore, 1) := by decide +kernel
theorem dX0_remove_71 : decode cX0_remove 71 = .ok (.aload_n 0, 1) := by decide +kernel
theorem dX0_remove_72 : decode cX0_remove 72 = .ok (.getfield 28, 3) := by decide +kernel
theorem dX0_remove_75 : decode cX0_remove 75 = .ok (.iload 4, 2) := by decide +kernel
theorem dX0_remove_77 : decode cX0_remove 77 = .ok (.aload_n 0, 1) := by decide +kernel
theorem dX0_remove_78 : decode cX0_remove 78 = .ok (.getfield 28, 3) := by decide +kernel
theorem dX0_remove_81 : decode cX0_remove 81 = .ok (.aload_n 0, 1) := by decide +kernel
theorem dX0_remove_82 : decode cX0_remove 82 = .ok (.getfield 38, 3) := by decide +kernel
theorem dX0_remove_85 : decode cX0_remove 85 = .ok (.iaload, 1) := by decide +kernel
theorem dX0_remove_86 : decode cX0_remove 86 = .ok (.iastore, 1) := by decide +kernel
theorem dX0_remove_87 : decode cX0_remove 87 = .ok (.aload_n 0, 1) := by decide +kernel
theorem dX0_remove_88 : decode cX0_remove 88 = .ok (.invokevirtual 60, 3) := by decide +kernel
theorem dX0_remove_91 : decode cX0_remove 91 = .ok (.aload_n 0, 1) := by decide +kernel
theorem dX0_remove_92 : decode cX0_remove 92 = .ok (.getfield 38, 3) := by decide +kernel
theorem dX0_remove_95 : decode cX0_remove 95 = .ok (.ireturn, 1) := by decide +kernel
abbrev cX0_shrinkPath : ByteArray := prog_1_method_18_code
def yX0_shrinkPath : MethodName := ⟨RX0, "shrinkPath", "()V"⟩
theorem dX0_shrinkPath_0 : decode cX0_shrinkPath 0 = .ok (.iconst 0, 1) := by decide +kernel
theorem dX0_shrinkPath_1 : decode cX0_shrinkPath 1 = .ok (.istore_n 1, 1) := by decide +kernel
theorem dX0_shrinkPath_2 : decode cX0_shrinkPath 2 = .ok (.aload_n 0, 1) := by decide +kernel
theorem dX0_shrinkPath_3 : decode cX0_shrinkPath 3 = .ok (.getfield 19, 3) := by decide +kernel
theorem dX0_shrinkPath_6 : decode cX0_shrinkPath 6 = .ok (.iconst 0, 1) := by decide +kernel
theorem dX0_shrinkPath_7 : decode cX0_shrinkPath 7 = .ok (.dup2, 1) := by decide +kernel
theorem dX0_shrinkPath_8 : decode cX0_shrinkPath 8 = .ok (.iaload, 1) := by decide +kernel
theorem dX0_shrinkPath_9 : decode cX0_shrinkPath 9 = .ok (.iconst 1, 1) := by decide +kernel
theorem dX0_shrinkPath_10 : decode cX0_shrinkPath 10 = .ok (.isub, 1) := by decide +kernel
theorem dX0_shrinkPath_11 : decode cX0_shrinkPath 11 = .ok (.iastore, 1) := by decide +kernel
theorem dX0_shrinkPath_12 : decode cX0_shrinkPath 12 = .ok (.iconst 0, 1) := by decide +kernel
theorem dX0_shrinkPath_13 : decode cX0_shrinkPath 13 = .ok (.istore_n 2, 1) := by decide +kernel
theorem dX0_shrinkPath_14 : decode cX0_shrinkPath 14 = .ok (.iload_n 2, 1) := by decide +kernel
theorem dX0_shrinkPath_15 : decode cX0_shrinkPath 15 = .ok (.aload_n 0, 1) := by decide +kernel
theorem dX0_shrinkPath_16 : decode cX0_shrinkPath 16 = .ok (.getfield 34, 3) := by decide +kernel
theorem dX0_shrinkPath_19 : decode cX0_shrinkPath 19 = .ok (.if_icmp .ge 64, 3) := by decide +kernel
theorem dX0_shrinkPath_22 : decode cX0_shrinkPath 22 = .ok (.aload_n 0, 1) := by decide +kernel
theorem dX0_shrinkPath_23 : decode cX0_shrinkPath 23 = .ok (.getfield 13, 3) := by decide +kernel
theorem dX0_shrinkPath_26 : decode cX0_shrinkPath 26 = .ok (.bipush 8, 2) := by decide +kernel
theorem dX0_shrinkPath_28 : decode cX0_shrinkPath 28 = .ok (.iload_n 1, 1) := by decide +kernel
theorem dX0_shrinkPath_29 : decode cX0_shrinkPath 29 = .ok (.imul, 1) := by decide +kernel
theorem dX0_shrinkPath_30 : decode cX0_shrinkPath 30 = .ok (.aload_n 0, 1) := by decide +kernel
theorem dX0_shrinkPath_31 : decode cX0_shrinkPath 31 = .ok (.getfield 7, 3) := by decide +kernel
theorem dX0_shrinkPath_34 : decode cX0_shrinkPath 34 = .ok (.iload_n 2, 1) := by decide +kernel
theorem dX0_shrinkPath_35 : decode cX0_shrinkPath 35 = .ok (.iaload, 1) := by decide +kernel
theorem dX0_shrinkPath_36 : decode cX0_shrinkPath 36 = .ok (.iadd, 1) := by decide +kernel
theorem dX0_shrinkPath_37 : decode cX0_shrinkPath 37 = .ok (.iaload, 1) := by decide +kernel
theorem dX0_shrinkPath_38 : decode cX0_shrinkPath 38 = .ok (.istore_n 3, 1) := by decide +kernel
theorem dX0_shrinkPath_39 : decode cX0_shrinkPath 39 = .ok (.aload_n 0, 1) := by decide +kernel
theorem dX0_shrinkPath_40 : decode cX0_shrinkPath 40 = .ok (.getfield 19, 3) := by decide +kernel
theorem dX0_shrinkPath_43 : decode cX0_shrinkPath 43 = .ok (.iload_n 3, 1) := by decide +kernel
theorem dX0_shrinkPath_44 : decode cX0_shrinkPath 44 = .ok (.dup2, 1) := by decide +kernel
theorem dX0_shrinkPath_45 : decode cX0_shrinkPath 45 = .ok (.iaload, 1) := by decide +kernel
theorem dX0_shrinkPath_46 : decode cX0_shrinkPath 46 = .ok (.iconst 1, 1) := by decide +kernel
theorem dX0_shrinkPath_47 : decode cX0_shrinkPath 47 = .ok (.isub, 1) := by decide +kernel
theorem dX0_shrinkPath_48 : decode cX0_shrinkPath 48 = .ok (.iastore, 1) := by decide +kernel
theorem dX0_shrinkPath_49 : decode cX0_shrinkPath 49 = .ok (.aload_n 0, 1) := by decide +kernel
theorem dX0_shrinkPath_50 : decode cX0_shrinkPath 50 = .ok (.getfield 19, 3) := by decide +kernel
theorem dX0_shrinkPath_53 : decode cX0_shrinkPath 53 = .ok (.iload_n 3, 1) := by decide +kernel
theorem dX0_shrinkPath_54 : decode cX0_shrinkPath 54 = .ok (.iaload, 1) := by decide +kernel
theorem dX0_shrinkPath_55 : decode cX0_shrinkPath 55 = .ok (.ifCond .ne 20, 3) := by decide +kernel
theorem dX0_shrinkPath_58 : decode cX0_shrinkPath 58 = .ok (.aload_n 0, 1) := by decide +kernel
theorem dX0_shrinkPath_59 : decode cX0_shrinkPath 59 = .ok (.getfield 13, 3) := by decide +kernel
theorem dX0_shrinkPath_62 : decode cX0_shrinkPath 62 = .ok (.bipush 8, 2) := by decide +kernel
theorem dX0_shrinkPath_64 : decode cX0_shrinkPath 64 = .ok (.iload_n 1, 1) := by decide +kernel
theorem dX0_shrinkPath_65 : decode cX0_shrinkPath 65 = .ok (.imul, 1) := by decide +kernel
theorem dX0_shrinkPath_66 : decode cX0_shrinkPath 66 = .ok (.aload_n 0, 1) := by decide +kernel
theorem dX0_shrinkPath_67 : decode cX0_shrinkPath 67 = .ok (.getfield 7, 3) := by decide +kernel
theorem dX0_shrinkPath_70 : decode cX0_shrinkPath 70 = .ok (.iload_n 2, 1) := by decide +kernel
theorem dX0_shrinkPath_71 : decode cX0_shrinkPath 71 = .ok (.iaload, 1) := by decide +kernel
theorem dX0_shrinkPath_72 : decode cX0_shrinkPath 72 = .ok (.iadd, 1) := by decide +kernel
theorem dX0_shrinkPath_73 : decode cX0_shrinkPath 73 = .ok (.iconst 0, 1) := by decide +kernel
theorem dX0_shrinkPath_74 : decode cX0_shrinkPath 74 = .ok (.iastore, 1) := by decide +kernel
theorem dX0_shrinkPath_75 : decode cX0_shrinkPath 75 = .ok (.iload_n 3, 1) := by decide +kernel
theorem dX0_shrinkPath_76 : decode cX0_shrinkPath 76 = .ok (.istore_n 1, 1) := by decide +kernel
theorem dX0_shrinkPath_77 : decode cX0_shrinkPath 77 = .ok (.iinc 2 1, 3) := by decide +kernel
theorem dX0_shrinkPath_80 : decode cX0_shrinkPath 80 = .ok (.goto (-66), 3) := by decide +kernel
theorem dX0_shrinkPath_83 : decode cX0_shrinkPath 83 = .ok (.return_, 1) := by decide +kernel
abbrev cX0_exists : ByteArray := prog_1_method_8_code
def yX0_exists : MethodName := ⟨RX0, "exists", "()I"⟩
theorem dX0_exists_0 : decode cX0_exists 0 = .ok (.aload_n 0, 1) := by decide +kernel
theorem dX0_exists_1 : decode cX0_exists 1 = .ok (.invokevirtual 45, 3) := by decide +kernel
theorem dX0_exists_4 : decode cX0_exists 4 = .ok (.ifCond .lt 7, 3) := by decide +kernel
theorem dX0_exists_7 : decode cX0_exists 7 = .ok (.iconst 1, 1) := by decide +kernel
theorem dX0_exists_8 : decode cX0_exists 8 = .ok (.goto 4, 3) := by decide +kernel
theorem dX0_exists_11 : decode cX0_exists 11 = .ok (.iconst 0, 1) := by decide +kernel
theorem dX0_exists_12 : decode cX0_exists 12 = .ok (.ireturn, 1) := by decide +kernel
abbrev cX0_look : ByteArray := prog_1_method_9_code
def yX0_look : MethodName := ⟨RX0, "look", "(I)I"⟩
theorem dX0_look_0 : decode cX0_look 0 = .ok (.iload_n 1, 1) := by decide +kernel
theorem dX0_look_1 : decode cX0_look 1 = .ok (.iconst 1, 1) := by decide +kernel
theorem dX0_look_2 : decode cX0_look 2 = .ok (.if_icmp .lt 8, 3) := by decide +kernel
theorem dX0_look_5 : decode cX0_look 5 = .ok (.iload_n 1, 1) := by decide +kernel
theorem dX0_look_6 : decode cX0_look 6 = .ok (.iconst 4, 1) := by decide +kernel
theorem dX0_look_7 : decode cX0_look 7 = .ok (.if_icmp .le 5, 3) := by decide +kernel
theorem dX0_look_10 : decode cX0_look 10 = .ok (.iconst (-1), 1) := by decide +kernel
theorem dX0_look_11 : decode cX0_look 11 = .ok (.ireturn, 1) := by decide +kernel
theorem dX0_look_12 : decode cX0_look 12 = .ok (.aload_n 0, 1) := by decide +kernel
theorem dX0_look_13 : decode cX0_look 13 = .ok (.iload_n 1, 1) := by decide +kernel
theorem dX0_look_14 : decode cX0_look 14 = .ok (.invokevirtual 63, 3) := by decide +kernel
theorem dX0_look_17 : decode cX0_look 17 = .ok (.aload_n 0, 1) := by decide +kernel
theorem dX0_look_18 : decode cX0_look 18 = .ok (.getfield 67, 3) := by decide +kernel
theorem dX0_look_21 : decode cX0_look 21 = .ok (.ireturn, 1) := by decide +kernel
abbrev cX0_lookUp : ByteArray := prog_1_method_22_code
def yX0_lookUp : MethodName := ⟨RX0, "lookUp", "(I)V"⟩
theorem dX0_lookUp_0 : decode cX0_lookUp 0 = .ok (.aload_n 0, 1) := by decide +kernel
theorem dX0_lookUp_1 : decode cX0_lookUp 1 = .ok (.aload_n 0, 1) := by decide +kernel
theorem dX0_lookUp_2 : decode cX0_lookUp 2 = .ok (.getfield 34, 3) := by decide +kernel
theorem dX0_lookUp_5 : decode cX0_lookUp 5 = .ok (.putfield 82, 3) := by decide +kernel
theorem dX0_lookUp_8 : decode cX0_lookUp 8 = .ok (.iconst 0, 1) := by decide +kernel
theorem dX0_lookUp_9 : decode cX0_lookUp 9 = .ok (.istore_n 2, 1) := by decide +kernel
theorem dX0_lookUp_10 : decode cX0_lookUp 10 = .ok (.iload_n 2, 1) := by decide +kernel
theorem dX0_lookUp_11 : decode cX0_lookUp 11 = .ok (.aload_n 0, 1) := by decide +kernel
theorem dX0_lookUp_12 : decode cX0_lookUp 12 = .ok (.getfield 34, 3) := by decide +kernel
theorem dX0_lookUp_15 : decode cX0_lookUp 15 = .ok (.if_icmp .ge 21, 3) := by decide +kernel
theorem dX0_lookUp_18 : decode cX0_lookUp 18 = .ok (.aload_n 0, 1) := by decide +kernel
theorem dX0_lookUp_19 : decode cX0_lookUp 19 = .ok (.getfield 31, 3) := by decide +kernel
theorem dX0_lookUp_22 : decode cX0_lookUp 22 = .ok (.iload_n 2, 1) := by decide +kernel
theorem dX0_lookUp_23 : decode cX0_lookUp 23 = .ok (.aload_n 0, 1) := by decide +kernel
theorem dX0_lookUp_24 : decode cX0_lookUp 24 = .ok (.getfield 7, 3) := by decide +kernel
theorem dX0_lookUp_27 : decode cX0_lookUp 27 = .ok (.iload_n 2, 1) := by decide +kernel
theorem dX0_lookUp_28 : decode cX0_lookUp 28 = .ok (.iaload, 1) := by decide +kernel
theorem dX0_lookUp_29 : decode cX0_lookUp 29 = .ok (.iastore, 1) := by decide +kernel
theorem dX0_lookUp_30 : decode cX0_lookUp 30 = .ok (.iinc 2 1, 3) := by decide +kernel
theorem dX0_lookUp_33 : decode cX0_lookUp 33 = .ok (.goto (-23), 3) := by decide +kernel
theorem dX0_lookUp_36 : decode cX0_lookUp 36 = .ok (.aload_n 0, 1) := by decide +kernel
theorem dX0_lookUp_37 : decode cX0_lookUp 37 = .ok (.iconst 0, 1) := by decide +kernel
theorem dX0_lookUp_38 : decode cX0_lookUp 38 = .ok (.putfield 67, 3) := by decide +kernel
theorem dX0_lookUp_41 : decode cX0_lookUp 41 = .ok (.aload_n 0, 1) := by decide +kernel
theorem dX0_lookUp_42 : decode cX0_lookUp 42 = .ok (.iconst 0, 1) := by decide +kernel
theorem dX0_lookUp_43 : decode cX0_lookUp 43 = .ok (.putfield 73, 3) := by decide +kernel
theorem dX0_lookUp_46 : decode cX0_lookUp 46 = .ok (.iconst 1, 1) := by decide +kernel
theorem dX0_lookUp_47 : decode cX0_lookUp 47 = .ok (.istore_n 2, 1) := by decide +kernel
theorem dX0_lookUp_48 : decode cX0_lookUp 48 = .ok (.iload_n 2, 1) := by decide +kernel
theorem dX0_lookUp_49 : decode cX0_lookUp 49 = .ok (.iconst 5, 1) := by decide +kernel
theorem dX0_lookUp_50 : decode cX0_lookUp 50 = .ok (.if_icmp .gt 26, 3) := by decide +kernel
theorem dX0_lookUp_53 : decode cX0_lookUp 53 = .ok (.aload_n 0, 1) := by decide +kernel
theorem dX0_lookUp_54 : decode cX0_lookUp 54 = .ok (.getfield 67, 3) := by decide +kernel
theorem dX0_lookUp_57 : decode cX0_lookUp 57 = .ok (.ifCond .ne 19, 3) := by decide +kernel
theorem dX0_lookUp_60 : decode cX0_lookUp 60 = .ok (.aload_n 0, 1) := by decide +kernel
theorem dX0_lookUp_61 : decode cX0_lookUp 61 = .ok (.iload_n 2, 1) := by decide +kernel
theorem dX0_lookUp_62 : decode cX0_lookUp 62 = .ok (.putfield 73, 3) := by decide +kernel
theorem dX0_lookUp_65 : decode cX0_lookUp 65 = .ok (.aload_n 0, 1) := by decide +kernel
theorem dX0_lookUp_66 : decode cX0_lookUp 66 = .ok (.iload_n 1, 1) := by decide +kernel
theorem dX0_lookUp_67 : decode cX0_lookUp 67 = .ok (.invokevirtual 88, 3) := by decide +kernel
theorem dX0_lookUp_70 : decode cX0_lookUp 70 = .ok (.iinc 2 1, 3) := by decide +kernel
theorem dX0_lookUp_73 : decode cX0_lookUp 73 = .ok (.goto (-25), 3) := by decide +kernel
theorem dX0_lookUp_76 : decode cX0_lookUp 76 = .ok (.return_, 1) := by decide +kernel
abbrev cX0_walk : ByteArray := prog_1_method_23_code
def yX0_walk : MethodName := ⟨RX0, "walk", "(I)V"⟩
theorem dX0_walk_0 : decode cX0_walk 0 = .ok (.iconst 0, 1) := by decide +kernel
theorem dX0_walk_1 : decode cX0_walk 1 = .ok (.istore_n 2, 1) := by decide +kernel
theorem dX0_walk_2 : decode cX0_walk 2 = .ok (.iconst 0, 1) := by decide +kernel
theorem dX0_walk_3 : decode cX0_walk 3 = .ok (.istore_n 3, 1) := by decide +kernel
theorem dX0_walk_4 : decode cX0_walk 4 = .ok (.iconst 1, 1) := by decide +kernel
theorem dX0_walk_5 : decode cX0_walk 5 = .ok (.istore 4, 2) := by decide +kernel
theorem dX0_walk_7 : decode cX0_walk 7 = .ok (.iconst 0, 1) := by decide +kernel
theorem dX0_walk_8 : decode cX0_walk 8 = .ok (.istore 5, 2) := by decide +kernel
theorem dX0_walk_10 : decode cX0_walk 10 = .ok (.iload 5, 2) := by decide +kernel
theorem dX0_walk_12 : decode cX0_walk 12 = .ok (.aload_n 0, 1) := by decide +kernel
theorem dX0_walk_13 : decode cX0_walk 13 = .ok (.getfield 82, 3) := by decide +kernel
theorem dX0_walk_16 : decode cX0_walk 16 = .ok (.if_icmp .ge 77, 3) := by decide +kernel
theorem dX0_walk_19 : decode cX0_walk 19 = .ok (.iload 4, 2) := by decide +kernel
theorem dX0_walk_21 : decode cX0_walk 21 = .ok (.ifCond .eq 72, 3) := by decide +kernel
theorem dX0_walk_24 : decode cX0_walk 24 = .ok (.aload_n 0, 1) := by decide +kernel
theorem dX0_walk_25 : decode cX0_walk 25 = .ok (.getfield 13, 3) := by decide +kernel
theorem dX0_walk_28 : decode cX0_walk 28 = .ok (.bipush 8, 2) := by decide +kernel
theorem dX0_walk_30 : decode cX0_walk 30 = .ok (.iload_n 2, 1) := by decide +kernel
theorem dX0_walk_31 : decode cX0_walk 31 = .ok (.imul, 1) := by decide +kernel
theorem dX0_walk_32 : decode cX0_walk 32 = .ok (.aload_n 0, 1) := by decide +kernel
theorem dX0_walk_33 : decode cX0_walk 33 = .ok (.getfield 31, 3) := by decide +kernel
theorem dX0_walk_36 : decode cX0_walk 36 = .ok (.iload 5, 2) := by decide +kernel
theorem dX0_walk_38 : decode cX0_walk 38 = .ok (.iaload, 1) := by decide +kernel
theorem dX0_walk_39 : decode cX0_walk 39 = .ok (.iadd, 1) := by decide +kernel
theorem dX0_walk_40 : decode cX0_walk 40 = .ok (.iaload, 1) := by decide +kernel
theorem dX0_walk_41 : decode cX0_walk 41 = .ok (.istore 6, 2) := by decide +kernel
theorem dX0_walk_43 : decode cX0_walk 43 = .ok (.iload 6, 2) := by decide +kernel
theorem dX0_walk_45 : decode cX0_walk 45 = .ok (.ifCond .le 7, 3) := by decide +kernel
theorem dX0_walk_48 : decode cX0_walk 48 = .ok (.iconst 1, 1) := by decide +kernel
theorem dX0_walk_49 : decode cX0_walk 49 = .ok (.goto 4, 3) := by decide +kernel
theorem dX0_walk_52 : decode cX0_walk 52 = .ok (.iconst 0, 1) := by decide +kernel
theorem dX0_walk_53 : decode cX0_walk 53 = .ok (.istore 4, 2) := by decide +kernel
theorem dX0_walk_55 : decode cX0_walk 55 = .ok (.iload 4, 2) := by decide +kernel
theorem dX0_walk_57 : decode cX0_walk 57 = .ok (.ifCond .eq 30, 3) := by decide +kernel
theorem dX0_walk_60 : decode cX0_walk 60 = .ok (.iload 6, 2) := by decide +kernel
theorem dX0_walk_62 : decode cX0_walk 62 = .ok (.istore_n 2, 1) := by decide +kernel
theorem dX0_walk_63 : decode cX0_walk 63 = .ok (.iinc 3 1, 3) := by decide +kernel
theorem dX0_walk_66 : decode cX0_walk 66 = .ok (.iload_n 1, 1) := by decide +kernel
theorem dX0_walk_67 : decode cX0_walk 67 = .ok (.iconst 4, 1) := by decide +kernel
theorem dX0_walk_68 : decode cX0_walk 68 = .ok (.if_icmp .eq 19, 3) := by decide +kernel
theorem dX0_walk_71 : decode cX0_walk 71 = .ok (.aload_n 0, 1) := by decide +kernel
theorem dX0_walk_72 : decode cX0_walk 72 = .ok (.iload_n 2, 1) := by decide +kernel
theorem dX0_walk_73 : decode cX0_walk 73 = .ok (.iconst 4, 1) := by decide +kernel
theorem dX0_walk_74 : decode cX0_walk 74 = .ok (.invokevirtual 49, 3) := by decide +kernel
theorem dX0_walk_77 : decode cX0_walk 77 = .ok (.ifCond .le 10, 3) := by decide +kernel
theorem dX0_walk_80 : decode cX0_walk 80 = .ok (.aload_n 0, 1) := by decide +kernel
theorem dX0_walk_81 : decode cX0_walk 81 = .ok (.iconst 4, 1) := by decide +kernel
theorem dX0_walk_82 : decode cX0_walk 82 = .ok (.iload_n 2, 1) := by decide +kernel
theorem dX0_walk_83 : decode cX0_walk 83 = .ok (.invokevirtual 91, 3) := by decide +kernel
theorem dX0_walk_86 : decode cX0_walk 86 = .ok (.return_, 1) := by decide +kernel
theorem dX0_walk_87 : decode cX0_walk 87 = .ok (.iinc 5 1, 3) := by decide +kernel
theorem dX0_walk_90 : decode cX0_walk 90 = .ok (.goto (-80), 3) := by decide +kernel
theorem dX0_walk_93 : decode cX0_walk 93 = .ok (.iload_n 3, 1) := by decide +kernel
theorem dX0_walk_94 : decode cX0_walk 94 = .ok (.aload_n 0, 1) := by decide +kernel
theorem dX0_walk_95 : decode cX0_walk 95 = .ok (.getfield 82, 3) := by decide +kernel
theorem dX0_walk_98 : decode cX0_walk 98 = .ok (.if_icmp .ge 34, 3) := by decide +kernel
theorem dX0_walk_101 : decode cX0_walk 101 = .ok (.aload_n 0, 1) := by decide +kernel
theorem dX0_walk_102 : decode cX0_walk 102 = .ok (.getfield 13, 3) := by decide +kernel
theorem dX0_walk_105 : decode cX0_walk 105 = .ok (.bipush 8, 2) := by decide +kernel
theorem dX0_walk_107 : decode cX0_walk 107 = .ok (.iload_n 2, 1) := by decide +kernel
theorem dX0_walk_108 : decode cX0_walk 108 = .ok (.imul, 1) := by decide +kernel
theorem dX0_walk_109 : decode cX0_walk 109 = .ok (.bipush 7, 2) := by decide +kernel
theorem dX0_walk_111 : decode cX0_walk 111 = .ok (.iadd, 1) := by decide +kernel
theorem dX0_walk_112 : decode cX0_walk 112 = .ok (.iaload, 1) := by decide +kernel
theorem dX0_walk_113 : decode cX0_walk 113 = .ok (.istore_n 2, 1) := by decide +kernel
theorem dX0_walk_114 : decode cX0_walk 114 = .ok (.iload_n 2, 1) := by decide +kernel
theorem dX0_walk_115 : decode cX0_walk 115 = .ok (.ifCond .ne 17, 3) := by decide +kernel
theorem dX0_walk_118 : decode cX0_walk 118 = .ok (.aload_n 0, 1) := by decide +kernel
theorem dX0_walk_119 : decode cX0_walk 119 = .ok (.iconst 3, 1) := by decide +kernel
theorem dX0_walk_120 : decode cX0_walk 120 = .ok (.putfield 67, 3) := by decide +kernel
theorem dX0_walk_123 : decode cX0_walk 123 = .ok (.aload_n 0, 1) := by decide +kernel
theorem dX0_walk_124 : decode cX0_walk 124 = .ok (.aload_n 0, 1) := by decide +kernel
theorem dX0_walk_125 : decode cX0_walk 125 = .ok (.invokevirtual 95, 3) := by decide +kernel
theorem dX0_walk_128 : decode cX0_walk 128 = .ok (.putfield 70, 3) := by decide +kernel
theorem dX0_walk_131 : decode cX0_walk 131 = .ok (.return_, 1) := by decide +kernel
theorem dX0_walk_132 : decode cX0_walk 132 = .ok (.aload_n 0, 1) := by decide +kernel
theorem dX0_walk_133 : decode cX0_walk 133 = .ok (.iload_n 1, 1) := by decide +kernel
theorem dX0_walk_134 : decode cX0_walk 134 = .ok (.iload_n 2, 1) := by decide +kernel
theorem dX0_walk_135 : decode cX0_walk 135 = .ok (.invokevirtual 98, 3) := by decide +kernel
theorem dX0_walk_138 : decode cX0_walk 138 = .ok (.return_, 1) := by decide +kernel
end
section
set_option maxRecDepth 100000
abbrev cX0_settle : ByteArray := prog_1_method_25_code
def yX0_settle : MethodName := ⟨RX0, "settle", "(II)V"⟩
theorem dX0_settle_0 : decode cX0_settle 0 = .ok (.aload_n 0, 1) := by decide +kernel
theorem dX0_settle_1 : decode cX0_settle 1 = .ok (.iload_n 1, 1) := by decide +kernel
theorem dX0_settle_2 : decode cX0_settle 2 = .ok (.putfield 67, 3) := by decide +kernel
theorem dX0_settle_5 : decode cX0_settle 5 = .ok (.aload_n 0, 1) := by decide +kernel
theorem dX0_settle_6 : decode cX0_settle 6 = .ok (.iload_n 2, 1) := by decide +kernel
theorem dX0_settle_7 : decode cX0_settle 7 = .ok (.putfield 76, 3) := by decide +kernel
theorem dX0_settle_10 : decode cX0_settle 10 = .ok (.aload_n 0, 1) := by decide +kernel
theorem dX0_settle_11 : decode cX0_settle 11 = .ok (.aload_n 0, 1) := by decide +kernel
theorem dX0_settle_12 : decode cX0_settle 12 = .ok (.getfield 16, 3) := by decide +kernel
theorem dX0_settle_15 : decode cX0_settle 15 = .ok (.iload_n 2, 1) := by decide +kernel
theorem dX0_settle_16 : decode cX0_settle 16 = .ok (.iaload, 1) := by decide +kernel
theorem dX0_settle_17 : decode cX0_settle 17 = .ok (.putfield 70, 3) := by decide +kernel
theorem dX0_settle_20 : decode cX0_settle 20 = .ok (.return_, 1) := by decide +kernel
abbrev cX0_askedNumber : ByteArray := prog_1_method_26_code
def yX0_askedNumber : MethodName := ⟨RX0, "askedNumber", "()I"⟩
theorem dX0_askedNumber_0 : decode cX0_askedNumber 0 = .ok (.iconst 0, 1) := by decide +kernel
theorem dX0_askedNumber_1 : decode cX0_askedNumber 1 = .ok (.istore_n 1, 1) := by decide +kernel
theorem dX0_askedNumber_2 : decode cX0_askedNumber 2 = .ok (.iconst 0, 1) := by decide +kernel
theorem dX0_askedNumber_3 : decode cX0_askedNumber 3 = .ok (.istore_n 2, 1) := by decide +kernel
theorem dX0_askedNumber_4 : decode cX0_askedNumber 4 = .ok (.iload_n 2, 1) := by decide +kernel
theorem dX0_askedNumber_5 : decode cX0_askedNumber 5 = .ok (.aload_n 0, 1) := by decide +kernel
theorem dX0_askedNumber_6 : decode cX0_askedNumber 6 = .ok (.getfield 82, 3) := by decide +kernel
theorem dX0_askedNumber_9 : decode cX0_askedNumber 9 = .ok (.if_icmp .ge 23, 3) := by decide +kernel
theorem dX0_askedNumber_12 : decode cX0_askedNumber 12 = .ok (.bipush 9, 2) := by decide +kernel
theorem dX0_askedNumber_14 : decode cX0_askedNumber 14 = .ok (.iload_n 1, 1) := by decide +kernel
theorem dX0_askedNumber_15 : decode cX0_askedNumber 15 = .ok (.imul, 1) := by decide +kernel
theorem dX0_askedNumber_16 : decode cX0_askedNumber 16 = .ok (.aload_n 0, 1) := by decide +kernel
theorem dX0_askedNumber_17 : decode cX0_askedNumber 17 = .ok (.getfield 31, 3) := by decide +kernel
theorem dX0_askedNumber_20 : decode cX0_askedNumber 20 = .ok (.iload_n 2, 1) := by decide +kernel
theorem dX0_askedNumber_21 : decode cX0_askedNumber 21 = .ok (.iaload, 1) := by decide +kernel
theorem dX0_askedNumber_22 : decode cX0_askedNumber 22 = .ok (.iadd, 1) := by decide +kernel
theorem dX0_askedNumber_23 : decode cX0_askedNumber 23 = .ok (.iconst 1, 1) := by decide +kernel
theorem dX0_askedNumber_24 : decode cX0_askedNumber 24 = .ok (.iadd, 1) := by decide +kernel
theorem dX0_askedNumber_25 : decode cX0_askedNumber 25 = .ok (.istore_n 1, 1) := by decide +kernel
theorem dX0_askedNumber_26 : decode cX0_askedNumber 26 = .ok (.iinc 2 1, 3) := by decide +kernel
theorem dX0_askedNumber_29 : decode cX0_askedNumber 29 = .ok (.goto (-25), 3) := by decide +kernel
theorem dX0_askedNumber_32 : decode cX0_askedNumber 32 = .ok (.iload_n 1, 1) := by decide +kernel
theorem dX0_askedNumber_33 : decode cX0_askedNumber 33 = .ok (.ireturn, 1) := by decide +kernel
abbrev cX0_decide : ByteArray := prog_1_method_24_code
def yX0_decide : MethodName := ⟨RX0, "decide", "(II)V"⟩
theorem dX0_decide_0 : decode cX0_decide 0 = .ok (.iload_n 1, 1) := by decide +kernel
theorem dX0_decide_1 : decode cX0_decide 1 = .ok (.iconst 3, 1) := by decide +kernel
theorem dX0_decide_2 : decode cX0_decide 2 = .ok (.if_icmp .eq 50, 3) := by decide +kernel
theorem dX0_decide_5 : decode cX0_decide 5 = .ok (.aload_n 0, 1) := by decide +kernel
theorem dX0_decide_6 : decode cX0_decide 6 = .ok (.iload_n 2, 1) := by decide +kernel
theorem dX0_decide_7 : decode cX0_decide 7 = .ok (.iconst 3, 1) := by decide +kernel
theorem dX0_decide_8 : decode cX0_decide 8 = .ok (.invokevirtual 49, 3) := by decide +kernel
theorem dX0_decide_11 : decode cX0_decide 11 = .ok (.ifCond .le 41, 3) := by decide +kernel
theorem dX0_decide_14 : decode cX0_decide 14 = .ok (.aload_n 0, 1) := by decide +kernel
theorem dX0_decide_15 : decode cX0_decide 15 = .ok (.getfield 73, 3) := by decide +kernel
theorem dX0_decide_18 : decode cX0_decide 18 = .ok (.iconst 5, 1) := by decide +kernel
theorem dX0_decide_19 : decode cX0_decide 19 = .ok (.if_icmp .ne 19, 3) := by decide +kernel
theorem dX0_decide_22 : decode cX0_decide 22 = .ok (.aload_n 0, 1) := by decide +kernel
theorem dX0_decide_23 : decode cX0_decide 23 = .ok (.iconst 5, 1) := by decide +kernel
theorem dX0_decide_24 : decode cX0_decide 24 = .ok (.putfield 67, 3) := by decide +kernel
theorem dX0_decide_27 : decode cX0_decide 27 = .ok (.aload_n 0, 1) := by decide +kernel
theorem dX0_decide_28 : decode cX0_decide 28 = .ok (.aload_n 0, 1) := by decide +kernel
theorem dX0_decide_29 : decode cX0_decide 29 = .ok (.invokevirtual 95, 3) := by decide +kernel
theorem dX0_decide_32 : decode cX0_decide 32 = .ok (.putfield 70, 3) := by decide +kernel
theorem dX0_decide_35 : decode cX0_decide 35 = .ok (.goto 16, 3) := by decide +kernel
theorem dX0_decide_38 : decode cX0_decide 38 = .ok (.aload_n 0, 1) := by decide +kernel
theorem dX0_decide_39 : decode cX0_decide 39 = .ok (.iload_n 2, 1) := by decide +kernel
theorem dX0_decide_40 : decode cX0_decide 40 = .ok (.iconst 3, 1) := by decide +kernel
theorem dX0_decide_41 : decode cX0_decide 41 = .ok (.iconst 0, 1) := by decide +kernel
theorem dX0_decide_42 : decode cX0_decide 42 = .ok (.invokevirtual 79, 3) := by decide +kernel
theorem dX0_decide_45 : decode cX0_decide 45 = .ok (.istore_n 3, 1) := by decide +kernel
theorem dX0_decide_46 : decode cX0_decide 46 = .ok (.aload_n 0, 1) := by decide +kernel
theorem dX0_decide_47 : decode cX0_decide 47 = .ok (.iload_n 3, 1) := by decide +kernel
theorem dX0_decide_48 : decode cX0_decide 48 = .ok (.invokevirtual 101, 3) := by decide +kernel
theorem dX0_decide_51 : decode cX0_decide 51 = .ok (.return_, 1) := by decide +kernel
theorem dX0_decide_52 : decode cX0_decide 52 = .ok (.aload_n 0, 1) := by decide +kernel
theorem dX0_decide_53 : decode cX0_decide 53 = .ok (.iload_n 2, 1) := by decide +kernel
theorem dX0_decide_54 : decode cX0_decide 54 = .ok (.iload_n 1, 1) := by decide +kernel
theorem dX0_decide_55 : decode cX0_decide 55 = .ok (.invokevirtual 49, 3) := by decide +kernel
theorem dX0_decide_58 : decode cX0_decide 58 = .ok (.istore_n 3, 1) := by decide +kernel
theorem dX0_decide_59 : decode cX0_decide 59 = .ok (.aload_n 0, 1) := by decide +kernel
theorem dX0_decide_60 : decode cX0_decide 60 = .ok (.iload_n 3, 1) := by decide +kernel
theorem dX0_decide_61 : decode cX0_decide 61 = .ok (.ifCond .le 7, 3) := by decide +kernel
theorem dX0_decide_64 : decode cX0_decide 64 = .ok (.iconst 1, 1) := by decide +kernel
theorem dX0_decide_65 : decode cX0_decide 65 = .ok (.goto 4, 3) := by decide +kernel
theorem dX0_decide_68 : decode cX0_decide 68 = .ok (.iconst 2, 1) := by decide +kernel
theorem dX0_decide_69 : decode cX0_decide 69 = .ok (.iload_n 2, 1) := by decide +kernel
theorem dX0_decide_70 : decode cX0_decide 70 = .ok (.invokevirtual 91, 3) := by decide +kernel
theorem dX0_decide_73 : decode cX0_decide 73 = .ok (.return_, 1) := by decide +kernel
abbrev cX0_ranked : ByteArray := prog_1_method_21_code
def yX0_ranked : MethodName := ⟨RX0, "ranked", "(III)I"⟩
theorem dX0_ranked_0 : decode cX0_ranked 0 = .ok (.iconst 0, 1) := by decide +kernel
theorem dX0_ranked_1 : decode cX0_ranked 1 = .ok (.istore 4, 2) := by decide +kernel
theorem dX0_ranked_3 : decode cX0_ranked 3 = .ok (.iload 4, 2) := by decide +kernel
theorem dX0_ranked_5 : decode cX0_ranked 5 = .ok (.aload_n 0, 1) := by decide +kernel
theorem dX0_ranked_6 : decode cX0_ranked 6 = .ok (.getfield 38, 3) := by decide +kernel
theorem dX0_ranked_9 : decode cX0_ranked 9 = .ok (.if_icmp .ge 127, 3) := by decide +kernel
theorem dX0_ranked_12 : decode cX0_ranked 12 = .ok (.aload_n 0, 1) := by decide +kernel
theorem dX0_ranked_13 : decode cX0_ranked 13 = .ok (.getfield 22, 3) := by decide +kernel
theorem dX0_ranked_16 : decode cX0_ranked 16 = .ok (.iload 4, 2) := by decide +kernel
theorem dX0_ranked_18 : decode cX0_ranked 18 = .ok (.iaload, 1) := by decide +kernel
theorem dX0_ranked_19 : decode cX0_ranked 19 = .ok (.iload_n 1, 1) := by decide +kernel
theorem dX0_ranked_20 : decode cX0_ranked 20 = .ok (.if_icmp .ne 110, 3) := by decide +kernel
theorem dX0_ranked_23 : decode cX0_ranked 23 = .ok (.aload_n 0, 1) := by decide +kernel
theorem dX0_ranked_24 : decode cX0_ranked 24 = .ok (.getfield 25, 3) := by decide +kernel
theorem dX0_ranked_27 : decode cX0_ranked 27 = .ok (.iload 4, 2) := by decide +kernel
theorem dX0_ranked_29 : decode cX0_ranked 29 = .ok (.iaload, 1) := by decide +kernel
theorem dX0_ranked_30 : decode cX0_ranked 30 = .ok (.iload_n 2, 1) := by decide +kernel
theorem dX0_ranked_31 : decode cX0_ranked 31 = .ok (.if_icmp .ne 99, 3) := by decide +kernel
theorem dX0_ranked_34 : decode cX0_ranked 34 = .ok (.iconst 0, 1) := by decide +kernel
theorem dX0_ranked_35 : decode cX0_ranked 35 = .ok (.istore 5, 2) := by decide +kernel
theorem dX0_ranked_37 : decode cX0_ranked 37 = .ok (.iconst 0, 1) := by decide +kernel
theorem dX0_ranked_38 : decode cX0_ranked 38 = .ok (.istore 6, 2) := by decide +kernel
theorem dX0_ranked_40 : decode cX0_ranked 40 = .ok (.iload 6, 2) := by decide +kernel
theorem dX0_ranked_42 : decode cX0_ranked 42 = .ok (.aload_n 0, 1) := by decide +kernel
theorem dX0_ranked_43 : decode cX0_ranked 43 = .ok (.getfield 38, 3) := by decide +kernel
theorem dX0_ranked_46 : decode cX0_ranked 46 = .ok (.if_icmp .ge 70, 3) := by decide +kernel
theorem dX0_ranked_49 : decode cX0_ranked 49 = .ok (.aload_n 0, 1) := by decide +kernel
theorem dX0_ranked_50 : decode cX0_ranked 50 = .ok (.getfield 22, 3) := by decide +kernel
theorem dX0_ranked_53 : decode cX0_ranked 53 = .ok (.iload 6, 2) := by decide +kernel
theorem dX0_ranked_55 : decode cX0_ranked 55 = .ok (.iaload, 1) := by decide +kernel
theorem dX0_ranked_56 : decode cX0_ranked 56 = .ok (.iload_n 1, 1) := by decide +kernel
theorem dX0_ranked_57 : decode cX0_ranked 57 = .ok (.if_icmp .ne 18, 3) := by decide +kernel
theorem dX0_ranked_60 : decode cX0_ranked 60 = .ok (.aload_n 0, 1) := by decide +kernel
theorem dX0_ranked_61 : decode cX0_ranked 61 = .ok (.getfield 25, 3) := by decide +kernel
theorem dX0_ranked_64 : decode cX0_ranked 64 = .ok (.iload 6, 2) := by decide +kernel
theorem dX0_ranked_66 : decode cX0_ranked 66 = .ok (.iaload, 1) := by decide +kernel
theorem dX0_ranked_67 : decode cX0_ranked 67 = .ok (.iload_n 2, 1) := by decide +kernel
theorem dX0_ranked_68 : decode cX0_ranked 68 = .ok (.if_icmp .ne 7, 3) := by decide +kernel
theorem dX0_ranked_71 : decode cX0_ranked 71 = .ok (.iconst 1, 1) := by decide +kernel
theorem dX0_ranked_72 : decode cX0_ranked 72 = .ok (.goto 4, 3) := by decide +kernel
theorem dX0_ranked_75 : decode cX0_ranked 75 = .ok (.iconst 0, 1) := by decide +kernel
theorem dX0_ranked_76 : decode cX0_ranked 76 = .ok (.istore 7, 2) := by decide +kernel
theorem dX0_ranked_78 : decode cX0_ranked 78 = .ok (.iload 5, 2) := by decide +kernel
theorem dX0_ranked_80 : decode cX0_ranked 80 = .ok (.iload 7, 2) := by decide +kernel
theorem dX0_ranked_82 : decode cX0_ranked 82 = .ok (.ifCond .eq 24, 3) := by decide +kernel
theorem dX0_ranked_85 : decode cX0_ranked 85 = .ok (.aload_n 0, 1) := by decide +kernel
theorem dX0_ranked_86 : decode cX0_ranked 86 = .ok (.getfield 28, 3) := by decide +kernel
theorem dX0_ranked_89 : decode cX0_ranked 89 = .ok (.iload 6, 2) := by decide +kernel
theorem dX0_ranked_91 : decode cX0_ranked 91 = .ok (.iaload, 1) := by decide +kernel
theorem dX0_ranked_92 : decode cX0_ranked 92 = .ok (.aload_n 0, 1) := by decide +kernel
theorem dX0_ranked_93 : decode cX0_ranked 93 = .ok (.getfield 28, 3) := by decide +kernel
theorem dX0_ranked_96 : decode cX0_ranked 96 = .ok (.iload 4, 2) := by decide +kernel
theorem dX0_ranked_98 : decode cX0_ranked 98 = .ok (.iaload, 1) := by decide +kernel
theorem dX0_ranked_99 : decode cX0_ranked 99 = .ok (.if_icmp .ge 7, 3) := by decide +kernel
theorem dX0_ranked_102 : decode cX0_ranked 102 = .ok (.iconst 1, 1) := by decide +kernel
theorem dX0_ranked_103 : decode cX0_ranked 103 = .ok (.goto 4, 3) := by decide +kernel
theorem dX0_ranked_106 : decode cX0_ranked 106 = .ok (.iconst 0, 1) := by decide +kernel
theorem dX0_ranked_107 : decode cX0_ranked 107 = .ok (.iadd, 1) := by decide +kernel
theorem dX0_ranked_108 : decode cX0_ranked 108 = .ok (.istore 5, 2) := by decide +kernel
theorem dX0_ranked_110 : decode cX0_ranked 110 = .ok (.iinc 6 1, 3) := by decide +kernel
theorem dX0_ranked_113 : decode cX0_ranked 113 = .ok (.goto (-73), 3) := by decide +kernel
theorem dX0_ranked_116 : decode cX0_ranked 116 = .ok (.iload 5, 2) := by decide +kernel
theorem dX0_ranked_118 : decode cX0_ranked 118 = .ok (.iload_n 3, 1) := by decide +kernel
theorem dX0_ranked_119 : decode cX0_ranked 119 = .ok (.if_icmp .ne 11, 3) := by decide +kernel
theorem dX0_ranked_122 : decode cX0_ranked 122 = .ok (.aload_n 0, 1) := by decide +kernel
theorem dX0_ranked_123 : decode cX0_ranked 123 = .ok (.getfield 28, 3) := by decide +kernel
theorem dX0_ranked_126 : decode cX0_ranked 126 = .ok (.iload 4, 2) := by decide +kernel
theorem dX0_ranked_128 : decode cX0_ranked 128 = .ok (.iaload, 1) := by decide +kernel
theorem dX0_ranked_129 : decode cX0_ranked 129 = .ok (.ireturn, 1) := by decide +kernel
theorem dX0_ranked_130 : decode cX0_ranked 130 = .ok (.iinc 4 1, 3) := by decide +kernel
theorem dX0_ranked_133 : decode cX0_ranked 133 = .ok (.goto (-130), 3) := by decide +kernel
theorem dX0_ranked_136 : decode cX0_ranked 136 = .ok (.iconst 0, 1) := by decide +kernel
theorem dX0_ranked_137 : decode cX0_ranked 137 = .ok (.ireturn, 1) := by decide +kernel
abbrev cX0_askNumber : ByteArray := prog_1_method_14_code
def yX0_askNumber : MethodName := ⟨RX0, "askNumber", "(I)V"⟩
theorem dX0_askNumber_0 : decode cX0_askNumber 0 = .ok (.aload_n 0, 1) := by decide +kernel
theorem dX0_askNumber_1 : decode cX0_askNumber 1 = .ok (.iconst 0, 1) := by decide +kernel
theorem dX0_askNumber_2 : decode cX0_askNumber 2 = .ok (.putfield 82, 3) := by decide +kernel
theorem dX0_askNumber_5 : decode cX0_askNumber 5 = .ok (.sipush 729, 3) := by decide +kernel
theorem dX0_askNumber_8 : decode cX0_askNumber 8 = .ok (.istore_n 2, 1) := by decide +kernel
theorem dX0_askNumber_9 : decode cX0_askNumber 9 = .ok (.iload_n 2, 1) := by decide +kernel
theorem dX0_askNumber_10 : decode cX0_askNumber 10 = .ok (.ifCond .le 44, 3) := by decide +kernel
theorem dX0_askNumber_13 : decode cX0_askNumber 13 = .ok (.iload_n 1, 1) := by decide +kernel
theorem dX0_askNumber_14 : decode cX0_askNumber 14 = .ok (.iload_n 2, 1) := by decide +kernel
theorem dX0_askNumber_15 : decode cX0_askNumber 15 = .ok (.idiv, 1) := by decide +kernel
theorem dX0_askNumber_16 : decode cX0_askNumber 16 = .ok (.bipush 9, 2) := by decide +kernel
theorem dX0_askNumber_18 : decode cX0_askNumber 18 = .ok (.irem, 1) := by decide +kernel
theorem dX0_askNumber_19 : decode cX0_askNumber 19 = .ok (.istore_n 3, 1) := by decide +kernel
theorem dX0_askNumber_20 : decode cX0_askNumber 20 = .ok (.iload_n 3, 1) := by decide +kernel
theorem dX0_askNumber_21 : decode cX0_askNumber 21 = .ok (.ifCond .le 25, 3) := by decide +kernel
theorem dX0_askNumber_24 : decode cX0_askNumber 24 = .ok (.aload_n 0, 1) := by decide +kernel
theorem dX0_askNumber_25 : decode cX0_askNumber 25 = .ok (.getfield 31, 3) := by decide +kernel
theorem dX0_askNumber_28 : decode cX0_askNumber 28 = .ok (.aload_n 0, 1) := by decide +kernel
theorem dX0_askNumber_29 : decode cX0_askNumber 29 = .ok (.getfield 82, 3) := by decide +kernel
theorem dX0_askNumber_32 : decode cX0_askNumber 32 = .ok (.iload_n 3, 1) := by decide +kernel
theorem dX0_askNumber_33 : decode cX0_askNumber 33 = .ok (.iconst 1, 1) := by decide +kernel
theorem dX0_askNumber_34 : decode cX0_askNumber 34 = .ok (.isub, 1) := by decide +kernel
theorem dX0_askNumber_35 : decode cX0_askNumber 35 = .ok (.iastore, 1) := by decide +kernel
theorem dX0_askNumber_36 : decode cX0_askNumber 36 = .ok (.aload_n 0, 1) := by decide +kernel
theorem dX0_askNumber_37 : decode cX0_askNumber 37 = .ok (.dup, 1) := by decide +kernel
theorem dX0_askNumber_38 : decode cX0_askNumber 38 = .ok (.getfield 82, 3) := by decide +kernel
theorem dX0_askNumber_41 : decode cX0_askNumber 41 = .ok (.iconst 1, 1) := by decide +kernel
theorem dX0_askNumber_42 : decode cX0_askNumber 42 = .ok (.iadd, 1) := by decide +kernel
theorem dX0_askNumber_43 : decode cX0_askNumber 43 = .ok (.putfield 82, 3) := by decide +kernel
theorem dX0_askNumber_46 : decode cX0_askNumber 46 = .ok (.iload_n 2, 1) := by decide +kernel
theorem dX0_askNumber_47 : decode cX0_askNumber 47 = .ok (.bipush 9, 2) := by decide +kernel
theorem dX0_askNumber_49 : decode cX0_askNumber 49 = .ok (.idiv, 1) := by decide +kernel
theorem dX0_askNumber_50 : decode cX0_askNumber 50 = .ok (.istore_n 2, 1) := by decide +kernel
theorem dX0_askNumber_51 : decode cX0_askNumber 51 = .ok (.goto (-42), 3) := by decide +kernel
theorem dX0_askNumber_54 : decode cX0_askNumber 54 = .ok (.return_, 1) := by decide +kernel
abbrev cX0_place : ByteArray := prog_1_method_10_code
def yX0_place : MethodName := ⟨RX0, "place", "(I)I"⟩
theorem dX0_place_0 : decode cX0_place 0 = .ok (.iload_n 1, 1) := by decide +kernel
theorem dX0_place_1 : decode cX0_place 1 = .ok (.iconst 1, 1) := by decide +kernel
theorem dX0_place_2 : decode cX0_place 2 = .ok (.if_icmp .lt 8, 3) := by decide +kernel
theorem dX0_place_5 : decode cX0_place 5 = .ok (.iload_n 1, 1) := by decide +kernel
theorem dX0_place_6 : decode cX0_place 6 = .ok (.iconst 4, 1) := by decide +kernel
theorem dX0_place_7 : decode cX0_place 7 = .ok (.if_icmp .le 5, 3) := by decide +kernel
theorem dX0_place_10 : decode cX0_place 10 = .ok (.iconst (-1), 1) := by decide +kernel
theorem dX0_place_11 : decode cX0_place 11 = .ok (.ireturn, 1) := by decide +kernel
theorem dX0_place_12 : decode cX0_place 12 = .ok (.aload_n 0, 1) := by decide +kernel
theorem dX0_place_13 : decode cX0_place 13 = .ok (.iload_n 1, 1) := by decide +kernel
theorem dX0_place_14 : decode cX0_place 14 = .ok (.invokevirtual 63, 3) := by decide +kernel
theorem dX0_place_17 : decode cX0_place 17 = .ok (.aload_n 0, 1) := by decide +kernel
theorem dX0_place_18 : decode cX0_place 18 = .ok (.getfield 70, 3) := by decide +kernel
theorem dX0_place_21 : decode cX0_place 21 = .ok (.ireturn, 1) := by decide +kernel
abbrev cX0_rounds : ByteArray := prog_1_method_11_code
def yX0_rounds : MethodName := ⟨RX0, "rounds", "(I)I"⟩
theorem dX0_rounds_0 : decode cX0_rounds 0 = .ok (.iload_n 1, 1) := by decide +kernel
theorem dX0_rounds_1 : decode cX0_rounds 1 = .ok (.iconst 1, 1) := by decide +kernel
theorem dX0_rounds_2 : decode cX0_rounds 2 = .ok (.if_icmp .lt 8, 3) := by decide +kernel
theorem dX0_rounds_5 : decode cX0_rounds 5 = .ok (.iload_n 1, 1) := by decide +kernel
theorem dX0_rounds_6 : decode cX0_rounds 6 = .ok (.iconst 4, 1) := by decide +kernel
theorem dX0_rounds_7 : decode cX0_rounds 7 = .ok (.if_icmp .le 5, 3) := by decide +kernel
theorem dX0_rounds_10 : decode cX0_rounds 10 = .ok (.iconst (-1), 1) := by decide +kernel
theorem dX0_rounds_11 : decode cX0_rounds 11 = .ok (.ireturn, 1) := by decide +kernel
theorem dX0_rounds_12 : decode cX0_rounds 12 = .ok (.aload_n 0, 1) := by decide +kernel
theorem dX0_rounds_13 : decode cX0_rounds 13 = .ok (.iload_n 1, 1) := by decide +kernel
theorem dX0_rounds_14 : decode cX0_rounds 14 = .ok (.invokevirtual 63, 3) := by decide +kernel
theorem dX0_rounds_17 : decode cX0_rounds 17 = .ok (.aload_n 0, 1) := by decide +kernel
theorem dX0_rounds_18 : decode cX0_rounds 18 = .ok (.getfield 73, 3) := by decide +kernel
theorem dX0_rounds_21 : decode cX0_rounds 21 = .ok (.ireturn, 1) := by decide +kernel
abbrev cX0_value : ByteArray := prog_1_method_12_code
def yX0_value : MethodName := ⟨RX0, "value", "(II)I"⟩
theorem dX0_value_0 : decode cX0_value 0 = .ok (.iload_n 1, 1) := by decide +kernel
theorem dX0_value_1 : decode cX0_value 1 = .ok (.iconst 1, 1) := by decide +kernel
theorem dX0_value_2 : decode cX0_value 2 = .ok (.if_icmp .lt 8, 3) := by decide +kernel
theorem dX0_value_5 : decode cX0_value 5 = .ok (.iload_n 1, 1) := by decide +kernel
theorem dX0_value_6 : decode cX0_value 6 = .ok (.iconst 4, 1) := by decide +kernel
theorem dX0_value_7 : decode cX0_value 7 = .ok (.if_icmp .le 5, 3) := by decide +kernel
theorem dX0_value_10 : decode cX0_value 10 = .ok (.iconst 0, 1) := by decide +kernel
theorem dX0_value_11 : decode cX0_value 11 = .ok (.ireturn, 1) := by decide +kernel
theorem dX0_value_12 : decode cX0_value 12 = .ok (.aload_n 0, 1) := by decide +kernel
theorem dX0_value_13 : decode cX0_value 13 = .ok (.iload_n 1, 1) := by decide +kernel
theorem dX0_value_14 : decode cX0_value 14 = .ok (.invokevirtual 63, 3) := by decide +kernel
theorem dX0_value_17 : decode cX0_value 17 = .ok (.aload_n 0, 1) := by decide +kernel
theorem dX0_value_18 : decode cX0_value 18 = .ok (.getfield 67, 3) := by decide +kernel
theorem dX0_value_21 : decode cX0_value 21 = .ok (.iconst 4, 1) := by decide +kernel
theorem dX0_value_22 : decode cX0_value 22 = .ok (.if_icmp .ne 22, 3) := by decide +kernel
theorem dX0_value_25 : decode cX0_value 25 = .ok (.iload_n 2, 1) := by decide +kernel
theorem dX0_value_26 : decode cX0_value 26 = .ok (.ifCond .ne 16, 3) := by decide +kernel
theorem dX0_value_29 : decode cX0_value 29 = .ok (.aload_n 0, 1) := by decide +kernel
theorem dX0_value_30 : decode cX0_value 30 = .ok (.aload_n 0, 1) := by decide +kernel
theorem dX0_value_31 : decode cX0_value 31 = .ok (.getfield 76, 3) := by decide +kernel
theorem dX0_value_34 : decode cX0_value 34 = .ok (.iconst 4, 1) := by decide +kernel
theorem dX0_value_35 : decode cX0_value 35 = .ok (.iconst 0, 1) := by decide +kernel
theorem dX0_value_36 : decode cX0_value 36 = .ok (.invokevirtual 79, 3) := by decide +kernel
theorem dX0_value_39 : decode cX0_value 39 = .ok (.goto 4, 3) := by decide +kernel
theorem dX0_value_42 : decode cX0_value 42 = .ok (.iconst 0, 1) := by decide +kernel
theorem dX0_value_43 : decode cX0_value 43 = .ok (.ireturn, 1) := by decide +kernel
theorem dX0_value_44 : decode cX0_value 44 = .ok (.aload_n 0, 1) := by decide +kernel
theorem dX0_value_45 : decode cX0_value 45 = .ok (.getfield 67, 3) := by decide +kernel
theorem dX0_value_48 : decode cX0_value 48 = .ok (.iconst 1, 1) := by decide +kernel
theorem dX0_value_49 : decode cX0_value 49 = .ok (.if_icmp .ne 33, 3) := by decide +kernel
theorem dX0_value_52 : decode cX0_value 52 = .ok (.iload_n 2, 1) := by decide +kernel
theorem dX0_value_53 : decode cX0_value 53 = .ok (.ifCond .lt 29, 3) := by decide +kernel
theorem dX0_value_56 : decode cX0_value 56 = .ok (.iload_n 2, 1) := by decide +kernel
theorem dX0_value_57 : decode cX0_value 57 = .ok (.aload_n 0, 1) := by decide +kernel
theorem dX0_value_58 : decode cX0_value 58 = .ok (.aload_n 0, 1) := by decide +kernel
theorem dX0_value_59 : decode cX0_value 59 = .ok (.getfield 76, 3) := by decide +kernel
theorem dX0_value_62 : decode cX0_value 62 = .ok (.iload_n 1, 1) := by decide +kernel
theorem dX0_value_63 : decode cX0_value 63 = .ok (.invokevirtual 49, 3) := by decide +kernel
theorem dX0_value_66 : decode cX0_value 66 = .ok (.if_icmp .ge 16, 3) := by decide +kernel
theorem dX0_value_69 : decode cX0_value 69 = .ok (.aload_n 0, 1) := by decide +kernel
theorem dX0_value_70 : decode cX0_value 70 = .ok (.aload_n 0, 1) := by decide +kernel
theorem dX0_value_71 : decode cX0_value 71 = .ok (.getfield 76, 3) := by decide +kernel
theorem dX0_value_74 : decode cX0_value 74 = .ok (.iload_n 1, 1) := by decide +kernel
theorem dX0_value_75 : decode cX0_value 75 = .ok (.iload_n 2, 1) := by decide +kernel
theorem dX0_value_76 : decode cX0_value 76 = .ok (.invokevirtual 79, 3) := by decide +kernel
theorem dX0_value_79 : decode cX0_value 79 = .ok (.goto 4, 3) := by decide +kernel
theorem dX0_value_82 : decode cX0_value 82 = .ok (.iconst 0, 1) := by decide +kernel
theorem dX0_value_83 : decode cX0_value 83 = .ok (.ireturn, 1) := by decide +kernel
theorem q21 : (Jvm.Cond.initialized "ZoneLookup") ∈ lw_all := lw_g (lw_at lw_m1 1 rfl) rfl
theorem q24 : (Jvm.Cond.instantiable "ZoneLookup" (15 : Nat)) ∈ lw_all := lw_g (lw_at lw_m1 4 rfl) rfl
theorem q26 : (Jvm.Cond.instanceMethod ({ cls := "ZoneLookup", name := "<init>", desc := "()V" } : Jvm.MethodName)) ∈ lw_all := lw_g (lw_at lw_m1 6 rfl) rfl
theorem q27 : (Jvm.Cond.code ({ cls := "ZoneLookup", name := "<init>", desc := "()V" } : Jvm.MethodName) prog_1_method_1_code (1 : Nat) (Option.none : Option Jvm.ClassFile.FieldType)) ∈ lw_all := lw_g (lw_at lw_m1 7 rfl) rfl
theorem q28 : (Jvm.Cond.methodLink "ZoneLookup" (1 : Nat) ({ cls := "java/lang/Object", name := "<init>", desc := "()V" } : Jvm.MethodName)) ∈ lw_all := lw_g (lw_at lw_m1 8 rfl) rfl
theorem q31 : (Jvm.Cond.fieldLink "ZoneLookup" (34 : Nat) "ZoneLookup" "keyLength" "I") ∈ lw_all := lw_g (lw_at lw_m1 11 rfl) rfl
theorem q32 : (Jvm.Cond.fieldLink "ZoneLookup" (7 : Nat) "ZoneLookup" "key" "[I") ∈ lw_all := lw_g (lw_at lw_m1 12 rfl) rfl
theorem q33 : (Jvm.Cond.fieldLink "ZoneLookup" (13 : Nat) "ZoneLookup" "child" "[I") ∈ lw_all := lw_g (lw_at lw_m1 13 rfl) rfl
theorem q34 : (Jvm.Cond.fieldLink "ZoneLookup" (16 : Nat) "ZoneLookup" "numberOf" "[I") ∈ lw_all := lw_g (lw_at lw_m1 14 rfl) rfl
theorem q35 : (Jvm.Cond.fieldLink "ZoneLookup" (19 : Nat) "ZoneLookup" "below" "[I") ∈ lw_all := lw_g (lw_at lw_m1 15 rfl) rfl
theorem q36 : (Jvm.Cond.fieldLink "ZoneLookup" (38 : Nat) "ZoneLookup" "held" "I") ∈ lw_all := lw_g (lw_at lw_m1 16 rfl) rfl
theorem q37 : (Jvm.Cond.fieldLink "ZoneLookup" (22 : Nat) "ZoneLookup" "entryNode" "[I") ∈ lw_all := lw_g (lw_at lw_m1 17 rfl) rfl
theorem q38 : (Jvm.Cond.fieldLink "ZoneLookup" (25 : Nat) "ZoneLookup" "entrySort" "[I") ∈ lw_all := lw_g (lw_at lw_m1 18 rfl) rfl
theorem q39 : (Jvm.Cond.fieldLink "ZoneLookup" (28 : Nat) "ZoneLookup" "entryValue" "[I") ∈ lw_all := lw_g (lw_at lw_m1 19 rfl) rfl
theorem q40 : (Jvm.Cond.fieldLink "ZoneLookup" (67 : Nat) "ZoneLookup" "answer" "I") ∈ lw_all := lw_g (lw_at lw_m1 20 rfl) rfl
theorem q41 : (Jvm.Cond.fieldLink "ZoneLookup" (70 : Nat) "ZoneLookup" "answerPlace" "I") ∈ lw_all := lw_g (lw_at lw_m1 21 rfl) rfl
theorem q42 : (Jvm.Cond.fieldLink "ZoneLookup" (76 : Nat) "ZoneLookup" "answerNode" "I") ∈ lw_all := lw_g (lw_at lw_m1 22 rfl) rfl
theorem q43 : (Jvm.Cond.fieldLink "ZoneLookup" (73 : Nat) "ZoneLookup" "answerRounds" "I") ∈ lw_all := lw_g (lw_at lw_m1 23 rfl) rfl
theorem q44 : (Jvm.Cond.fieldLink "ZoneLookup" (82 : Nat) "ZoneLookup" "askedLength" "I") ∈ lw_all := lw_g (lw_at lw_m1 24 rfl) rfl
theorem q45 : (Jvm.Cond.fieldLink "ZoneLookup" (31 : Nat) "ZoneLookup" "asked" "[I") ∈ lw_all := lw_g (lw_at lw_m1 25 rfl) rfl
theorem q46 : (Jvm.Cond.lays "ZoneLookup" "ZoneLookup" "keyLength" "I") ∈ lw_all := lw_g (lw_at lw_m1 26 rfl) rfl
theorem q47 : (Jvm.Cond.soleField "ZoneLookup" "keyLength") ∈ lw_all := lw_g (lw_at lw_m1 27 rfl) rfl
theorem q48 : (Jvm.Cond.laysFinal "ZoneLookup" "ZoneLookup" "key" "[I") ∈ lw_all := lw_g (lw_at lw_m1 28 rfl) rfl
theorem q49 : (Jvm.Cond.soleField "ZoneLookup" "key") ∈ lw_all := lw_g (lw_at lw_m1 29 rfl) rfl
theorem q50 : (Jvm.Cond.laysFinal "ZoneLookup" "ZoneLookup" "child" "[I") ∈ lw_all := lw_g (lw_at lw_m1 30 rfl) rfl
theorem q51 : (Jvm.Cond.soleField "ZoneLookup" "child") ∈ lw_all := lw_g (lw_at lw_m1 31 rfl) rfl
theorem q52 : (Jvm.Cond.laysFinal "ZoneLookup" "ZoneLookup" "numberOf" "[I") ∈ lw_all := lw_g (lw_at lw_m1 32 rfl) rfl
theorem q53 : (Jvm.Cond.soleField "ZoneLookup" "numberOf") ∈ lw_all := lw_g (lw_at lw_m1 33 rfl) rfl
theorem q54 : (Jvm.Cond.laysFinal "ZoneLookup" "ZoneLookup" "below" "[I") ∈ lw_all := lw_g (lw_at lw_m1 34 rfl) rfl
theorem q55 : (Jvm.Cond.soleField "ZoneLookup" "below") ∈ lw_all := lw_g (lw_at lw_m1 35 rfl) rfl
theorem q56 : (Jvm.Cond.lays "ZoneLookup" "ZoneLookup" "held" "I") ∈ lw_all := lw_g (lw_at lw_m1 36 rfl) rfl
theorem q57 : (Jvm.Cond.soleField "ZoneLookup" "held") ∈ lw_all := lw_g (lw_at lw_m1 37 rfl) rfl
theorem q58 : (Jvm.Cond.laysFinal "ZoneLookup" "ZoneLookup" "entryNode" "[I") ∈ lw_all := lw_g (lw_at lw_m1 38 rfl) rfl
theorem q59 : (Jvm.Cond.soleField "ZoneLookup" "entryNode") ∈ lw_all := lw_g (lw_at lw_m1 39 rfl) rfl
theorem q60 : (Jvm.Cond.laysFinal "ZoneLookup" "ZoneLookup" "entrySort" "[I") ∈ lw_all := lw_g (lw_at lw_m1 40 rfl) rfl
theorem q61 : (Jvm.Cond.soleField "ZoneLookup" "entrySort") ∈ lw_all := lw_g (lw_at lw_m1 41 rfl) rfl
theorem q62 : (Jvm.Cond.laysFinal "ZoneLookup" "ZoneLookup" "entryValue" "[I") ∈ lw_all := lw_g (lw_at lw_m1 42 rfl) rfl
theorem q63 : (Jvm.Cond.soleField "ZoneLookup" "entryValue") ∈ lw_all := lw_g (lw_at lw_m1 43 rfl) rfl
theorem q64 : (Jvm.Cond.lays "ZoneLookup" "ZoneLookup" "answer" "I") ∈ lw_all := lw_g (lw_at lw_m1 44 rfl) rfl
theorem q65 : (Jvm.Cond.soleField "ZoneLookup" "answer") ∈ lw_all := lw_g (lw_at lw_m1 45 rfl) rfl
theorem q66 : (Jvm.Cond.lays "ZoneLookup" "ZoneLookup" "answerPlace" "I") ∈ lw_all := lw_g (lw_at lw_m1 46 rfl) rfl
theorem q67 : (Jvm.Cond.soleField "ZoneLookup" "answerPlace") ∈ lw_all := lw_g (lw_at lw_m1 47 rfl) rfl
theorem q68 : (Jvm.Cond.lays "ZoneLookup" "ZoneLookup" "answerNode" "I") ∈ lw_all := lw_g (lw_at lw_m1 48 rfl) rfl
theorem q69 : (Jvm.Cond.soleField "ZoneLookup" "answerNode") ∈ lw_all := lw_g (lw_at lw_m1 49 rfl) rfl
theorem q70 : (Jvm.Cond.lays "ZoneLookup" "ZoneLookup" "answerRounds" "I") ∈ lw_all := lw_g (lw_at lw_m1 50 rfl) rfl
theorem q71 : (Jvm.Cond.soleField "ZoneLookup" "answerRounds") ∈ lw_all := lw_g (lw_at lw_m1 51 rfl) rfl
theorem q72 : (Jvm.Cond.lays "ZoneLookup" "ZoneLookup" "askedLength" "I") ∈ lw_all := lw_g (lw_at lw_m1 52 rfl) rfl
theorem q73 : (Jvm.Cond.soleField "ZoneLookup" "askedLength") ∈ lw_all := lw_g (lw_at lw_m1 53 rfl) rfl
theorem q74 : (Jvm.Cond.laysFinal "ZoneLookup" "ZoneLookup" "asked" "[I") ∈ lw_all := lw_g (lw_at lw_m1 54 rfl) rfl
theorem q75 : (Jvm.Cond.soleField "ZoneLookup" "asked") ∈ lw_all := lw_g (lw_at lw_m1 55 rfl) rfl
end
section
set_option maxRecDepth 100000
theorem q76 : (Jvm.Cond.superclass "ZoneLookup" "java/lang/Object") ∈ lw_all := lw_g (lw_at lw_m1 56 rfl) rfl
theorem q79 : (Jvm.Cond.instanceMethod ({ cls := "ZoneLookup", name := "label", desc := "(I)I" } : Jvm.MethodName)) ∈ lw_all := lw_g (lw_at lw_m1 59 rfl) rfl
theorem q80 : (Jvm.Cond.selects "ZoneLookup" ({ cls := "ZoneLookup", name := "label", desc := "(I)I" } : Jvm.MethodName) ({ cls := "ZoneLookup", name := "label", desc := "(I)I" } : Jvm.MethodName)) ∈ lw_all := lw_g (lw_at lw_m1 60 rfl) rfl
theorem q81 : (Jvm.Cond.code ({ cls := "ZoneLookup", name := "label", desc := "(I)I" } : Jvm.MethodName) prog_1_method_2_code (2 : Nat) (Option.some Jvm.ClassFile.FieldType.int)) ∈ lw_all := lw_g (lw_at lw_m1 61 rfl) rfl
theorem q83 : (Jvm.Cond.instanceMethod ({ cls := "ZoneLookup", name := "back", desc := "()I" } : Jvm.MethodName)) ∈ lw_all := lw_g (lw_at lw_m1 63 rfl) rfl
theorem q84 : (Jvm.Cond.selects "ZoneLookup" ({ cls := "ZoneLookup", name := "back", desc := "()I" } : Jvm.MethodName) ({ cls := "ZoneLookup", name := "back", desc := "()I" } : Jvm.MethodName)) ∈ lw_all := lw_g (lw_at lw_m1 64 rfl) rfl
theorem q85 : (Jvm.Cond.code ({ cls := "ZoneLookup", name := "back", desc := "()I" } : Jvm.MethodName) prog_1_method_3_code (1 : Nat) (Option.some Jvm.ClassFile.FieldType.int)) ∈ lw_all := lw_g (lw_at lw_m1 65 rfl) rfl
theorem q87 : (Jvm.Cond.instanceMethod ({ cls := "ZoneLookup", name := "erase", desc := "()V" } : Jvm.MethodName)) ∈ lw_all := lw_g (lw_at lw_m1 67 rfl) rfl
theorem q88 : (Jvm.Cond.selects "ZoneLookup" ({ cls := "ZoneLookup", name := "erase", desc := "()V" } : Jvm.MethodName) ({ cls := "ZoneLookup", name := "erase", desc := "()V" } : Jvm.MethodName)) ∈ lw_all := lw_g (lw_at lw_m1 68 rfl) rfl
theorem q89 : (Jvm.Cond.code ({ cls := "ZoneLookup", name := "erase", desc := "()V" } : Jvm.MethodName) prog_1_method_4_code (1 : Nat) (Option.none : Option Jvm.ClassFile.FieldType)) ∈ lw_all := lw_g (lw_at lw_m1 69 rfl) rfl
theorem q91 : (Jvm.Cond.instanceMethod ({ cls := "ZoneLookup", name := "number", desc := "()I" } : Jvm.MethodName)) ∈ lw_all := lw_g (lw_at lw_m1 71 rfl) rfl
theorem q92 : (Jvm.Cond.selects "ZoneLookup" ({ cls := "ZoneLookup", name := "number", desc := "()I" } : Jvm.MethodName) ({ cls := "ZoneLookup", name := "number", desc := "()I" } : Jvm.MethodName)) ∈ lw_all := lw_g (lw_at lw_m1 72 rfl) rfl
theorem q93 : (Jvm.Cond.code ({ cls := "ZoneLookup", name := "number", desc := "()I" } : Jvm.MethodName) prog_1_method_5_code (3 : Nat) (Option.some Jvm.ClassFile.FieldType.int)) ∈ lw_all := lw_g (lw_at lw_m1 73 rfl) rfl
theorem q95 : (Jvm.Cond.instanceMethod ({ cls := "ZoneLookup", name := "add", desc := "(II)I" } : Jvm.MethodName)) ∈ lw_all := lw_g (lw_at lw_m1 75 rfl) rfl
theorem q96 : (Jvm.Cond.selects "ZoneLookup" ({ cls := "ZoneLookup", name := "add", desc := "(II)I" } : Jvm.MethodName) ({ cls := "ZoneLookup", name := "add", desc := "(II)I" } : Jvm.MethodName)) ∈ lw_all := lw_g (lw_at lw_m1 76 rfl) rfl
theorem q97 : (Jvm.Cond.code ({ cls := "ZoneLookup", name := "add", desc := "(II)I" } : Jvm.MethodName) prog_1_method_6_code (5 : Nat) (Option.some Jvm.ClassFile.FieldType.int)) ∈ lw_all := lw_g (lw_at lw_m1 77 rfl) rfl
theorem q98 : (Jvm.Cond.methodLink "ZoneLookup" (41 : Nat) ({ cls := "ZoneLookup", name := "isNumber", desc := "(I)Z" } : Jvm.MethodName)) ∈ lw_all := lw_g (lw_at lw_m1 78 rfl) rfl
theorem q99 : (Jvm.Cond.static ({ cls := "ZoneLookup", name := "isNumber", desc := "(I)Z" } : Jvm.MethodName)) ∈ lw_all := lw_g (lw_at lw_m1 79 rfl) rfl
theorem q100 : (Jvm.Cond.code ({ cls := "ZoneLookup", name := "isNumber", desc := "(I)Z" } : Jvm.MethodName) prog_1_method_13_code (3 : Nat) (Option.some Jvm.ClassFile.FieldType.boolean)) ∈ lw_all := lw_g (lw_at lw_m1 80 rfl) rfl
theorem q101 : (Jvm.Cond.methodLink "ZoneLookup" (45 : Nat) ({ cls := "ZoneLookup", name := "findNode", desc := "()I" } : Jvm.MethodName)) ∈ lw_all := lw_g (lw_at lw_m1 81 rfl) rfl
theorem q102 : (Jvm.Cond.privateMethod ({ cls := "ZoneLookup", name := "findNode", desc := "()I" } : Jvm.MethodName)) ∈ lw_tbl := lw_at lw_m1 82 rfl
theorem q103 : (Jvm.Cond.instanceMethod ({ cls := "ZoneLookup", name := "findNode", desc := "()I" } : Jvm.MethodName)) ∈ lw_all := lw_g (lw_at lw_m1 83 rfl) rfl
theorem q104 : (Jvm.Cond.code ({ cls := "ZoneLookup", name := "findNode", desc := "()I" } : Jvm.MethodName) prog_1_method_15_code (3 : Nat) (Option.some Jvm.ClassFile.FieldType.int)) ∈ lw_all := lw_g (lw_at lw_m1 84 rfl) rfl
theorem q105 : (Jvm.Cond.methodLink "ZoneLookup" (49 : Nat) ({ cls := "ZoneLookup", name := "count", desc := "(II)I" } : Jvm.MethodName)) ∈ lw_all := lw_g (lw_at lw_m1 85 rfl) rfl
theorem q106 : (Jvm.Cond.privateMethod ({ cls := "ZoneLookup", name := "count", desc := "(II)I" } : Jvm.MethodName)) ∈ lw_tbl := lw_at lw_m1 86 rfl
theorem q107 : (Jvm.Cond.instanceMethod ({ cls := "ZoneLookup", name := "count", desc := "(II)I" } : Jvm.MethodName)) ∈ lw_all := lw_g (lw_at lw_m1 87 rfl) rfl
theorem q108 : (Jvm.Cond.code ({ cls := "ZoneLookup", name := "count", desc := "(II)I" } : Jvm.MethodName) prog_1_method_19_code (5 : Nat) (Option.some Jvm.ClassFile.FieldType.int)) ∈ lw_all := lw_g (lw_at lw_m1 88 rfl) rfl
theorem q109 : (Jvm.Cond.methodLink "ZoneLookup" (53 : Nat) ({ cls := "ZoneLookup", name := "entryAt", desc := "(III)I" } : Jvm.MethodName)) ∈ lw_all := lw_g (lw_at lw_m1 89 rfl) rfl
theorem q110 : (Jvm.Cond.privateMethod ({ cls := "ZoneLookup", name := "entryAt", desc := "(III)I" } : Jvm.MethodName)) ∈ lw_tbl := lw_at lw_m1 90 rfl
theorem q111 : (Jvm.Cond.instanceMethod ({ cls := "ZoneLookup", name := "entryAt", desc := "(III)I" } : Jvm.MethodName)) ∈ lw_all := lw_g (lw_at lw_m1 91 rfl) rfl
theorem q112 : (Jvm.Cond.code ({ cls := "ZoneLookup", name := "entryAt", desc := "(III)I" } : Jvm.MethodName) prog_1_method_20_code (5 : Nat) (Option.some Jvm.ClassFile.FieldType.int)) ∈ lw_all := lw_g (lw_at lw_m1 92 rfl) rfl
theorem q113 : (Jvm.Cond.methodLink "ZoneLookup" (57 : Nat) ({ cls := "ZoneLookup", name := "growNode", desc := "()I" } : Jvm.MethodName)) ∈ lw_all := lw_g (lw_at lw_m1 93 rfl) rfl
theorem q114 : (Jvm.Cond.privateMethod ({ cls := "ZoneLookup", name := "growNode", desc := "()I" } : Jvm.MethodName)) ∈ lw_tbl := lw_at lw_m1 94 rfl
theorem q115 : (Jvm.Cond.instanceMethod ({ cls := "ZoneLookup", name := "growNode", desc := "()I" } : Jvm.MethodName)) ∈ lw_all := lw_g (lw_at lw_m1 95 rfl) rfl
theorem q116 : (Jvm.Cond.code ({ cls := "ZoneLookup", name := "growNode", desc := "()I" } : Jvm.MethodName) prog_1_method_16_code (4 : Nat) (Option.some Jvm.ClassFile.FieldType.int)) ∈ lw_all := lw_g (lw_at lw_m1 96 rfl) rfl
theorem q117 : (Jvm.Cond.methodLink "ZoneLookup" (85 : Nat) ({ cls := "ZoneLookup", name := "freeNode", desc := "()I" } : Jvm.MethodName)) ∈ lw_all := lw_g (lw_at lw_m1 97 rfl) rfl
theorem q118 : (Jvm.Cond.privateMethod ({ cls := "ZoneLookup", name := "freeNode", desc := "()I" } : Jvm.MethodName)) ∈ lw_tbl := lw_at lw_m1 98 rfl
theorem q119 : (Jvm.Cond.instanceMethod ({ cls := "ZoneLookup", name := "freeNode", desc := "()I" } : Jvm.MethodName)) ∈ lw_all := lw_g (lw_at lw_m1 99 rfl) rfl
theorem q120 : (Jvm.Cond.code ({ cls := "ZoneLookup", name := "freeNode", desc := "()I" } : Jvm.MethodName) prog_1_method_17_code (2 : Nat) (Option.some Jvm.ClassFile.FieldType.int)) ∈ lw_all := lw_g (lw_at lw_m1 100 rfl) rfl
theorem q122 : (Jvm.Cond.instanceMethod ({ cls := "ZoneLookup", name := "remove", desc := "(II)I" } : Jvm.MethodName)) ∈ lw_all := lw_g (lw_at lw_m1 102 rfl) rfl
theorem q123 : (Jvm.Cond.selects "ZoneLookup" ({ cls := "ZoneLookup", name := "remove", desc := "(II)I" } : Jvm.MethodName) ({ cls := "ZoneLookup", name := "remove", desc := "(II)I" } : Jvm.MethodName)) ∈ lw_all := lw_g (lw_at lw_m1 103 rfl) rfl
theorem q124 : (Jvm.Cond.code ({ cls := "ZoneLookup", name := "remove", desc := "(II)I" } : Jvm.MethodName) prog_1_method_7_code (5 : Nat) (Option.some Jvm.ClassFile.FieldType.int)) ∈ lw_all := lw_g (lw_at lw_m1 104 rfl) rfl
theorem q125 : (Jvm.Cond.methodLink "ZoneLookup" (60 : Nat) ({ cls := "ZoneLookup", name := "shrinkPath", desc := "()V" } : Jvm.MethodName)) ∈ lw_all := lw_g (lw_at lw_m1 105 rfl) rfl
theorem q126 : (Jvm.Cond.privateMethod ({ cls := "ZoneLookup", name := "shrinkPath", desc := "()V" } : Jvm.MethodName)) ∈ lw_tbl := lw_at lw_m1 106 rfl
theorem q127 : (Jvm.Cond.instanceMethod ({ cls := "ZoneLookup", name := "shrinkPath", desc := "()V" } : Jvm.MethodName)) ∈ lw_all := lw_g (lw_at lw_m1 107 rfl) rfl
theorem q128 : (Jvm.Cond.code ({ cls := "ZoneLookup", name := "shrinkPath", desc := "()V" } : Jvm.MethodName) prog_1_method_18_code (4 : Nat) (Option.none : Option Jvm.ClassFile.FieldType)) ∈ lw_all := lw_g (lw_at lw_m1 108 rfl) rfl
theorem q130 : (Jvm.Cond.instanceMethod ({ cls := "ZoneLookup", name := "exists", desc := "()I" } : Jvm.MethodName)) ∈ lw_all := lw_g (lw_at lw_m1 110 rfl) rfl
theorem q131 : (Jvm.Cond.selects "ZoneLookup" ({ cls := "ZoneLookup", name := "exists", desc := "()I" } : Jvm.MethodName) ({ cls := "ZoneLookup", name := "exists", desc := "()I" } : Jvm.MethodName)) ∈ lw_all := lw_g (lw_at lw_m1 111 rfl) rfl
theorem q132 : (Jvm.Cond.code ({ cls := "ZoneLookup", name := "exists", desc := "()I" } : Jvm.MethodName) prog_1_method_8_code (1 : Nat) (Option.some Jvm.ClassFile.FieldType.int)) ∈ lw_all := lw_g (lw_at lw_m1 112 rfl) rfl
theorem q134 : (Jvm.Cond.instanceMethod ({ cls := "ZoneLookup", name := "look", desc := "(I)I" } : Jvm.MethodName)) ∈ lw_all := lw_g (lw_at lw_m1 114 rfl) rfl
theorem q135 : (Jvm.Cond.selects "ZoneLookup" ({ cls := "ZoneLookup", name := "look", desc := "(I)I" } : Jvm.MethodName) ({ cls := "ZoneLookup", name := "look", desc := "(I)I" } : Jvm.MethodName)) ∈ lw_all := lw_g (lw_at lw_m1 115 rfl) rfl
theorem q136 : (Jvm.Cond.code ({ cls := "ZoneLookup", name := "look", desc := "(I)I" } : Jvm.MethodName) prog_1_method_9_code (2 : Nat) (Option.some Jvm.ClassFile.FieldType.int)) ∈ lw_all := lw_g (lw_at lw_m1 116 rfl) rfl
theorem q137 : (Jvm.Cond.methodLink "ZoneLookup" (63 : Nat) ({ cls := "ZoneLookup", name := "lookUp", desc := "(I)V" } : Jvm.MethodName)) ∈ lw_all := lw_g (lw_at lw_m1 117 rfl) rfl
theorem q138 : (Jvm.Cond.privateMethod ({ cls := "ZoneLookup", name := "lookUp", desc := "(I)V" } : Jvm.MethodName)) ∈ lw_tbl := lw_at lw_m1 118 rfl
theorem q139 : (Jvm.Cond.instanceMethod ({ cls := "ZoneLookup", name := "lookUp", desc := "(I)V" } : Jvm.MethodName)) ∈ lw_all := lw_g (lw_at lw_m1 119 rfl) rfl
theorem q140 : (Jvm.Cond.code ({ cls := "ZoneLookup", name := "lookUp", desc := "(I)V" } : Jvm.MethodName) prog_1_method_22_code (3 : Nat) (Option.none : Option Jvm.ClassFile.FieldType)) ∈ lw_all := lw_g (lw_at lw_m1 120 rfl) rfl
theorem q141 : (Jvm.Cond.methodLink "ZoneLookup" (88 : Nat) ({ cls := "ZoneLookup", name := "walk", desc := "(I)V" } : Jvm.MethodName)) ∈ lw_all := lw_g (lw_at lw_m1 121 rfl) rfl
theorem q142 : (Jvm.Cond.privateMethod ({ cls := "ZoneLookup", name := "walk", desc := "(I)V" } : Jvm.MethodName)) ∈ lw_tbl := lw_at lw_m1 122 rfl
theorem q143 : (Jvm.Cond.instanceMethod ({ cls := "ZoneLookup", name := "walk", desc := "(I)V" } : Jvm.MethodName)) ∈ lw_all := lw_g (lw_at lw_m1 123 rfl) rfl
theorem q144 : (Jvm.Cond.code ({ cls := "ZoneLookup", name := "walk", desc := "(I)V" } : Jvm.MethodName) prog_1_method_23_code (7 : Nat) (Option.none : Option Jvm.ClassFile.FieldType)) ∈ lw_all := lw_g (lw_at lw_m1 124 rfl) rfl
theorem q145 : (Jvm.Cond.methodLink "ZoneLookup" (91 : Nat) ({ cls := "ZoneLookup", name := "settle", desc := "(II)V" } : Jvm.MethodName)) ∈ lw_all := lw_g (lw_at lw_m1 125 rfl) rfl
theorem q146 : (Jvm.Cond.privateMethod ({ cls := "ZoneLookup", name := "settle", desc := "(II)V" } : Jvm.MethodName)) ∈ lw_tbl := lw_at lw_m1 126 rfl
theorem q147 : (Jvm.Cond.instanceMethod ({ cls := "ZoneLookup", name := "settle", desc := "(II)V" } : Jvm.MethodName)) ∈ lw_all := lw_g (lw_at lw_m1 127 rfl) rfl
theorem q148 : (Jvm.Cond.code ({ cls := "ZoneLookup", name := "settle", desc := "(II)V" } : Jvm.MethodName) prog_1_method_25_code (3 : Nat) (Option.none : Option Jvm.ClassFile.FieldType)) ∈ lw_all := lw_g (lw_at lw_m1 128 rfl) rfl
theorem q149 : (Jvm.Cond.methodLink "ZoneLookup" (95 : Nat) ({ cls := "ZoneLookup", name := "askedNumber", desc := "()I" } : Jvm.MethodName)) ∈ lw_all := lw_g (lw_at lw_m1 129 rfl) rfl
theorem q150 : (Jvm.Cond.privateMethod ({ cls := "ZoneLookup", name := "askedNumber", desc := "()I" } : Jvm.MethodName)) ∈ lw_tbl := lw_at lw_m1 130 rfl
theorem q151 : (Jvm.Cond.instanceMethod ({ cls := "ZoneLookup", name := "askedNumber", desc := "()I" } : Jvm.MethodName)) ∈ lw_all := lw_g (lw_at lw_m1 131 rfl) rfl
theorem q152 : (Jvm.Cond.code ({ cls := "ZoneLookup", name := "askedNumber", desc := "()I" } : Jvm.MethodName) prog_1_method_26_code (3 : Nat) (Option.some Jvm.ClassFile.FieldType.int)) ∈ lw_all := lw_g (lw_at lw_m1 132 rfl) rfl
theorem q153 : (Jvm.Cond.methodLink "ZoneLookup" (98 : Nat) ({ cls := "ZoneLookup", name := "decide", desc := "(II)V" } : Jvm.MethodName)) ∈ lw_all := lw_g (lw_at lw_m1 133 rfl) rfl
theorem q154 : (Jvm.Cond.privateMethod ({ cls := "ZoneLookup", name := "decide", desc := "(II)V" } : Jvm.MethodName)) ∈ lw_tbl := lw_at lw_m1 134 rfl
theorem q155 : (Jvm.Cond.instanceMethod ({ cls := "ZoneLookup", name := "decide", desc := "(II)V" } : Jvm.MethodName)) ∈ lw_all := lw_g (lw_at lw_m1 135 rfl) rfl
theorem q156 : (Jvm.Cond.code ({ cls := "ZoneLookup", name := "decide", desc := "(II)V" } : Jvm.MethodName) prog_1_method_24_code (4 : Nat) (Option.none : Option Jvm.ClassFile.FieldType)) ∈ lw_all := lw_g (lw_at lw_m1 136 rfl) rfl
theorem q157 : (Jvm.Cond.methodLink "ZoneLookup" (79 : Nat) ({ cls := "ZoneLookup", name := "ranked", desc := "(III)I" } : Jvm.MethodName)) ∈ lw_all := lw_g (lw_at lw_m1 137 rfl) rfl
theorem q158 : (Jvm.Cond.privateMethod ({ cls := "ZoneLookup", name := "ranked", desc := "(III)I" } : Jvm.MethodName)) ∈ lw_tbl := lw_at lw_m1 138 rfl
theorem q159 : (Jvm.Cond.instanceMethod ({ cls := "ZoneLookup", name := "ranked", desc := "(III)I" } : Jvm.MethodName)) ∈ lw_all := lw_g (lw_at lw_m1 139 rfl) rfl
theorem q160 : (Jvm.Cond.code ({ cls := "ZoneLookup", name := "ranked", desc := "(III)I" } : Jvm.MethodName) prog_1_method_21_code (8 : Nat) (Option.some Jvm.ClassFile.FieldType.int)) ∈ lw_all := lw_g (lw_at lw_m1 140 rfl) rfl
theorem q161 : (Jvm.Cond.methodLink "ZoneLookup" (101 : Nat) ({ cls := "ZoneLookup", name := "askNumber", desc := "(I)V" } : Jvm.MethodName)) ∈ lw_all := lw_g (lw_at lw_m1 141 rfl) rfl
theorem q162 : (Jvm.Cond.privateMethod ({ cls := "ZoneLookup", name := "askNumber", desc := "(I)V" } : Jvm.MethodName)) ∈ lw_tbl := lw_at lw_m1 142 rfl
theorem q163 : (Jvm.Cond.instanceMethod ({ cls := "ZoneLookup", name := "askNumber", desc := "(I)V" } : Jvm.MethodName)) ∈ lw_all := lw_g (lw_at lw_m1 143 rfl) rfl
theorem q164 : (Jvm.Cond.code ({ cls := "ZoneLookup", name := "askNumber", desc := "(I)V" } : Jvm.MethodName) prog_1_method_14_code (4 : Nat) (Option.none : Option Jvm.ClassFile.FieldType)) ∈ lw_all := lw_g (lw_at lw_m1 144 rfl) rfl
theorem q166 : (Jvm.Cond.instanceMethod ({ cls := "ZoneLookup", name := "place", desc := "(I)I" } : Jvm.MethodName)) ∈ lw_all := lw_g (lw_at lw_m1 146 rfl) rfl
theorem q167 : (Jvm.Cond.selects "ZoneLookup" ({ cls := "ZoneLookup", name := "place", desc := "(I)I" } : Jvm.MethodName) ({ cls := "ZoneLookup", name := "place", desc := "(I)I" } : Jvm.MethodName)) ∈ lw_all := lw_g (lw_at lw_m1 147 rfl) rfl
theorem q168 : (Jvm.Cond.code ({ cls := "ZoneLookup", name := "place", desc := "(I)I" } : Jvm.MethodName) prog_1_method_10_code (2 : Nat) (Option.some Jvm.ClassFile.FieldType.int)) ∈ lw_all := lw_g (lw_at lw_m1 148 rfl) rfl
theorem q170 : (Jvm.Cond.instanceMethod ({ cls := "ZoneLookup", name := "rounds", desc := "(I)I" } : Jvm.MethodName)) ∈ lw_all := lw_g (lw_at lw_m1 150 rfl) rfl
theorem q171 : (Jvm.Cond.selects "ZoneLookup" ({ cls := "ZoneLookup", name := "rounds", desc := "(I)I" } : Jvm.MethodName) ({ cls := "ZoneLookup", name := "rounds", desc := "(I)I" } : Jvm.MethodName)) ∈ lw_all := lw_g (lw_at lw_m1 151 rfl) rfl
theorem q172 : (Jvm.Cond.code ({ cls := "ZoneLookup", name := "rounds", desc := "(I)I" } : Jvm.MethodName) prog_1_method_11_code (2 : Nat) (Option.some Jvm.ClassFile.FieldType.int)) ∈ lw_all := lw_g (lw_at lw_m1 152 rfl) rfl
theorem q174 : (Jvm.Cond.instanceMethod ({ cls := "ZoneLookup", name := "value", desc := "(II)I" } : Jvm.MethodName)) ∈ lw_all := lw_g (lw_at lw_m1 154 rfl) rfl
theorem q175 : (Jvm.Cond.selects "ZoneLookup" ({ cls := "ZoneLookup", name := "value", desc := "(II)I" } : Jvm.MethodName) ({ cls := "ZoneLookup", name := "value", desc := "(II)I" } : Jvm.MethodName)) ∈ lw_all := lw_g (lw_at lw_m1 155 rfl) rfl
theorem q176 : (Jvm.Cond.code ({ cls := "ZoneLookup", name := "value", desc := "(II)I" } : Jvm.MethodName) prog_1_method_12_code (3 : Nat) (Option.some Jvm.ClassFile.FieldType.int)) ∈ lw_all := lw_g (lw_at lw_m1 156 rfl) rfl
theorem in_X0 : ∀ w ∈ wsX00, w ∈ lw_all := lw_in wsX00 [46, 48, 50, 52, 54, 56, 58, 60, 62, 64, 66, 68, 70, 72, 74] (by decide +kernel) (by decide +kernel)
end
section
set_option maxRecDepth 100000
/-! ZoneLookupModel -/
def RX1 : String := "ZoneLookupModel"
def TX1 : u_T := fun k => match k with
  | 0 => ("ZoneLookupModel", "entries", "I", false)
  | 1 => ("ZoneLookupModel", "names", "[I", true)
  | 2 => ("ZoneLookupModel", "sorts", "[I", true)
  | 3 => ("ZoneLookupModel", "values", "[I", true)
  | 4 => ("ZoneLookupModel", "key", "I", false)
  | 5 => ("ZoneLookupModel", "labels", "I", false)
  | 6 => ("ZoneLookupModel", "place", "I", false)
  | _ => ("ZoneLookupModel", "rounds", "I", false)
def tyX1 : Nat → FieldType := fun k => match k with
  | 0 => .int
  | 1 => .array .int
  | 2 => .array .int
  | 3 => .array .int
  | 4 => .int
  | 5 => .int
  | 6 => .int
  | _ => .int
abbrev wsX10 : List Cond := u_ws RX1 TX1 8
theorem nmX1 : ∀ a, a < 8 → ∀ b, b < 8 → a ≠ b → (TX1 a).2.1 ≠ (TX1 b).2.1 := by decide +kernel
theorem tyX1_ok : ∀ k, k < 8 → parseFieldDescriptor (TX1 k).2.2.1 = some (tyX1 k) := by decide +kernel
abbrev cX1_init : ByteArray := prog_3_method_1_code
def yX1_init : MethodName := ⟨RX1, "<init>", "()V"⟩
theorem dX1_init_0 : decode cX1_init 0 = .ok (.aload_n 0, 1) := by decide +kernel
theorem dX1_init_1 : decode cX1_init 1 = .ok (.invokespecial 1, 3) := by decide +kernel
theorem dX1_init_4 : decode cX1_init 4 = .ok (.aload_n 0, 1) := by decide +kernel
theorem dX1_init_5 : decode cX1_init 5 = .ok (.bipush 24, 2) := by decide +kernel
theorem dX1_init_7 : decode cX1_init 7 = .ok (.newarray .int, 2) := by decide +kernel
theorem dX1_init_9 : decode cX1_init 9 = .ok (.putfield 7, 3) := by decide +kernel
theorem dX1_init_12 : decode cX1_init 12 = .ok (.aload_n 0, 1) := by decide +kernel
theorem dX1_init_13 : decode cX1_init 13 = .ok (.bipush 24, 2) := by decide +kernel
theorem dX1_init_15 : decode cX1_init 15 = .ok (.newarray .int, 2) := by decide +kernel
theorem dX1_init_17 : decode cX1_init 17 = .ok (.putfield 13, 3) := by decide +kernel
theorem dX1_init_20 : decode cX1_init 20 = .ok (.aload_n 0, 1) := by decide +kernel
theorem dX1_init_21 : decode cX1_init 21 = .ok (.bipush 24, 2) := by decide +kernel
theorem dX1_init_23 : decode cX1_init 23 = .ok (.newarray .int, 2) := by decide +kernel
theorem dX1_init_25 : decode cX1_init 25 = .ok (.putfield 16, 3) := by decide +kernel
theorem dX1_init_28 : decode cX1_init 28 = .ok (.return_, 1) := by decide +kernel
abbrev cX1_label : ByteArray := prog_3_method_2_code
def yX1_label : MethodName := ⟨RX1, "label", "(I)I"⟩
theorem dX1_label_0 : decode cX1_label 0 = .ok (.aload_n 0, 1) := by decide +kernel
theorem dX1_label_1 : decode cX1_label 1 = .ok (.getfield 19, 3) := by decide +kernel
theorem dX1_label_4 : decode cX1_label 4 = .ok (.iconst 4, 1) := by decide +kernel
theorem dX1_label_5 : decode cX1_label 5 = .ok (.if_icmp .ne 5, 3) := by decide +kernel
theorem dX1_label_8 : decode cX1_label 8 = .ok (.iconst (-1), 1) := by decide +kernel
theorem dX1_label_9 : decode cX1_label 9 = .ok (.ireturn, 1) := by decide +kernel
theorem dX1_label_10 : decode cX1_label 10 = .ok (.aload_n 0, 1) := by decide +kernel
theorem dX1_label_11 : decode cX1_label 11 = .ok (.aload_n 0, 1) := by decide +kernel
theorem dX1_label_12 : decode cX1_label 12 = .ok (.getfield 23, 3) := by decide +kernel
theorem dX1_label_15 : decode cX1_label 15 = .ok (.bipush 9, 2) := by decide +kernel
theorem dX1_label_17 : decode cX1_label 17 = .ok (.imul, 1) := by decide +kernel
theorem dX1_label_18 : decode cX1_label 18 = .ok (.iload_n 1, 1) := by decide +kernel
theorem dX1_label_19 : decode cX1_label 19 = .ok (.bipush 7, 2) := by decide +kernel
theorem dX1_label_21 : decode cX1_label 21 = .ok (.iand, 1) := by decide +kernel
theorem dX1_label_22 : decode cX1_label 22 = .ok (.iadd, 1) := by decide +kernel
theorem dX1_label_23 : decode cX1_label 23 = .ok (.iconst 1, 1) := by decide +kernel
theorem dX1_label_24 : decode cX1_label 24 = .ok (.iadd, 1) := by decide +kernel
theorem dX1_label_25 : decode cX1_label 25 = .ok (.putfield 23, 3) := by decide +kernel
theorem dX1_label_28 : decode cX1_label 28 = .ok (.aload_n 0, 1) := by decide +kernel
theorem dX1_label_29 : decode cX1_label 29 = .ok (.dup, 1) := by decide +kernel
theorem dX1_label_30 : decode cX1_label 30 = .ok (.getfield 19, 3) := by decide +kernel
theorem dX1_label_33 : decode cX1_label 33 = .ok (.iconst 1, 1) := by decide +kernel
theorem dX1_label_34 : decode cX1_label 34 = .ok (.iadd, 1) := by decide +kernel
theorem dX1_label_35 : decode cX1_label 35 = .ok (.putfield 19, 3) := by decide +kernel
theorem dX1_label_38 : decode cX1_label 38 = .ok (.aload_n 0, 1) := by decide +kernel
theorem dX1_label_39 : decode cX1_label 39 = .ok (.getfield 19, 3) := by decide +kernel
theorem dX1_label_42 : decode cX1_label 42 = .ok (.ireturn, 1) := by decide +kernel
abbrev cX1_back : ByteArray := prog_3_method_3_code
def yX1_back : MethodName := ⟨RX1, "back", "()I"⟩
theorem dX1_back_0 : decode cX1_back 0 = .ok (.aload_n 0, 1) := by decide +kernel
theorem dX1_back_1 : decode cX1_back 1 = .ok (.getfield 19, 3) := by decide +kernel
theorem dX1_back_4 : decode cX1_back 4 = .ok (.ifCond .ne 5, 3) := by decide +kernel
theorem dX1_back_7 : decode cX1_back 7 = .ok (.iconst (-1), 1) := by decide +kernel
theorem dX1_back_8 : decode cX1_back 8 = .ok (.ireturn, 1) := by decide +kernel
theorem dX1_back_9 : decode cX1_back 9 = .ok (.aload_n 0, 1) := by decide +kernel
theorem dX1_back_10 : decode cX1_back 10 = .ok (.getfield 23, 3) := by decide +kernel
theorem dX1_back_13 : decode cX1_back 13 = .ok (.bipush 9, 2) := by decide +kernel
theorem dX1_back_15 : decode cX1_back 15 = .ok (.irem, 1) := by decide +kernel
theorem dX1_back_16 : decode cX1_back 16 = .ok (.iconst 1, 1) := by decide +kernel
theorem dX1_back_17 : decode cX1_back 17 = .ok (.isub, 1) := by decide +kernel
theorem dX1_back_18 : decode cX1_back 18 = .ok (.istore_n 1, 1) := by decide +kernel
theorem dX1_back_19 : decode cX1_back 19 = .ok (.aload_n 0, 1) := by decide +kernel
theorem dX1_back_20 : decode cX1_back 20 = .ok (.aload_n 0, 1) := by decide +kernel
theorem dX1_back_21 : decode cX1_back 21 = .ok (.getfield 23, 3) := by decide +kernel
theorem dX1_back_24 : decode cX1_back 24 = .ok (.bipush 9, 2) := by decide +kernel
theorem dX1_back_26 : decode cX1_back 26 = .ok (.idiv, 1) := by decide +kernel
theorem dX1_back_27 : decode cX1_back 27 = .ok (.putfield 23, 3) := by decide +kernel
theorem dX1_back_30 : decode cX1_back 30 = .ok (.aload_n 0, 1) := by decide +kernel
theorem dX1_back_31 : decode cX1_back 31 = .ok (.dup, 1) := by decide +kernel
theorem dX1_back_32 : decode cX1_back 32 = .ok (.getfield 19, 3) := by decide +kernel
theorem dX1_back_35 : decode cX1_back 35 = .ok (.iconst 1, 1) := by decide +kernel
theorem dX1_back_36 : decode cX1_back 36 = .ok (.isub, 1) := by decide +kernel
theorem dX1_back_37 : decode cX1_back 37 = .ok (.putfield 19, 3) := by decide +kernel
theorem dX1_back_40 : decode cX1_back 40 = .ok (.iload_n 1, 1) := by decide +kernel
theorem dX1_back_41 : decode cX1_back 41 = .ok (.ireturn, 1) := by decide +kernel
abbrev cX1_erase : ByteArray := prog_3_method_4_code
def yX1_erase : MethodName := ⟨RX1, "erase", "()V"⟩
theorem dX1_erase_0 : decode cX1_erase 0 = .ok (.aload_n 0, 1) := by decide +kernel
theorem dX1_erase_1 : decode cX1_erase 1 = .ok (.iconst 0, 1) := by decide +kernel
theorem dX1_erase_2 : decode cX1_erase 2 = .ok (.putfield 23, 3) := by decide +kernel
theorem dX1_erase_5 : decode cX1_erase 5 = .ok (.aload_n 0, 1) := by decide +kernel
theorem dX1_erase_6 : decode cX1_erase 6 = .ok (.iconst 0, 1) := by decide +kernel
theorem dX1_erase_7 : decode cX1_erase 7 = .ok (.putfield 19, 3) := by decide +kernel
theorem dX1_erase_10 : decode cX1_erase 10 = .ok (.return_, 1) := by decide +kernel
abbrev cX1_number : ByteArray := prog_3_method_5_code
def yX1_number : MethodName := ⟨RX1, "number", "()I"⟩
theorem dX1_number_0 : decode cX1_number 0 = .ok (.aload_n 0, 1) := by decide +kernel
theorem dX1_number_1 : decode cX1_number 1 = .ok (.getfield 23, 3) := by decide +kernel
theorem dX1_number_4 : decode cX1_number 4 = .ok (.ireturn, 1) := by decide +kernel
abbrev cX1_add : ByteArray := prog_3_method_10_code
def yX1_add : MethodName := ⟨RX1, "add", "(II)I"⟩
theorem dX1_add_0 : decode cX1_add 0 = .ok (.iload_n 1, 1) := by decide +kernel
theorem dX1_add_1 : decode cX1_add 1 = .ok (.iconst 1, 1) := by decide +kernel
theorem dX1_add_2 : decode cX1_add 2 = .ok (.if_icmp .lt 29, 3) := by decide +kernel
theorem dX1_add_5 : decode cX1_add 5 = .ok (.iload_n 1, 1) := by decide +kernel
theorem dX1_add_6 : decode cX1_add 6 = .ok (.iconst 4, 1) := by decide +kernel
theorem dX1_add_7 : decode cX1_add 7 = .ok (.if_icmp .gt 24, 3) := by decide +kernel
theorem dX1_add_10 : decode cX1_add 10 = .ok (.iload_n 1, 1) := by decide +kernel
theorem dX1_add_11 : decode cX1_add 11 = .ok (.iconst 3, 1) := by decide +kernel
theorem dX1_add_12 : decode cX1_add 12 = .ok (.if_icmp .ne 10, 3) := by decide +kernel
theorem dX1_add_15 : decode cX1_add 15 = .ok (.iload_n 2, 1) := by decide +kernel
theorem dX1_add_16 : decode cX1_add 16 = .ok (.invokestatic 29, 3) := by decide +kernel
theorem dX1_add_19 : decode cX1_add 19 = .ok (.ifCond .eq 12, 3) := by decide +kernel
theorem dX1_add_22 : decode cX1_add 22 = .ok (.aload_n 0, 1) := by decide +kernel
theorem dX1_add_23 : decode cX1_add 23 = .ok (.getfield 26, 3) := by decide +kernel
theorem dX1_add_26 : decode cX1_add 26 = .ok (.bipush 24, 2) := by decide +kernel
theorem dX1_add_28 : decode cX1_add 28 = .ok (.if_icmp .ne 5, 3) := by decide +kernel
theorem dX1_add_31 : decode cX1_add 31 = .ok (.iconst (-1), 1) := by decide +kernel
theorem dX1_add_32 : decode cX1_add 32 = .ok (.ireturn, 1) := by decide +kernel
theorem dX1_add_33 : decode cX1_add 33 = .ok (.aload_n 0, 1) := by decide +kernel
theorem dX1_add_34 : decode cX1_add 34 = .ok (.aload_n 0, 1) := by decide +kernel
theorem dX1_add_35 : decode cX1_add 35 = .ok (.getfield 23, 3) := by decide +kernel
theorem dX1_add_38 : decode cX1_add 38 = .ok (.iload_n 1, 1) := by decide +kernel
theorem dX1_add_39 : decode cX1_add 39 = .ok (.iload_n 2, 1) := by decide +kernel
theorem dX1_add_40 : decode cX1_add 40 = .ok (.invokevirtual 33, 3) := by decide +kernel
theorem dX1_add_43 : decode cX1_add 43 = .ok (.ifCond .ge 25, 3) := by decide +kernel
theorem dX1_add_46 : decode cX1_add 46 = .ok (.aload_n 0, 1) := by decide +kernel
theorem dX1_add_47 : decode cX1_add 47 = .ok (.aload_n 0, 1) := by decide +kernel
theorem dX1_add_48 : decode cX1_add 48 = .ok (.getfield 23, 3) := by decide +kernel
theorem dX1_add_51 : decode cX1_add 51 = .ok (.iload_n 1, 1) := by decide +kernel
theorem dX1_add_52 : decode cX1_add 52 = .ok (.invokevirtual 37, 3) := by decide +kernel
theorem dX1_add_55 : decode cX1_add 55 = .ok (.iload_n 1, 1) := by decide +kernel
theorem dX1_add_56 : decode cX1_add 56 = .ok (.iconst 2, 1) := by decide +kernel
theorem dX1_add_57 : decode cX1_add 57 = .ok (.if_icmp .gt 7, 3) := by decide +kernel
theorem dX1_add_60 : decode cX1_add 60 = .ok (.iconst 3, 1) := by decide +kernel
theorem dX1_add_61 : decode cX1_add 61 = .ok (.goto 4, 3) := by decide +kernel
theorem dX1_add_64 : decode cX1_add 64 = .ok (.iconst 1, 1) := by decide +kernel
theorem dX1_add_65 : decode cX1_add 65 = .ok (.if_icmp .ne 5, 3) := by decide +kernel
theorem dX1_add_68 : decode cX1_add 68 = .ok (.iconst (-1), 1) := by decide +kernel
theorem dX1_add_69 : decode cX1_add 69 = .ok (.ireturn, 1) := by decide +kernel
theorem dX1_add_70 : decode cX1_add 70 = .ok (.aload_n 0, 1) := by decide +kernel
theorem dX1_add_71 : decode cX1_add 71 = .ok (.getfield 7, 3) := by decide +kernel
theorem dX1_add_74 : decode cX1_add 74 = .ok (.aload_n 0, 1) := by decide +kernel
theorem dX1_add_75 : decode cX1_add 75 = .ok (.getfield 26, 3) := by decide +kernel
theorem dX1_add_78 : decode cX1_add 78 = .ok (.aload_n 0, 1) := by decide +kernel
theorem dX1_add_79 : decode cX1_add 79 = .ok (.getfield 23, 3) := by decide +kernel
theorem dX1_add_82 : decode cX1_add 82 = .ok (.iastore, 1) := by decide +kernel
theorem dX1_add_83 : decode cX1_add 83 = .ok (.aload_n 0, 1) := by decide +kernel
theorem dX1_add_84 : decode cX1_add 84 = .ok (.getfield 13, 3) := by decide +kernel
theorem dX1_add_87 : decode cX1_add 87 = .ok (.aload_n 0, 1) := by decide +kernel
theorem dX1_add_88 : decode cX1_add 88 = .ok (.getfield 26, 3) := by decide +kernel
theorem dX1_add_91 : decode cX1_add 91 = .ok (.iload_n 1, 1) := by decide +kernel
theorem dX1_add_92 : decode cX1_add 92 = .ok (.iastore, 1) := by decide +kernel
theorem dX1_add_93 : decode cX1_add 93 = .ok (.aload_n 0, 1) := by decide +kernel
theorem dX1_add_94 : decode cX1_add 94 = .ok (.getfield 16, 3) := by decide +kernel
theorem dX1_add_97 : decode cX1_add 97 = .ok (.aload_n 0, 1) := by decide +kernel
theorem dX1_add_98 : decode cX1_add 98 = .ok (.getfield 26, 3) := by decide +kernel
theorem dX1_add_101 : decode cX1_add 101 = .ok (.iload_n 2, 1) := by decide +kernel
theorem dX1_add_102 : decode cX1_add 102 = .ok (.iastore, 1) := by decide +kernel
theorem dX1_add_103 : decode cX1_add 103 = .ok (.aload_n 0, 1) := by decide +kernel
theorem dX1_add_104 : decode cX1_add 104 = .ok (.dup, 1) := by decide +kernel
theorem dX1_add_105 : decode cX1_add 105 = .ok (.getfield 26, 3) := by decide +kernel
theorem dX1_add_108 : decode cX1_add 108 = .ok (.iconst 1, 1) := by decide +kernel
theorem dX1_add_109 : decode cX1_add 109 = .ok (.iadd, 1) := by decide +kernel
theorem dX1_add_110 : decode cX1_add 110 = .ok (.putfield 26, 3) := by decide +kernel
theorem dX1_add_113 : decode cX1_add 113 = .ok (.aload_n 0, 1) := by decide +kernel
theorem dX1_add_114 : decode cX1_add 114 = .ok (.getfield 26, 3) := by decide +kernel
theorem dX1_add_117 : decode cX1_add 117 = .ok (.ireturn, 1) := by decide +kernel
abbrev cX1_isName : ByteArray := prog_3_method_6_code
def yX1_isName : MethodName := ⟨RX1, "isName", "(I)Z"⟩
theorem dX1_isName_0 : decode cX1_isName 0 = .ok (.iload_n 0, 1) := by decide +kernel
theorem dX1_isName_1 : decode cX1_isName 1 = .ok (.ifCond .lt 10, 3) := by decide +kernel
theorem dX1_isName_4 : decode cX1_isName 4 = .ok (.iload_n 0, 1) := by decide +kernel
theorem dX1_isName_5 : decode cX1_isName 5 = .ok (.sipush 6561, 3) := by decide +kernel
theorem dX1_isName_8 : decode cX1_isName 8 = .ok (.if_icmp .lt 5, 3) := by decide +kernel
theorem dX1_isName_11 : decode cX1_isName 11 = .ok (.iconst 0, 1) := by decide +kernel
theorem dX1_isName_12 : decode cX1_isName 12 = .ok (.ireturn, 1) := by decide +kernel
theorem dX1_isName_13 : decode cX1_isName 13 = .ok (.iload_n 0, 1) := by decide +kernel
theorem dX1_isName_14 : decode cX1_isName 14 = .ok (.istore_n 1, 1) := by decide +kernel
theorem dX1_isName_15 : decode cX1_isName 15 = .ok (.iconst 0, 1) := by decide +kernel
theorem dX1_isName_16 : decode cX1_isName 16 = .ok (.istore_n 2, 1) := by decide +kernel
theorem dX1_isName_17 : decode cX1_isName 17 = .ok (.iload_n 2, 1) := by decide +kernel
theorem dX1_isName_18 : decode cX1_isName 18 = .ok (.iconst 4, 1) := by decide +kernel
theorem dX1_isName_19 : decode cX1_isName 19 = .ok (.if_icmp .ge 27, 3) := by decide +kernel
theorem dX1_isName_22 : decode cX1_isName 22 = .ok (.iload_n 1, 1) := by decide +kernel
theorem dX1_isName_23 : decode cX1_isName 23 = .ok (.ifCond .le 23, 3) := by decide +kernel
theorem dX1_isName_26 : decode cX1_isName 26 = .ok (.iload_n 1, 1) := by decide +kernel
theorem dX1_isName_27 : decode cX1_isName 27 = .ok (.bipush 9, 2) := by decide +kernel
theorem dX1_isName_29 : decode cX1_isName 29 = .ok (.irem, 1) := by decide +kernel
theorem dX1_isName_30 : decode cX1_isName 30 = .ok (.ifCond .ne 5, 3) := by decide +kernel
theorem dX1_isName_33 : decode cX1_isName 33 = .ok (.iconst 0, 1) := by decide +kernel
theorem dX1_isName_34 : decode cX1_isName 34 = .ok (.ireturn, 1) := by decide +kernel
theorem dX1_isName_35 : decode cX1_isName 35 = .ok (.iload_n 1, 1) := by decide +kernel
theorem dX1_isName_36 : decode cX1_isName 36 = .ok (.bipush 9, 2) := by decide +kernel
theorem dX1_isName_38 : decode cX1_isName 38 = .ok (.idiv, 1) := by decide +kernel
theorem dX1_isName_39 : decode cX1_isName 39 = .ok (.istore_n 1, 1) := by decide +kernel
theorem dX1_isName_40 : decode cX1_isName 40 = .ok (.iinc 2 1, 3) := by decide +kernel
theorem dX1_isName_43 : decode cX1_isName 43 = .ok (.goto (-26), 3) := by decide +kernel
theorem dX1_isName_46 : decode cX1_isName 46 = .ok (.iconst 1, 1) := by decide +kernel
theorem dX1_isName_47 : decode cX1_isName 47 = .ok (.ireturn, 1) := by decide +kernel
abbrev cX1_find : ByteArray := prog_3_method_9_code
def yX1_find : MethodName := ⟨RX1, "find", "(III)I"⟩
theorem dX1_find_0 : decode cX1_find 0 = .ok (.iconst 0, 1) := by decide +kernel
theorem dX1_find_1 : decode cX1_find 1 = .ok (.istore 4, 2) := by decide +kernel
theorem dX1_find_3 : decode cX1_find 3 = .ok (.iload 4, 2) := by decide +kernel
theorem dX1_find_5 : decode cX1_find 5 = .ok (.aload_n 0, 1) := by decide +kernel
theorem dX1_find_6 : decode cX1_find 6 = .ok (.getfield 26, 3) := by decide +kernel
theorem dX1_find_9 : decode cX1_find 9 = .ok (.if_icmp .ge 45, 3) := by decide +kernel
theorem dX1_find_12 : decode cX1_find 12 = .ok (.aload_n 0, 1) := by decide +kernel
theorem dX1_find_13 : decode cX1_find 13 = .ok (.getfield 7, 3) := by decide +kernel
theorem dX1_find_16 : decode cX1_find 16 = .ok (.iload 4, 2) := by decide +kernel
theorem dX1_find_18 : decode cX1_find 18 = .ok (.iaload, 1) := by decide +kernel
theorem dX1_find_19 : decode cX1_find 19 = .ok (.iload_n 1, 1) := by decide +kernel
theorem dX1_find_20 : decode cX1_find 20 = .ok (.if_icmp .ne 28, 3) := by decide +kernel
theorem dX1_find_23 : decode cX1_find 23 = .ok (.aload_n 0, 1) := by decide +kernel
theorem dX1_find_24 : decode cX1_find 24 = .ok (.getfield 13, 3) := by decide +kernel
theorem dX1_find_27 : decode cX1_find 27 = .ok (.iload 4, 2) := by decide +kernel
theorem dX1_find_29 : decode cX1_find 29 = .ok (.iaload, 1) := by decide +kernel
theorem dX1_find_30 : decode cX1_find 30 = .ok (.iload_n 2, 1) := by decide +kernel
theorem dX1_find_31 : decode cX1_find 31 = .ok (.if_icmp .ne 17, 3) := by decide +kernel
theorem dX1_find_34 : decode cX1_find 34 = .ok (.aload_n 0, 1) := by decide +kernel
theorem dX1_find_35 : decode cX1_find 35 = .ok (.getfield 16, 3) := by decide +kernel
theorem dX1_find_38 : decode cX1_find 38 = .ok (.iload 4, 2) := by decide +kernel
theorem dX1_find_40 : decode cX1_find 40 = .ok (.iaload, 1) := by decide +kernel
theorem dX1_find_41 : decode cX1_find 41 = .ok (.iload_n 3, 1) := by decide +kernel
theorem dX1_find_42 : decode cX1_find 42 = .ok (.if_icmp .ne 6, 3) := by decide +kernel
theorem dX1_find_45 : decode cX1_find 45 = .ok (.iload 4, 2) := by decide +kernel
theorem dX1_find_47 : decode cX1_find 47 = .ok (.ireturn, 1) := by decide +kernel
theorem dX1_find_48 : decode cX1_find 48 = .ok (.iinc 4 1, 3) := by decide +kernel
theorem dX1_find_51 : decode cX1_find 51 = .ok (.goto (-48), 3) := by decide +kernel
theorem dX1_find_54 : decode cX1_find 54 = .ok (.iconst (-1), 1) := by decide +kernel
theorem dX1_find_55 : decode cX1_find 55 = .ok (.ireturn, 1) := by decide +kernel
abbrev cX1_count : ByteArray := prog_3_method_8_code
def yX1_count : MethodName := ⟨RX1, "count", "(II)I"⟩
theorem dX1_count_0 : decode cX1_count 0 = .ok (.iconst 0, 1) := by decide +kernel
theorem dX1_count_1 : decode cX1_count 1 = .ok (.istore_n 3, 1) := by decide +kernel
theorem dX1_count_2 : decode cX1_count 2 = .ok (.iconst 0, 1) := by decide +kernel
theorem dX1_count_3 : decode cX1_count 3 = .ok (.istore 4, 2) := by decide +kernel
theorem dX1_count_5 : decode cX1_count 5 = .ok (.iload 4, 2) := by decide +kernel
theorem dX1_count_7 : decode cX1_count 7 = .ok (.aload_n 0, 1) := by decide +kernel
theorem dX1_count_8 : decode cX1_count 8 = .ok (.getfield 26, 3) := by decide +kernel
theorem dX1_count_11 : decode cX1_count 11 = .ok (.if_icmp .ge 34, 3) := by decide +kernel
theorem dX1_count_14 : decode cX1_count 14 = .ok (.aload_n 0, 1) := by decide +kernel
theorem dX1_count_15 : decode cX1_count 15 = .ok (.getfield 7, 3) := by decide +kernel
theorem dX1_count_18 : decode cX1_count 18 = .ok (.iload 4, 2) := by decide +kernel
theorem dX1_count_20 : decode cX1_count 20 = .ok (.iaload, 1) := by decide +kernel
theorem dX1_count_21 : decode cX1_count 21 = .ok (.iload_n 1, 1) := by decide +kernel
theorem dX1_count_22 : decode cX1_count 22 = .ok (.if_icmp .ne 17, 3) := by decide +kernel
theorem dX1_count_25 : decode cX1_count 25 = .ok (.aload_n 0, 1) := by decide +kernel
theorem dX1_count_26 : decode cX1_count 26 = .ok (.getfield 13, 3) := by decide +kernel
theorem dX1_count_29 : decode cX1_count 29 = .ok (.iload 4, 2) := by decide +kernel
theorem dX1_count_31 : decode cX1_count 31 = .ok (.iaload, 1) := by decide +kernel
theorem dX1_count_32 : decode cX1_count 32 = .ok (.iload_n 2, 1) := by decide +kernel
theorem dX1_count_33 : decode cX1_count 33 = .ok (.if_icmp .ne 6, 3) := by decide +kernel
theorem dX1_count_36 : decode cX1_count 36 = .ok (.iinc 3 1, 3) := by decide +kernel
theorem dX1_count_39 : decode cX1_count 39 = .ok (.iinc 4 1, 3) := by decide +kernel
theorem dX1_count_42 : decode cX1_count 42 = .ok (.goto (-37), 3) := by decide +kernel
theorem dX1_count_45 : decode cX1_count 45 = .ok (.iload_n 3, 1) := by decide +kernel
theorem dX1_count_46 : decode cX1_count 46 = .ok (.ireturn, 1) := by decide +kernel
abbrev cX1_remove : ByteArray := prog_3_method_11_code
def yX1_remove : MethodName := ⟨RX1, "remove", "(II)I"⟩
theorem dX1_remove_0 : decode cX1_remove 0 = .ok (.aload_n 0, 1) := by decide +kernel
theorem dX1_remove_1 : decode cX1_remove 1 = .ok (.aload_n 0, 1) := by decide +kernel
theorem dX1_remove_2 : decode cX1_remove 2 = .ok (.getfield 23, 3) := by decide +kernel
theorem dX1_remove_5 : decode cX1_remove 5 = .ok (.iload_n 1, 1) := by decide +kernel
theorem dX1_remove_6 : decode cX1_remove 6 = .ok (.iload_n 2, 1) := by decide +kernel
theorem dX1_remove_7 : decode cX1_remove 7 = .ok (.invokevirtual 33, 3) := by decide +kernel
theorem dX1_remove_10 : decode cX1_remove 10 = .ok (.istore_n 3, 1) := by decide +kernel
theorem dX1_remove_11 : decode cX1_remove 11 = .ok (.iload_n 3, 1) := by decide +kernel
theorem dX1_remove_12 : decode cX1_remove 12 = .ok (.ifCond .ge 5, 3) := by decide +kernel
theorem dX1_remove_15 : decode cX1_remove 15 = .ok (.iconst (-1), 1) := by decide +kernel
theorem dX1_remove_16 : decode cX1_remove 16 = .ok (.ireturn, 1) := by decide +kernel
theorem dX1_remove_17 : decode cX1_remove 17 = .ok (.aload_n 0, 1) := by decide +kernel
theorem dX1_remove_18 : decode cX1_remove 18 = .ok (.dup, 1) := by decide +kernel
theorem dX1_remove_19 : decode cX1_remove 19 = .ok (.getfield 26, 3) := by decide +kernel
theorem dX1_remove_22 : decode cX1_remove 22 = .ok (.iconst 1, 1) := by decide +kernel
theorem dX1_remove_23 : decode cX1_remove 23 = .ok (.isub, 1) := by decide +kernel
theorem dX1_remove_24 : decode cX1_remove 24 = .ok (.putfield 26, 3) := by decide +kernel
theorem dX1_remove_27 : decode cX1_remove 27 = .ok (.aload_n 0, 1) := by decide +kernel
theorem dX1_remove_28 : decode cX1_remove 28 = .ok (.getfield 7, 3) := by decide +kernel
theorem dX1_remove_31 : decode cX1_remove 31 = .ok (.iload_n 3, 1) := by decide +kernel
theorem dX1_remove_32 : decode cX1_remove 32 = .ok (.aload_n 0, 1) := by decide +kernel
theorem dX1_remove_33 : decode cX1_remove 33 = .ok (.getfield 7, 3) := by decide +kernel
theorem dX1_remove_36 : decode cX1_remove 36 = .ok (.aload_n 0, 1) := by decide +kernel
theorem dX1_remove_37 : decode cX1_remove 37 = .ok (.getfield 26, 3) := by decide +kernel
theorem dX1_remove_40 : decode cX1_remove 40 = .ok (.iaload, 1) := by decide +kernel
theorem dX1_remove_41 : decode cX1_remove 41 = .ok (.iastore, 1) := by decide +kernel
theorem dX1_remove_42 : decode cX1_remove 42 = .ok (.aload_n 0, 1) := by decide +kernel
theorem dX1_remove_43 : decode cX1_remove 43 = .ok (.getfield 13, 3) := by decide +kernel
theorem dX1_remove_46 : decode cX1_remove 46 = .ok (.iload_n 3, 1) := by decide +kernel
theorem dX1_remove_47 : decode cX1_remove 47 = .ok (.aload_n 0, 1) := by decide +kernel
theorem dX1_remove_48 : decode cX1_remove 48 = .ok (.getfield 13, 3) := by decide +kernel
theorem dX1_remove_51 : decode cX1_remove 51 = .ok (.aload_n 0, 1) := by decide +kernel
theorem dX1_remove_52 : decode cX1_remove 52 = .ok (.getfield 26, 3) := by decide +kernel
theorem dX1_remove_55 : decode cX1_remove 55 = .ok (.iaload, 1) := by decide +kernel
theorem dX1_remove_56 : decode cX1_remove 56 = .ok (.iastore, 1) := by decide +kernel
theorem dX1_remove_57 : decode cX1_remove 57 = .ok (.aload_n 0, 1) := by decide +kernel
theorem dX1_remove_58 : decode cX1_remove 58 = .ok (.getfield 16, 3) := by decide +kernel
theorem dX1_remove_61 : decode cX1_remove 61 = .ok (.iload_n 3, 1) := by decide +kernel
theorem dX1_remove_62 : decode cX1_remove 62 = .ok (.aload_n 0, 1) := by decide +kernel
theorem dX1_remove_63 : decode cX1_remove 63 = .ok (.getfield 16, 3) := by decide +kernel
theorem dX1_remove_66 : decode cX1_remove 66 = .ok (.aload_n 0, 1) := by decide +kernel
theorem dX1_remove_67 : decode cX1_remove 67 = .ok (.getfield 26, 3) := by decide +kernel
theorem dX1_remove_70 : decode cX1_remove 70 = .ok (.iaload, 1) := by decide +kernel
theorem dX1_remove_71 : decode cX1_remove 71 = .ok (.iastore, 1) := by decide +kernel
theorem dX1_remove_72 : decode cX1_remove 72 = .ok (.aload_n 0, 1) := by decide +kernel
theorem dX1_remove_73 : decode cX1_remove 73 = .ok (.getfield 26, 3) := by decide +kernel
theorem dX1_remove_76 : decode cX1_remove 76 = .ok (.ireturn, 1) := by decide +kernel
abbrev cX1_exists : ByteArray := prog_3_method_13_code
def yX1_exists : MethodName := ⟨RX1, "exists", "()I"⟩
theorem dX1_exists_0 : decode cX1_exists 0 = .ok (.aload_n 0, 1) := by decide +kernel
theorem dX1_exists_1 : decode cX1_exists 1 = .ok (.aload_n 0, 1) := by decide +kernel
theorem dX1_exists_2 : decode cX1_exists 2 = .ok (.getfield 23, 3) := by decide +kernel
theorem dX1_exists_5 : decode cX1_exists 5 = .ok (.invokevirtual 45, 3) := by decide +kernel
theorem dX1_exists_8 : decode cX1_exists 8 = .ok (.ifCond .eq 7, 3) := by decide +kernel
theorem dX1_exists_11 : decode cX1_exists 11 = .ok (.iconst 1, 1) := by decide +kernel
theorem dX1_exists_12 : decode cX1_exists 12 = .ok (.goto 4, 3) := by decide +kernel
theorem dX1_exists_15 : decode cX1_exists 15 = .ok (.iconst 0, 1) := by decide +kernel
theorem dX1_exists_16 : decode cX1_exists 16 = .ok (.ireturn, 1) := by decide +kernel
end
section
set_option maxRecDepth 100000
abbrev cX1_there : ByteArray := prog_3_method_12_code
def yX1_there : MethodName := ⟨RX1, "there", "(I)Z"⟩
theorem dX1_there_0 : decode cX1_there 0 = .ok (.iconst 0, 1) := by decide +kernel
theorem dX1_there_1 : decode cX1_there 1 = .ok (.istore_n 2, 1) := by decide +kernel
theorem dX1_there_2 : decode cX1_there 2 = .ok (.iload_n 2, 1) := by decide +kernel
theorem dX1_there_3 : decode cX1_there 3 = .ok (.aload_n 0, 1) := by decide +kernel
theorem dX1_there_4 : decode cX1_there 4 = .ok (.getfield 26, 3) := by decide +kernel
theorem dX1_there_7 : decode cX1_there 7 = .ok (.if_icmp .ge 24, 3) := by decide +kernel
theorem dX1_there_10 : decode cX1_there 10 = .ok (.iload_n 1, 1) := by decide +kernel
theorem dX1_there_11 : decode cX1_there 11 = .ok (.aload_n 0, 1) := by decide +kernel
theorem dX1_there_12 : decode cX1_there 12 = .ok (.getfield 7, 3) := by decide +kernel
theorem dX1_there_15 : decode cX1_there 15 = .ok (.iload_n 2, 1) := by decide +kernel
theorem dX1_there_16 : decode cX1_there 16 = .ok (.iaload, 1) := by decide +kernel
theorem dX1_there_17 : decode cX1_there 17 = .ok (.invokestatic 41, 3) := by decide +kernel
theorem dX1_there_20 : decode cX1_there 20 = .ok (.ifCond .eq 5, 3) := by decide +kernel
theorem dX1_there_23 : decode cX1_there 23 = .ok (.iconst 1, 1) := by decide +kernel
theorem dX1_there_24 : decode cX1_there 24 = .ok (.ireturn, 1) := by decide +kernel
theorem dX1_there_25 : decode cX1_there 25 = .ok (.iinc 2 1, 3) := by decide +kernel
theorem dX1_there_28 : decode cX1_there 28 = .ok (.goto (-26), 3) := by decide +kernel
theorem dX1_there_31 : decode cX1_there 31 = .ok (.iload_n 1, 1) := by decide +kernel
theorem dX1_there_32 : decode cX1_there 32 = .ok (.ifCond .ne 7, 3) := by decide +kernel
theorem dX1_there_35 : decode cX1_there 35 = .ok (.iconst 1, 1) := by decide +kernel
theorem dX1_there_36 : decode cX1_there 36 = .ok (.goto 4, 3) := by decide +kernel
theorem dX1_there_39 : decode cX1_there 39 = .ok (.iconst 0, 1) := by decide +kernel
theorem dX1_there_40 : decode cX1_there 40 = .ok (.ireturn, 1) := by decide +kernel
abbrev cX1_covers : ByteArray := prog_3_method_7_code
def yX1_covers : MethodName := ⟨RX1, "covers", "(II)Z"⟩
theorem dX1_covers_0 : decode cX1_covers 0 = .ok (.iload_n 1, 1) := by decide +kernel
theorem dX1_covers_1 : decode cX1_covers 1 = .ok (.istore_n 2, 1) := by decide +kernel
theorem dX1_covers_2 : decode cX1_covers 2 = .ok (.iconst 0, 1) := by decide +kernel
theorem dX1_covers_3 : decode cX1_covers 3 = .ok (.istore_n 3, 1) := by decide +kernel
theorem dX1_covers_4 : decode cX1_covers 4 = .ok (.iload_n 3, 1) := by decide +kernel
theorem dX1_covers_5 : decode cX1_covers 5 = .ok (.iconst 5, 1) := by decide +kernel
theorem dX1_covers_6 : decode cX1_covers 6 = .ok (.if_icmp .ge 21, 3) := by decide +kernel
theorem dX1_covers_9 : decode cX1_covers 9 = .ok (.iload_n 2, 1) := by decide +kernel
theorem dX1_covers_10 : decode cX1_covers 10 = .ok (.iload_n 0, 1) := by decide +kernel
theorem dX1_covers_11 : decode cX1_covers 11 = .ok (.if_icmp .ne 5, 3) := by decide +kernel
theorem dX1_covers_14 : decode cX1_covers 14 = .ok (.iconst 1, 1) := by decide +kernel
theorem dX1_covers_15 : decode cX1_covers 15 = .ok (.ireturn, 1) := by decide +kernel
theorem dX1_covers_16 : decode cX1_covers 16 = .ok (.iload_n 2, 1) := by decide +kernel
theorem dX1_covers_17 : decode cX1_covers 17 = .ok (.bipush 9, 2) := by decide +kernel
theorem dX1_covers_19 : decode cX1_covers 19 = .ok (.idiv, 1) := by decide +kernel
theorem dX1_covers_20 : decode cX1_covers 20 = .ok (.istore_n 2, 1) := by decide +kernel
theorem dX1_covers_21 : decode cX1_covers 21 = .ok (.iinc 3 1, 3) := by decide +kernel
theorem dX1_covers_24 : decode cX1_covers 24 = .ok (.goto (-20), 3) := by decide +kernel
theorem dX1_covers_27 : decode cX1_covers 27 = .ok (.iconst 0, 1) := by decide +kernel
theorem dX1_covers_28 : decode cX1_covers 28 = .ok (.ireturn, 1) := by decide +kernel
abbrev cX1_look : ByteArray := prog_3_method_19_code
def yX1_look : MethodName := ⟨RX1, "look", "(I)I"⟩
theorem dX1_look_0 : decode cX1_look 0 = .ok (.iload_n 1, 1) := by decide +kernel
theorem dX1_look_1 : decode cX1_look 1 = .ok (.invokestatic 64, 3) := by decide +kernel
theorem dX1_look_4 : decode cX1_look 4 = .ok (.ifCond .eq 7, 3) := by decide +kernel
theorem dX1_look_7 : decode cX1_look 7 = .ok (.iconst (-1), 1) := by decide +kernel
theorem dX1_look_8 : decode cX1_look 8 = .ok (.goto 8, 3) := by decide +kernel
theorem dX1_look_11 : decode cX1_look 11 = .ok (.aload_n 0, 1) := by decide +kernel
theorem dX1_look_12 : decode cX1_look 12 = .ok (.iload_n 1, 1) := by decide +kernel
theorem dX1_look_13 : decode cX1_look 13 = .ok (.invokevirtual 67, 3) := by decide +kernel
theorem dX1_look_16 : decode cX1_look 16 = .ok (.ireturn, 1) := by decide +kernel
abbrev cX1_bad : ByteArray := prog_3_method_18_code
def yX1_bad : MethodName := ⟨RX1, "bad", "(I)Z"⟩
theorem dX1_bad_0 : decode cX1_bad 0 = .ok (.iload_n 0, 1) := by decide +kernel
theorem dX1_bad_1 : decode cX1_bad 1 = .ok (.iconst 1, 1) := by decide +kernel
theorem dX1_bad_2 : decode cX1_bad 2 = .ok (.if_icmp .lt 8, 3) := by decide +kernel
theorem dX1_bad_5 : decode cX1_bad 5 = .ok (.iload_n 0, 1) := by decide +kernel
theorem dX1_bad_6 : decode cX1_bad 6 = .ok (.iconst 4, 1) := by decide +kernel
theorem dX1_bad_7 : decode cX1_bad 7 = .ok (.if_icmp .le 7, 3) := by decide +kernel
theorem dX1_bad_10 : decode cX1_bad 10 = .ok (.iconst 1, 1) := by decide +kernel
theorem dX1_bad_11 : decode cX1_bad 11 = .ok (.goto 4, 3) := by decide +kernel
theorem dX1_bad_14 : decode cX1_bad 14 = .ok (.iconst 0, 1) := by decide +kernel
theorem dX1_bad_15 : decode cX1_bad 15 = .ok (.ireturn, 1) := by decide +kernel
abbrev cX1_lookUp : ByteArray := prog_3_method_17_code
def yX1_lookUp : MethodName := ⟨RX1, "lookUp", "(I)I"⟩
theorem dX1_lookUp_0 : decode cX1_lookUp 0 = .ok (.aload_n 0, 1) := by decide +kernel
theorem dX1_lookUp_1 : decode cX1_lookUp 1 = .ok (.getfield 23, 3) := by decide +kernel
theorem dX1_lookUp_4 : decode cX1_lookUp 4 = .ok (.istore_n 2, 1) := by decide +kernel
theorem dX1_lookUp_5 : decode cX1_lookUp 5 = .ok (.aload_n 0, 1) := by decide +kernel
theorem dX1_lookUp_6 : decode cX1_lookUp 6 = .ok (.iconst 1, 1) := by decide +kernel
theorem dX1_lookUp_7 : decode cX1_lookUp 7 = .ok (.putfield 48, 3) := by decide +kernel
theorem dX1_lookUp_10 : decode cX1_lookUp 10 = .ok (.aload_n 0, 1) := by decide +kernel
theorem dX1_lookUp_11 : decode cX1_lookUp 11 = .ok (.getfield 48, 3) := by decide +kernel
theorem dX1_lookUp_14 : decode cX1_lookUp 14 = .ok (.iconst 5, 1) := by decide +kernel
theorem dX1_lookUp_15 : decode cX1_lookUp 15 = .ok (.if_icmp .gt 120, 3) := by decide +kernel
theorem dX1_lookUp_18 : decode cX1_lookUp 18 = .ok (.iload_n 1, 1) := by decide +kernel
theorem dX1_lookUp_19 : decode cX1_lookUp 19 = .ok (.iconst 4, 1) := by decide +kernel
theorem dX1_lookUp_20 : decode cX1_lookUp 20 = .ok (.if_icmp .ne 7, 3) := by decide +kernel
theorem dX1_lookUp_23 : decode cX1_lookUp 23 = .ok (.iconst (-1), 1) := by decide +kernel
theorem dX1_lookUp_24 : decode cX1_lookUp 24 = .ok (.goto 8, 3) := by decide +kernel
theorem dX1_lookUp_27 : decode cX1_lookUp 27 = .ok (.aload_n 0, 1) := by decide +kernel
theorem dX1_lookUp_28 : decode cX1_lookUp 28 = .ok (.iload_n 2, 1) := by decide +kernel
theorem dX1_lookUp_29 : decode cX1_lookUp 29 = .ok (.invokevirtual 51, 3) := by decide +kernel
theorem dX1_lookUp_32 : decode cX1_lookUp 32 = .ok (.istore_n 3, 1) := by decide +kernel
theorem dX1_lookUp_33 : decode cX1_lookUp 33 = .ok (.aload_n 0, 1) := by decide +kernel
theorem dX1_lookUp_34 : decode cX1_lookUp 34 = .ok (.iload_n 3, 1) := by decide +kernel
theorem dX1_lookUp_35 : decode cX1_lookUp 35 = .ok (.ifCond .lt 7, 3) := by decide +kernel
theorem dX1_lookUp_38 : decode cX1_lookUp 38 = .ok (.iload_n 3, 1) := by decide +kernel
theorem dX1_lookUp_39 : decode cX1_lookUp 39 = .ok (.goto 4, 3) := by decide +kernel
theorem dX1_lookUp_42 : decode cX1_lookUp 42 = .ok (.iload_n 2, 1) := by decide +kernel
theorem dX1_lookUp_43 : decode cX1_lookUp 43 = .ok (.putfield 55, 3) := by decide +kernel
theorem dX1_lookUp_46 : decode cX1_lookUp 46 = .ok (.iload_n 3, 1) := by decide +kernel
theorem dX1_lookUp_47 : decode cX1_lookUp 47 = .ok (.ifCond .lt 5, 3) := by decide +kernel
theorem dX1_lookUp_50 : decode cX1_lookUp 50 = .ok (.iconst 4, 1) := by decide +kernel
theorem dX1_lookUp_51 : decode cX1_lookUp 51 = .ok (.ireturn, 1) := by decide +kernel
theorem dX1_lookUp_52 : decode cX1_lookUp 52 = .ok (.aload_n 0, 1) := by decide +kernel
theorem dX1_lookUp_53 : decode cX1_lookUp 53 = .ok (.iload_n 2, 1) := by decide +kernel
theorem dX1_lookUp_54 : decode cX1_lookUp 54 = .ok (.invokevirtual 58, 3) := by decide +kernel
theorem dX1_lookUp_57 : decode cX1_lookUp 57 = .ok (.istore 4, 2) := by decide +kernel
theorem dX1_lookUp_59 : decode cX1_lookUp 59 = .ok (.iload 4, 2) := by decide +kernel
theorem dX1_lookUp_61 : decode cX1_lookUp 61 = .ok (.ifCond .ge 5, 3) := by decide +kernel
theorem dX1_lookUp_64 : decode cX1_lookUp 64 = .ok (.iconst 3, 1) := by decide +kernel
theorem dX1_lookUp_65 : decode cX1_lookUp 65 = .ok (.ireturn, 1) := by decide +kernel
theorem dX1_lookUp_66 : decode cX1_lookUp 66 = .ok (.aload_n 0, 1) := by decide +kernel
theorem dX1_lookUp_67 : decode cX1_lookUp 67 = .ok (.iload 4, 2) := by decide +kernel
theorem dX1_lookUp_69 : decode cX1_lookUp 69 = .ok (.iconst 3, 1) := by decide +kernel
theorem dX1_lookUp_70 : decode cX1_lookUp 70 = .ok (.invokevirtual 37, 3) := by decide +kernel
theorem dX1_lookUp_73 : decode cX1_lookUp 73 = .ok (.ifCond .eq 8, 3) := by decide +kernel
theorem dX1_lookUp_76 : decode cX1_lookUp 76 = .ok (.iload_n 1, 1) := by decide +kernel
theorem dX1_lookUp_77 : decode cX1_lookUp 77 = .ok (.iconst 3, 1) := by decide +kernel
theorem dX1_lookUp_78 : decode cX1_lookUp 78 = .ok (.if_icmp .ne 25, 3) := by decide +kernel
theorem dX1_lookUp_81 : decode cX1_lookUp 81 = .ok (.aload_n 0, 1) := by decide +kernel
theorem dX1_lookUp_82 : decode cX1_lookUp 82 = .ok (.iload 4, 2) := by decide +kernel
theorem dX1_lookUp_84 : decode cX1_lookUp 84 = .ok (.putfield 55, 3) := by decide +kernel
theorem dX1_lookUp_87 : decode cX1_lookUp 87 = .ok (.aload_n 0, 1) := by decide +kernel
theorem dX1_lookUp_88 : decode cX1_lookUp 88 = .ok (.iload 4, 2) := by decide +kernel
theorem dX1_lookUp_90 : decode cX1_lookUp 90 = .ok (.iload_n 1, 1) := by decide +kernel
theorem dX1_lookUp_91 : decode cX1_lookUp 91 = .ok (.invokevirtual 37, 3) := by decide +kernel
theorem dX1_lookUp_94 : decode cX1_lookUp 94 = .ok (.ifCond .le 7, 3) := by decide +kernel
theorem dX1_lookUp_97 : decode cX1_lookUp 97 = .ok (.iconst 1, 1) := by decide +kernel
theorem dX1_lookUp_98 : decode cX1_lookUp 98 = .ok (.goto 4, 3) := by decide +kernel
theorem dX1_lookUp_101 : decode cX1_lookUp 101 = .ok (.iconst 2, 1) := by decide +kernel
theorem dX1_lookUp_102 : decode cX1_lookUp 102 = .ok (.ireturn, 1) := by decide +kernel
theorem dX1_lookUp_103 : decode cX1_lookUp 103 = .ok (.aload_n 0, 1) := by decide +kernel
theorem dX1_lookUp_104 : decode cX1_lookUp 104 = .ok (.getfield 48, 3) := by decide +kernel
theorem dX1_lookUp_107 : decode cX1_lookUp 107 = .ok (.iconst 5, 1) := by decide +kernel
theorem dX1_lookUp_108 : decode cX1_lookUp 108 = .ok (.if_icmp .ne 5, 3) := by decide +kernel
theorem dX1_lookUp_111 : decode cX1_lookUp 111 = .ok (.iconst 5, 1) := by decide +kernel
theorem dX1_lookUp_112 : decode cX1_lookUp 112 = .ok (.ireturn, 1) := by decide +kernel
theorem dX1_lookUp_113 : decode cX1_lookUp 113 = .ok (.aload_n 0, 1) := by decide +kernel
theorem dX1_lookUp_114 : decode cX1_lookUp 114 = .ok (.iload 4, 2) := by decide +kernel
theorem dX1_lookUp_116 : decode cX1_lookUp 116 = .ok (.iconst 3, 1) := by decide +kernel
theorem dX1_lookUp_117 : decode cX1_lookUp 117 = .ok (.iconst 0, 1) := by decide +kernel
theorem dX1_lookUp_118 : decode cX1_lookUp 118 = .ok (.invokevirtual 61, 3) := by decide +kernel
theorem dX1_lookUp_121 : decode cX1_lookUp 121 = .ok (.istore_n 2, 1) := by decide +kernel
theorem dX1_lookUp_122 : decode cX1_lookUp 122 = .ok (.aload_n 0, 1) := by decide +kernel
theorem dX1_lookUp_123 : decode cX1_lookUp 123 = .ok (.dup, 1) := by decide +kernel
theorem dX1_lookUp_124 : decode cX1_lookUp 124 = .ok (.getfield 48, 3) := by decide +kernel
theorem dX1_lookUp_127 : decode cX1_lookUp 127 = .ok (.iconst 1, 1) := by decide +kernel
theorem dX1_lookUp_128 : decode cX1_lookUp 128 = .ok (.iadd, 1) := by decide +kernel
theorem dX1_lookUp_129 : decode cX1_lookUp 129 = .ok (.putfield 48, 3) := by decide +kernel
theorem dX1_lookUp_132 : decode cX1_lookUp 132 = .ok (.goto (-122), 3) := by decide +kernel
theorem dX1_lookUp_135 : decode cX1_lookUp 135 = .ok (.iconst 5, 1) := by decide +kernel
theorem dX1_lookUp_136 : decode cX1_lookUp 136 = .ok (.ireturn, 1) := by decide +kernel
abbrev cX1_handed : ByteArray := prog_3_method_14_code
def yX1_handed : MethodName := ⟨RX1, "handed", "(I)I"⟩
theorem dX1_handed_0 : decode cX1_handed 0 = .ok (.iconst (-1), 1) := by decide +kernel
theorem dX1_handed_1 : decode cX1_handed 1 = .ok (.istore_n 2, 1) := by decide +kernel
theorem dX1_handed_2 : decode cX1_handed 2 = .ok (.iload_n 1, 1) := by decide +kernel
theorem dX1_handed_3 : decode cX1_handed 3 = .ok (.istore_n 3, 1) := by decide +kernel
theorem dX1_handed_4 : decode cX1_handed 4 = .ok (.iconst 0, 1) := by decide +kernel
theorem dX1_handed_5 : decode cX1_handed 5 = .ok (.istore 4, 2) := by decide +kernel
theorem dX1_handed_7 : decode cX1_handed 7 = .ok (.iload 4, 2) := by decide +kernel
theorem dX1_handed_9 : decode cX1_handed 9 = .ok (.iconst 4, 1) := by decide +kernel
theorem dX1_handed_10 : decode cX1_handed 10 = .ok (.if_icmp .ge 29, 3) := by decide +kernel
theorem dX1_handed_13 : decode cX1_handed 13 = .ok (.iload_n 3, 1) := by decide +kernel
theorem dX1_handed_14 : decode cX1_handed 14 = .ok (.ifCond .le 25, 3) := by decide +kernel
theorem dX1_handed_17 : decode cX1_handed 17 = .ok (.aload_n 0, 1) := by decide +kernel
theorem dX1_handed_18 : decode cX1_handed 18 = .ok (.iload_n 3, 1) := by decide +kernel
theorem dX1_handed_19 : decode cX1_handed 19 = .ok (.iconst 4, 1) := by decide +kernel
theorem dX1_handed_20 : decode cX1_handed 20 = .ok (.invokevirtual 37, 3) := by decide +kernel
theorem dX1_handed_23 : decode cX1_handed 23 = .ok (.ifCond .le 5, 3) := by decide +kernel
theorem dX1_handed_26 : decode cX1_handed 26 = .ok (.iload_n 3, 1) := by decide +kernel
theorem dX1_handed_27 : decode cX1_handed 27 = .ok (.istore_n 2, 1) := by decide +kernel
theorem dX1_handed_28 : decode cX1_handed 28 = .ok (.iload_n 3, 1) := by decide +kernel
theorem dX1_handed_29 : decode cX1_handed 29 = .ok (.bipush 9, 2) := by decide +kernel
theorem dX1_handed_31 : decode cX1_handed 31 = .ok (.idiv, 1) := by decide +kernel
theorem dX1_handed_32 : decode cX1_handed 32 = .ok (.istore_n 3, 1) := by decide +kernel
theorem dX1_handed_33 : decode cX1_handed 33 = .ok (.iinc 4 1, 3) := by decide +kernel
theorem dX1_handed_36 : decode cX1_handed 36 = .ok (.goto (-29), 3) := by decide +kernel
theorem dX1_handed_39 : decode cX1_handed 39 = .ok (.iload_n 2, 1) := by decide +kernel
theorem dX1_handed_40 : decode cX1_handed 40 = .ok (.ireturn, 1) := by decide +kernel
abbrev cX1_answering : ByteArray := prog_3_method_15_code
def yX1_answering : MethodName := ⟨RX1, "answering", "(I)I"⟩
theorem dX1_answering_0 : decode cX1_answering 0 = .ok (.aload_n 0, 1) := by decide +kernel
theorem dX1_answering_1 : decode cX1_answering 1 = .ok (.iload_n 1, 1) := by decide +kernel
theorem dX1_answering_2 : decode cX1_answering 2 = .ok (.invokevirtual 45, 3) := by decide +kernel
theorem dX1_answering_5 : decode cX1_answering 5 = .ok (.ifCond .eq 5, 3) := by decide +kernel
theorem dX1_answering_8 : decode cX1_answering 8 = .ok (.iload_n 1, 1) := by decide +kernel
theorem dX1_answering_9 : decode cX1_answering 9 = .ok (.ireturn, 1) := by decide +kernel
theorem dX1_answering_10 : decode cX1_answering 10 = .ok (.iload_n 1, 1) := by decide +kernel
theorem dX1_answering_11 : decode cX1_answering 11 = .ok (.bipush 9, 2) := by decide +kernel
theorem dX1_answering_13 : decode cX1_answering 13 = .ok (.idiv, 1) := by decide +kernel
theorem dX1_answering_14 : decode cX1_answering 14 = .ok (.istore_n 2, 1) := by decide +kernel
theorem dX1_answering_15 : decode cX1_answering 15 = .ok (.iconst 0, 1) := by decide +kernel
theorem dX1_answering_16 : decode cX1_answering 16 = .ok (.istore_n 3, 1) := by decide +kernel
theorem dX1_answering_17 : decode cX1_answering 17 = .ok (.iload_n 3, 1) := by decide +kernel
theorem dX1_answering_18 : decode cX1_answering 18 = .ok (.iconst 4, 1) := by decide +kernel
theorem dX1_answering_19 : decode cX1_answering 19 = .ok (.if_icmp .ge 22, 3) := by decide +kernel
theorem dX1_answering_22 : decode cX1_answering 22 = .ok (.aload_n 0, 1) := by decide +kernel
theorem dX1_answering_23 : decode cX1_answering 23 = .ok (.iload_n 2, 1) := by decide +kernel
theorem dX1_answering_24 : decode cX1_answering 24 = .ok (.invokevirtual 45, 3) := by decide +kernel
theorem dX1_answering_27 : decode cX1_answering 27 = .ok (.ifCond .ne 14, 3) := by decide +kernel
theorem dX1_answering_30 : decode cX1_answering 30 = .ok (.iload_n 2, 1) := by decide +kernel
theorem dX1_answering_31 : decode cX1_answering 31 = .ok (.bipush 9, 2) := by decide +kernel
theorem dX1_answering_33 : decode cX1_answering 33 = .ok (.idiv, 1) := by decide +kernel
theorem dX1_answering_34 : decode cX1_answering 34 = .ok (.istore_n 2, 1) := by decide +kernel
theorem dX1_answering_35 : decode cX1_answering 35 = .ok (.iinc 3 1, 3) := by decide +kernel
theorem dX1_answering_38 : decode cX1_answering 38 = .ok (.goto (-21), 3) := by decide +kernel
theorem dX1_answering_41 : decode cX1_answering 41 = .ok (.iload_n 2, 1) := by decide +kernel
theorem dX1_answering_42 : decode cX1_answering 42 = .ok (.bipush 9, 2) := by decide +kernel
theorem dX1_answering_44 : decode cX1_answering 44 = .ok (.imul, 1) := by decide +kernel
theorem dX1_answering_45 : decode cX1_answering 45 = .ok (.bipush 8, 2) := by decide +kernel
theorem dX1_answering_47 : decode cX1_answering 47 = .ok (.iadd, 1) := by decide +kernel
theorem dX1_answering_48 : decode cX1_answering 48 = .ok (.istore_n 3, 1) := by decide +kernel
theorem dX1_answering_49 : decode cX1_answering 49 = .ok (.aload_n 0, 1) := by decide +kernel
theorem dX1_answering_50 : decode cX1_answering 50 = .ok (.iload_n 3, 1) := by decide +kernel
theorem dX1_answering_51 : decode cX1_answering 51 = .ok (.invokevirtual 45, 3) := by decide +kernel
theorem dX1_answering_54 : decode cX1_answering 54 = .ok (.ifCond .eq 7, 3) := by decide +kernel
theorem dX1_answering_57 : decode cX1_answering 57 = .ok (.iload_n 3, 1) := by decide +kernel
theorem dX1_answering_58 : decode cX1_answering 58 = .ok (.goto 4, 3) := by decide +kernel
theorem dX1_answering_61 : decode cX1_answering 61 = .ok (.iconst (-1), 1) := by decide +kernel
theorem dX1_answering_62 : decode cX1_answering 62 = .ok (.ireturn, 1) := by decide +kernel
abbrev cX1_valueOf : ByteArray := prog_3_method_16_code
def yX1_valueOf : MethodName := ⟨RX1, "valueOf", "(III)I"⟩
theorem dX1_valueOf_0 : decode cX1_valueOf 0 = .ok (.iconst 0, 1) := by decide +kernel
theorem dX1_valueOf_1 : decode cX1_valueOf 1 = .ok (.istore 4, 2) := by decide +kernel
theorem dX1_valueOf_3 : decode cX1_valueOf 3 = .ok (.iload 4, 2) := by decide +kernel
theorem dX1_valueOf_5 : decode cX1_valueOf 5 = .ok (.aload_n 0, 1) := by decide +kernel
theorem dX1_valueOf_6 : decode cX1_valueOf 6 = .ok (.getfield 26, 3) := by decide +kernel
theorem dX1_valueOf_9 : decode cX1_valueOf 9 = .ok (.if_icmp .ge 108, 3) := by decide +kernel
theorem dX1_valueOf_12 : decode cX1_valueOf 12 = .ok (.aload_n 0, 1) := by decide +kernel
theorem dX1_valueOf_13 : decode cX1_valueOf 13 = .ok (.getfield 7, 3) := by decide +kernel
theorem dX1_valueOf_16 : decode cX1_valueOf 16 = .ok (.iload 4, 2) := by decide +kernel
theorem dX1_valueOf_18 : decode cX1_valueOf 18 = .ok (.iaload, 1) := by decide +kernel
theorem dX1_valueOf_19 : decode cX1_valueOf 19 = .ok (.iload_n 1, 1) := by decide +kernel
theorem dX1_valueOf_20 : decode cX1_valueOf 20 = .ok (.if_icmp .ne 91, 3) := by decide +kernel
theorem dX1_valueOf_23 : decode cX1_valueOf 23 = .ok (.aload_n 0, 1) := by decide +kernel
theorem dX1_valueOf_24 : decode cX1_valueOf 24 = .ok (.getfield 13, 3) := by decide +kernel
theorem dX1_valueOf_27 : decode cX1_valueOf 27 = .ok (.iload 4, 2) := by decide +kernel
theorem dX1_valueOf_29 : decode cX1_valueOf 29 = .ok (.iaload, 1) := by decide +kernel
theorem dX1_valueOf_30 : decode cX1_valueOf 30 = .ok (.iload_n 2, 1) := by decide +kernel
theorem dX1_valueOf_31 : decode cX1_valueOf 31 = .ok (.if_icmp .ne 80, 3) := by decide +kernel
theorem dX1_valueOf_34 : decode cX1_valueOf 34 = .ok (.iconst 0, 1) := by decide +kernel
theorem dX1_valueOf_35 : decode cX1_valueOf 35 = .ok (.istore 5, 2) := by decide +kernel
theorem dX1_valueOf_37 : decode cX1_valueOf 37 = .ok (.iconst 0, 1) := by decide +kernel
theorem dX1_valueOf_38 : decode cX1_valueOf 38 = .ok (.istore 6, 2) := by decide +kernel
theorem dX1_valueOf_40 : decode cX1_valueOf 40 = .ok (.iload 6, 2) := by decide +kernel
theorem dX1_valueOf_42 : decode cX1_valueOf 42 = .ok (.aload_n 0, 1) := by decide +kernel
theorem dX1_valueOf_43 : decode cX1_valueOf 43 = .ok (.getfield 26, 3) := by decide +kernel
theorem dX1_valueOf_46 : decode cX1_valueOf 46 = .ok (.if_icmp .ge 51, 3) := by decide +kernel
theorem dX1_valueOf_49 : decode cX1_valueOf 49 = .ok (.aload_n 0, 1) := by decide +kernel
theorem dX1_valueOf_50 : decode cX1_valueOf 50 = .ok (.getfield 7, 3) := by decide +kernel
theorem dX1_valueOf_53 : decode cX1_valueOf 53 = .ok (.iload 6, 2) := by decide +kernel
theorem dX1_valueOf_55 : decode cX1_valueOf 55 = .ok (.iaload, 1) := by decide +kernel
theorem dX1_valueOf_56 : decode cX1_valueOf 56 = .ok (.iload_n 1, 1) := by decide +kernel
theorem dX1_valueOf_57 : decode cX1_valueOf 57 = .ok (.if_icmp .ne 34, 3) := by decide +kernel
theorem dX1_valueOf_60 : decode cX1_valueOf 60 = .ok (.aload_n 0, 1) := by decide +kernel
theorem dX1_valueOf_61 : decode cX1_valueOf 61 = .ok (.getfield 13, 3) := by decide +kernel
theorem dX1_valueOf_64 : decode cX1_valueOf 64 = .ok (.iload 6, 2) := by decide +kernel
theorem dX1_valueOf_66 : decode cX1_valueOf 66 = .ok (.iaload, 1) := by decide +kernel
theorem dX1_valueOf_67 : decode cX1_valueOf 67 = .ok (.iload_n 2, 1) := by decide +kernel
theorem dX1_valueOf_68 : decode cX1_valueOf 68 = .ok (.if_icmp .ne 23, 3) := by decide +kernel
theorem dX1_valueOf_71 : decode cX1_valueOf 71 = .ok (.aload_n 0, 1) := by decide +kernel
theorem dX1_valueOf_72 : decode cX1_valueOf 72 = .ok (.getfield 16, 3) := by decide +kernel
theorem dX1_valueOf_75 : decode cX1_valueOf 75 = .ok (.iload 6, 2) := by decide +kernel
theorem dX1_valueOf_77 : decode cX1_valueOf 77 = .ok (.iaload, 1) := by decide +kernel
theorem dX1_valueOf_78 : decode cX1_valueOf 78 = .ok (.aload_n 0, 1) := by decide +kernel
theorem dX1_valueOf_79 : decode cX1_valueOf 79 = .ok (.getfield 16, 3) := by decide +kernel
theorem dX1_valueOf_82 : decode cX1_valueOf 82 = .ok (.iload 4, 2) := by decide +kernel
theorem dX1_valueOf_84 : decode cX1_valueOf 84 = .ok (.iaload, 1) := by decide +kernel
theorem dX1_valueOf_85 : decode cX1_valueOf 85 = .ok (.if_icmp .ge 6, 3) := by decide +kernel
theorem dX1_valueOf_88 : decode cX1_valueOf 88 = .ok (.iinc 5 1, 3) := by decide +kernel
theorem dX1_valueOf_91 : decode cX1_valueOf 91 = .ok (.iinc 6 1, 3) := by decide +kernel
theorem dX1_valueOf_94 : decode cX1_valueOf 94 = .ok (.goto (-54), 3) := by decide +kernel
theorem dX1_valueOf_97 : decode cX1_valueOf 97 = .ok (.iload 5, 2) := by decide +kernel
theorem dX1_valueOf_99 : decode cX1_valueOf 99 = .ok (.iload_n 3, 1) := by decide +kernel
theorem dX1_valueOf_100 : decode cX1_valueOf 100 = .ok (.if_icmp .ne 11, 3) := by decide +kernel
theorem dX1_valueOf_103 : decode cX1_valueOf 103 = .ok (.aload_n 0, 1) := by decide +kernel
theorem dX1_valueOf_104 : decode cX1_valueOf 104 = .ok (.getfield 16, 3) := by decide +kernel
theorem dX1_valueOf_107 : decode cX1_valueOf 107 = .ok (.iload 4, 2) := by decide +kernel
theorem dX1_valueOf_109 : decode cX1_valueOf 109 = .ok (.iaload, 1) := by decide +kernel
theorem dX1_valueOf_110 : decode cX1_valueOf 110 = .ok (.ireturn, 1) := by decide +kernel
theorem dX1_valueOf_111 : decode cX1_valueOf 111 = .ok (.iinc 4 1, 3) := by decide +kernel
theorem dX1_valueOf_114 : decode cX1_valueOf 114 = .ok (.goto (-111), 3) := by decide +kernel
theorem dX1_valueOf_117 : decode cX1_valueOf 117 = .ok (.iconst 0, 1) := by decide +kernel
theorem dX1_valueOf_118 : decode cX1_valueOf 118 = .ok (.ireturn, 1) := by decide +kernel
abbrev cX1_place : ByteArray := prog_3_method_20_code
def yX1_place : MethodName := ⟨RX1, "place", "(I)I"⟩
theorem dX1_place_0 : decode cX1_place 0 = .ok (.iload_n 1, 1) := by decide +kernel
theorem dX1_place_1 : decode cX1_place 1 = .ok (.invokestatic 64, 3) := by decide +kernel
theorem dX1_place_4 : decode cX1_place 4 = .ok (.ifCond .eq 5, 3) := by decide +kernel
theorem dX1_place_7 : decode cX1_place 7 = .ok (.iconst (-1), 1) := by decide +kernel
theorem dX1_place_8 : decode cX1_place 8 = .ok (.ireturn, 1) := by decide +kernel
theorem dX1_place_9 : decode cX1_place 9 = .ok (.aload_n 0, 1) := by decide +kernel
theorem dX1_place_10 : decode cX1_place 10 = .ok (.iload_n 1, 1) := by decide +kernel
theorem dX1_place_11 : decode cX1_place 11 = .ok (.invokevirtual 67, 3) := by decide +kernel
theorem dX1_place_14 : decode cX1_place 14 = .ok (.pop, 1) := by decide +kernel
theorem dX1_place_15 : decode cX1_place 15 = .ok (.aload_n 0, 1) := by decide +kernel
theorem dX1_place_16 : decode cX1_place 16 = .ok (.getfield 55, 3) := by decide +kernel
theorem dX1_place_19 : decode cX1_place 19 = .ok (.ireturn, 1) := by decide +kernel
abbrev cX1_rounds : ByteArray := prog_3_method_21_code
def yX1_rounds : MethodName := ⟨RX1, "rounds", "(I)I"⟩
theorem dX1_rounds_0 : decode cX1_rounds 0 = .ok (.iload_n 1, 1) := by decide +kernel
theorem dX1_rounds_1 : decode cX1_rounds 1 = .ok (.invokestatic 64, 3) := by decide +kernel
theorem dX1_rounds_4 : decode cX1_rounds 4 = .ok (.ifCond .eq 5, 3) := by decide +kernel
theorem dX1_rounds_7 : decode cX1_rounds 7 = .ok (.iconst (-1), 1) := by decide +kernel
theorem dX1_rounds_8 : decode cX1_rounds 8 = .ok (.ireturn, 1) := by decide +kernel
theorem dX1_rounds_9 : decode cX1_rounds 9 = .ok (.aload_n 0, 1) := by decide +kernel
theorem dX1_rounds_10 : decode cX1_rounds 10 = .ok (.iload_n 1, 1) := by decide +kernel
theorem dX1_rounds_11 : decode cX1_rounds 11 = .ok (.invokevirtual 67, 3) := by decide +kernel
theorem dX1_rounds_14 : decode cX1_rounds 14 = .ok (.pop, 1) := by decide +kernel
theorem dX1_rounds_15 : decode cX1_rounds 15 = .ok (.aload_n 0, 1) := by decide +kernel
theorem dX1_rounds_16 : decode cX1_rounds 16 = .ok (.getfield 48, 3) := by decide +kernel
theorem dX1_rounds_19 : decode cX1_rounds 19 = .ok (.ireturn, 1) := by decide +kernel
abbrev cX1_value : ByteArray := prog_3_method_22_code
def yX1_value : MethodName := ⟨RX1, "value", "(II)I"⟩
theorem dX1_value_0 : decode cX1_value 0 = .ok (.iload_n 1, 1) := by decide +kernel
theorem dX1_value_1 : decode cX1_value 1 = .ok (.invokestatic 64, 3) := by decide +kernel
theorem dX1_value_4 : decode cX1_value 4 = .ok (.ifCond .eq 5, 3) := by decide +kernel
theorem dX1_value_7 : decode cX1_value 7 = .ok (.iconst 0, 1) := by decide +kernel
theorem dX1_value_8 : decode cX1_value 8 = .ok (.ireturn, 1) := by decide +kernel
theorem dX1_value_9 : decode cX1_value 9 = .ok (.aload_n 0, 1) := by decide +kernel
theorem dX1_value_10 : decode cX1_value 10 = .ok (.iload_n 1, 1) := by decide +kernel
theorem dX1_value_11 : decode cX1_value 11 = .ok (.invokevirtual 67, 3) := by decide +kernel
theorem dX1_value_14 : decode cX1_value 14 = .ok (.istore_n 3, 1) := by decide +kernel
theorem dX1_value_15 : decode cX1_value 15 = .ok (.iload_n 3, 1) := by decide +kernel
theorem dX1_value_16 : decode cX1_value 16 = .ok (.iconst 1, 1) := by decide +kernel
theorem dX1_value_17 : decode cX1_value 17 = .ok (.if_icmp .ne 14, 3) := by decide +kernel
theorem dX1_value_20 : decode cX1_value 20 = .ok (.aload_n 0, 1) := by decide +kernel
theorem dX1_value_21 : decode cX1_value 21 = .ok (.aload_n 0, 1) := by decide +kernel
theorem dX1_value_22 : decode cX1_value 22 = .ok (.getfield 55, 3) := by decide +kernel
theorem dX1_value_25 : decode cX1_value 25 = .ok (.iload_n 1, 1) := by decide +kernel
theorem dX1_value_26 : decode cX1_value 26 = .ok (.iload_n 2, 1) := by decide +kernel
theorem dX1_value_27 : decode cX1_value 27 = .ok (.invokevirtual 61, 3) := by decide +kernel
theorem dX1_value_30 : decode cX1_value 30 = .ok (.ireturn, 1) := by decide +kernel
theorem dX1_value_31 : decode cX1_value 31 = .ok (.iload_n 3, 1) := by decide +kernel
theorem dX1_value_32 : decode cX1_value 32 = .ok (.iconst 4, 1) := by decide +kernel
theorem dX1_value_33 : decode cX1_value 33 = .ok (.if_icmp .ne 20, 3) := by decide +kernel
theorem dX1_value_36 : decode cX1_value 36 = .ok (.iload_n 2, 1) := by decide +kernel
theorem dX1_value_37 : decode cX1_value 37 = .ok (.ifCond .ne 16, 3) := by decide +kernel
theorem dX1_value_40 : decode cX1_value 40 = .ok (.aload_n 0, 1) := by decide +kernel
theorem dX1_value_41 : decode cX1_value 41 = .ok (.aload_n 0, 1) := by decide +kernel
theorem dX1_value_42 : decode cX1_value 42 = .ok (.getfield 55, 3) := by decide +kernel
theorem dX1_value_45 : decode cX1_value 45 = .ok (.iconst 4, 1) := by decide +kernel
theorem dX1_value_46 : decode cX1_value 46 = .ok (.iconst 0, 1) := by decide +kernel
theorem dX1_value_47 : decode cX1_value 47 = .ok (.invokevirtual 61, 3) := by decide +kernel
theorem dX1_value_50 : decode cX1_value 50 = .ok (.goto 4, 3) := by decide +kernel
theorem dX1_value_53 : decode cX1_value 53 = .ok (.iconst 0, 1) := by decide +kernel
theorem dX1_value_54 : decode cX1_value 54 = .ok (.ireturn, 1) := by decide +kernel
end
section
set_option maxRecDepth 100000
theorem q22 : (Jvm.Cond.initialized "ZoneLookupModel") ∈ lw_all := lw_g (lw_at lw_m1 2 rfl) rfl
theorem q178 : (Jvm.Cond.instantiable "ZoneLookupModel" (8 : Nat)) ∈ lw_all := lw_g (lw_at lw_m1 158 rfl) rfl
theorem q180 : (Jvm.Cond.instanceMethod ({ cls := "ZoneLookupModel", name := "<init>", desc := "()V" } : Jvm.MethodName)) ∈ lw_all := lw_g (lw_at lw_m1 160 rfl) rfl
theorem q181 : (Jvm.Cond.code ({ cls := "ZoneLookupModel", name := "<init>", desc := "()V" } : Jvm.MethodName) prog_3_method_1_code (1 : Nat) (Option.none : Option Jvm.ClassFile.FieldType)) ∈ lw_all := lw_g (lw_at lw_m1 161 rfl) rfl
theorem q182 : (Jvm.Cond.methodLink "ZoneLookupModel" (1 : Nat) ({ cls := "java/lang/Object", name := "<init>", desc := "()V" } : Jvm.MethodName)) ∈ lw_all := lw_g (lw_at lw_m1 162 rfl) rfl
theorem q183 : (Jvm.Cond.fieldLink "ZoneLookupModel" (26 : Nat) "ZoneLookupModel" "entries" "I") ∈ lw_all := lw_g (lw_at lw_m1 163 rfl) rfl
theorem q184 : (Jvm.Cond.fieldLink "ZoneLookupModel" (7 : Nat) "ZoneLookupModel" "names" "[I") ∈ lw_all := lw_g (lw_at lw_m1 164 rfl) rfl
theorem q185 : (Jvm.Cond.fieldLink "ZoneLookupModel" (13 : Nat) "ZoneLookupModel" "sorts" "[I") ∈ lw_all := lw_g (lw_at lw_m1 165 rfl) rfl
theorem q186 : (Jvm.Cond.fieldLink "ZoneLookupModel" (16 : Nat) "ZoneLookupModel" "values" "[I") ∈ lw_all := lw_g (lw_at lw_m1 166 rfl) rfl
theorem q187 : (Jvm.Cond.fieldLink "ZoneLookupModel" (23 : Nat) "ZoneLookupModel" "key" "I") ∈ lw_all := lw_g (lw_at lw_m1 167 rfl) rfl
theorem q188 : (Jvm.Cond.fieldLink "ZoneLookupModel" (19 : Nat) "ZoneLookupModel" "labels" "I") ∈ lw_all := lw_g (lw_at lw_m1 168 rfl) rfl
theorem q189 : (Jvm.Cond.fieldLink "ZoneLookupModel" (55 : Nat) "ZoneLookupModel" "place" "I") ∈ lw_all := lw_g (lw_at lw_m1 169 rfl) rfl
theorem q190 : (Jvm.Cond.fieldLink "ZoneLookupModel" (48 : Nat) "ZoneLookupModel" "rounds" "I") ∈ lw_all := lw_g (lw_at lw_m1 170 rfl) rfl
theorem q191 : (Jvm.Cond.lays "ZoneLookupModel" "ZoneLookupModel" "entries" "I") ∈ lw_all := lw_g (lw_at lw_m1 171 rfl) rfl
theorem q192 : (Jvm.Cond.soleField "ZoneLookupModel" "entries") ∈ lw_all := lw_g (lw_at lw_m1 172 rfl) rfl
theorem q193 : (Jvm.Cond.laysFinal "ZoneLookupModel" "ZoneLookupModel" "names" "[I") ∈ lw_all := lw_g (lw_at lw_m1 173 rfl) rfl
theorem q194 : (Jvm.Cond.soleField "ZoneLookupModel" "names") ∈ lw_all := lw_g (lw_at lw_m1 174 rfl) rfl
theorem q195 : (Jvm.Cond.laysFinal "ZoneLookupModel" "ZoneLookupModel" "sorts" "[I") ∈ lw_all := lw_g (lw_at lw_m1 175 rfl) rfl
theorem q196 : (Jvm.Cond.soleField "ZoneLookupModel" "sorts") ∈ lw_all := lw_g (lw_at lw_m1 176 rfl) rfl
theorem q197 : (Jvm.Cond.laysFinal "ZoneLookupModel" "ZoneLookupModel" "values" "[I") ∈ lw_all := lw_g (lw_at lw_m1 177 rfl) rfl
theorem q198 : (Jvm.Cond.soleField "ZoneLookupModel" "values") ∈ lw_all := lw_g (lw_at lw_m1 178 rfl) rfl
theorem q199 : (Jvm.Cond.lays "ZoneLookupModel" "ZoneLookupModel" "key" "I") ∈ lw_all := lw_g (lw_at lw_m1 179 rfl) rfl
theorem q200 : (Jvm.Cond.soleField "ZoneLookupModel" "key") ∈ lw_all := lw_g (lw_at lw_m1 180 rfl) rfl
theorem q201 : (Jvm.Cond.lays "ZoneLookupModel" "ZoneLookupModel" "labels" "I") ∈ lw_all := lw_g (lw_at lw_m1 181 rfl) rfl
theorem q202 : (Jvm.Cond.soleField "ZoneLookupModel" "labels") ∈ lw_all := lw_g (lw_at lw_m1 182 rfl) rfl
theorem q203 : (Jvm.Cond.lays "ZoneLookupModel" "ZoneLookupModel" "place" "I") ∈ lw_all := lw_g (lw_at lw_m1 183 rfl) rfl
theorem q204 : (Jvm.Cond.soleField "ZoneLookupModel" "place") ∈ lw_all := lw_g (lw_at lw_m1 184 rfl) rfl
theorem q205 : (Jvm.Cond.lays "ZoneLookupModel" "ZoneLookupModel" "rounds" "I") ∈ lw_all := lw_g (lw_at lw_m1 185 rfl) rfl
theorem q206 : (Jvm.Cond.soleField "ZoneLookupModel" "rounds") ∈ lw_all := lw_g (lw_at lw_m1 186 rfl) rfl
theorem q207 : (Jvm.Cond.superclass "ZoneLookupModel" "java/lang/Object") ∈ lw_all := lw_g (lw_at lw_m1 187 rfl) rfl
theorem q209 : (Jvm.Cond.instanceMethod ({ cls := "ZoneLookupModel", name := "label", desc := "(I)I" } : Jvm.MethodName)) ∈ lw_all := lw_g (lw_at lw_m1 189 rfl) rfl
theorem q210 : (Jvm.Cond.selects "ZoneLookupModel" ({ cls := "ZoneLookupModel", name := "label", desc := "(I)I" } : Jvm.MethodName) ({ cls := "ZoneLookupModel", name := "label", desc := "(I)I" } : Jvm.MethodName)) ∈ lw_all := lw_g (lw_at lw_m1 190 rfl) rfl
theorem q211 : (Jvm.Cond.code ({ cls := "ZoneLookupModel", name := "label", desc := "(I)I" } : Jvm.MethodName) prog_3_method_2_code (2 : Nat) (Option.some Jvm.ClassFile.FieldType.int)) ∈ lw_all := lw_g (lw_at lw_m1 191 rfl) rfl
theorem q213 : (Jvm.Cond.instanceMethod ({ cls := "ZoneLookupModel", name := "back", desc := "()I" } : Jvm.MethodName)) ∈ lw_all := lw_g (lw_at lw_m1 193 rfl) rfl
theorem q214 : (Jvm.Cond.selects "ZoneLookupModel" ({ cls := "ZoneLookupModel", name := "back", desc := "()I" } : Jvm.MethodName) ({ cls := "ZoneLookupModel", name := "back", desc := "()I" } : Jvm.MethodName)) ∈ lw_all := lw_g (lw_at lw_m1 194 rfl) rfl
theorem q215 : (Jvm.Cond.code ({ cls := "ZoneLookupModel", name := "back", desc := "()I" } : Jvm.MethodName) prog_3_method_3_code (2 : Nat) (Option.some Jvm.ClassFile.FieldType.int)) ∈ lw_all := lw_g (lw_at lw_m1 195 rfl) rfl
theorem q217 : (Jvm.Cond.instanceMethod ({ cls := "ZoneLookupModel", name := "erase", desc := "()V" } : Jvm.MethodName)) ∈ lw_all := lw_g (lw_at lw_m1 197 rfl) rfl
theorem q218 : (Jvm.Cond.selects "ZoneLookupModel" ({ cls := "ZoneLookupModel", name := "erase", desc := "()V" } : Jvm.MethodName) ({ cls := "ZoneLookupModel", name := "erase", desc := "()V" } : Jvm.MethodName)) ∈ lw_all := lw_g (lw_at lw_m1 198 rfl) rfl
theorem q219 : (Jvm.Cond.code ({ cls := "ZoneLookupModel", name := "erase", desc := "()V" } : Jvm.MethodName) prog_3_method_4_code (1 : Nat) (Option.none : Option Jvm.ClassFile.FieldType)) ∈ lw_all := lw_g (lw_at lw_m1 199 rfl) rfl
theorem q221 : (Jvm.Cond.instanceMethod ({ cls := "ZoneLookupModel", name := "number", desc := "()I" } : Jvm.MethodName)) ∈ lw_all := lw_g (lw_at lw_m1 201 rfl) rfl
theorem q222 : (Jvm.Cond.selects "ZoneLookupModel" ({ cls := "ZoneLookupModel", name := "number", desc := "()I" } : Jvm.MethodName) ({ cls := "ZoneLookupModel", name := "number", desc := "()I" } : Jvm.MethodName)) ∈ lw_all := lw_g (lw_at lw_m1 202 rfl) rfl
theorem q223 : (Jvm.Cond.code ({ cls := "ZoneLookupModel", name := "number", desc := "()I" } : Jvm.MethodName) prog_3_method_5_code (1 : Nat) (Option.some Jvm.ClassFile.FieldType.int)) ∈ lw_all := lw_g (lw_at lw_m1 203 rfl) rfl
theorem q225 : (Jvm.Cond.instanceMethod ({ cls := "ZoneLookupModel", name := "add", desc := "(II)I" } : Jvm.MethodName)) ∈ lw_all := lw_g (lw_at lw_m1 205 rfl) rfl
theorem q226 : (Jvm.Cond.selects "ZoneLookupModel" ({ cls := "ZoneLookupModel", name := "add", desc := "(II)I" } : Jvm.MethodName) ({ cls := "ZoneLookupModel", name := "add", desc := "(II)I" } : Jvm.MethodName)) ∈ lw_all := lw_g (lw_at lw_m1 206 rfl) rfl
theorem q227 : (Jvm.Cond.code ({ cls := "ZoneLookupModel", name := "add", desc := "(II)I" } : Jvm.MethodName) prog_3_method_10_code (3 : Nat) (Option.some Jvm.ClassFile.FieldType.int)) ∈ lw_all := lw_g (lw_at lw_m1 207 rfl) rfl
theorem q228 : (Jvm.Cond.methodLink "ZoneLookupModel" (29 : Nat) ({ cls := "ZoneLookupModel", name := "isName", desc := "(I)Z" } : Jvm.MethodName)) ∈ lw_all := lw_g (lw_at lw_m1 208 rfl) rfl
theorem q229 : (Jvm.Cond.static ({ cls := "ZoneLookupModel", name := "isName", desc := "(I)Z" } : Jvm.MethodName)) ∈ lw_all := lw_g (lw_at lw_m1 209 rfl) rfl
theorem q230 : (Jvm.Cond.code ({ cls := "ZoneLookupModel", name := "isName", desc := "(I)Z" } : Jvm.MethodName) prog_3_method_6_code (3 : Nat) (Option.some Jvm.ClassFile.FieldType.boolean)) ∈ lw_all := lw_g (lw_at lw_m1 210 rfl) rfl
theorem q231 : (Jvm.Cond.methodLink "ZoneLookupModel" (33 : Nat) ({ cls := "ZoneLookupModel", name := "find", desc := "(III)I" } : Jvm.MethodName)) ∈ lw_all := lw_g (lw_at lw_m1 211 rfl) rfl
theorem q232 : (Jvm.Cond.privateMethod ({ cls := "ZoneLookupModel", name := "find", desc := "(III)I" } : Jvm.MethodName)) ∈ lw_tbl := lw_at lw_m1 212 rfl
theorem q233 : (Jvm.Cond.instanceMethod ({ cls := "ZoneLookupModel", name := "find", desc := "(III)I" } : Jvm.MethodName)) ∈ lw_all := lw_g (lw_at lw_m1 213 rfl) rfl
theorem q234 : (Jvm.Cond.code ({ cls := "ZoneLookupModel", name := "find", desc := "(III)I" } : Jvm.MethodName) prog_3_method_9_code (5 : Nat) (Option.some Jvm.ClassFile.FieldType.int)) ∈ lw_all := lw_g (lw_at lw_m1 214 rfl) rfl
theorem q235 : (Jvm.Cond.methodLink "ZoneLookupModel" (37 : Nat) ({ cls := "ZoneLookupModel", name := "count", desc := "(II)I" } : Jvm.MethodName)) ∈ lw_all := lw_g (lw_at lw_m1 215 rfl) rfl
theorem q236 : (Jvm.Cond.privateMethod ({ cls := "ZoneLookupModel", name := "count", desc := "(II)I" } : Jvm.MethodName)) ∈ lw_tbl := lw_at lw_m1 216 rfl
theorem q237 : (Jvm.Cond.instanceMethod ({ cls := "ZoneLookupModel", name := "count", desc := "(II)I" } : Jvm.MethodName)) ∈ lw_all := lw_g (lw_at lw_m1 217 rfl) rfl
theorem q238 : (Jvm.Cond.code ({ cls := "ZoneLookupModel", name := "count", desc := "(II)I" } : Jvm.MethodName) prog_3_method_8_code (5 : Nat) (Option.some Jvm.ClassFile.FieldType.int)) ∈ lw_all := lw_g (lw_at lw_m1 218 rfl) rfl
theorem q240 : (Jvm.Cond.instanceMethod ({ cls := "ZoneLookupModel", name := "remove", desc := "(II)I" } : Jvm.MethodName)) ∈ lw_all := lw_g (lw_at lw_m1 220 rfl) rfl
theorem q241 : (Jvm.Cond.selects "ZoneLookupModel" ({ cls := "ZoneLookupModel", name := "remove", desc := "(II)I" } : Jvm.MethodName) ({ cls := "ZoneLookupModel", name := "remove", desc := "(II)I" } : Jvm.MethodName)) ∈ lw_all := lw_g (lw_at lw_m1 221 rfl) rfl
theorem q242 : (Jvm.Cond.code ({ cls := "ZoneLookupModel", name := "remove", desc := "(II)I" } : Jvm.MethodName) prog_3_method_11_code (4 : Nat) (Option.some Jvm.ClassFile.FieldType.int)) ∈ lw_all := lw_g (lw_at lw_m1 222 rfl) rfl
theorem q244 : (Jvm.Cond.instanceMethod ({ cls := "ZoneLookupModel", name := "exists", desc := "()I" } : Jvm.MethodName)) ∈ lw_all := lw_g (lw_at lw_m1 224 rfl) rfl
theorem q245 : (Jvm.Cond.selects "ZoneLookupModel" ({ cls := "ZoneLookupModel", name := "exists", desc := "()I" } : Jvm.MethodName) ({ cls := "ZoneLookupModel", name := "exists", desc := "()I" } : Jvm.MethodName)) ∈ lw_all := lw_g (lw_at lw_m1 225 rfl) rfl
theorem q246 : (Jvm.Cond.code ({ cls := "ZoneLookupModel", name := "exists", desc := "()I" } : Jvm.MethodName) prog_3_method_13_code (1 : Nat) (Option.some Jvm.ClassFile.FieldType.int)) ∈ lw_all := lw_g (lw_at lw_m1 226 rfl) rfl
theorem q247 : (Jvm.Cond.methodLink "ZoneLookupModel" (45 : Nat) ({ cls := "ZoneLookupModel", name := "there", desc := "(I)Z" } : Jvm.MethodName)) ∈ lw_all := lw_g (lw_at lw_m1 227 rfl) rfl
theorem q248 : (Jvm.Cond.privateMethod ({ cls := "ZoneLookupModel", name := "there", desc := "(I)Z" } : Jvm.MethodName)) ∈ lw_tbl := lw_at lw_m1 228 rfl
theorem q249 : (Jvm.Cond.instanceMethod ({ cls := "ZoneLookupModel", name := "there", desc := "(I)Z" } : Jvm.MethodName)) ∈ lw_all := lw_g (lw_at lw_m1 229 rfl) rfl
theorem q250 : (Jvm.Cond.code ({ cls := "ZoneLookupModel", name := "there", desc := "(I)Z" } : Jvm.MethodName) prog_3_method_12_code (3 : Nat) (Option.some Jvm.ClassFile.FieldType.boolean)) ∈ lw_all := lw_g (lw_at lw_m1 230 rfl) rfl
theorem q251 : (Jvm.Cond.methodLink "ZoneLookupModel" (41 : Nat) ({ cls := "ZoneLookupModel", name := "covers", desc := "(II)Z" } : Jvm.MethodName)) ∈ lw_all := lw_g (lw_at lw_m1 231 rfl) rfl
theorem q252 : (Jvm.Cond.static ({ cls := "ZoneLookupModel", name := "covers", desc := "(II)Z" } : Jvm.MethodName)) ∈ lw_all := lw_g (lw_at lw_m1 232 rfl) rfl
theorem q253 : (Jvm.Cond.code ({ cls := "ZoneLookupModel", name := "covers", desc := "(II)Z" } : Jvm.MethodName) prog_3_method_7_code (4 : Nat) (Option.some Jvm.ClassFile.FieldType.boolean)) ∈ lw_all := lw_g (lw_at lw_m1 233 rfl) rfl
theorem q255 : (Jvm.Cond.instanceMethod ({ cls := "ZoneLookupModel", name := "look", desc := "(I)I" } : Jvm.MethodName)) ∈ lw_all := lw_g (lw_at lw_m1 235 rfl) rfl
theorem q256 : (Jvm.Cond.selects "ZoneLookupModel" ({ cls := "ZoneLookupModel", name := "look", desc := "(I)I" } : Jvm.MethodName) ({ cls := "ZoneLookupModel", name := "look", desc := "(I)I" } : Jvm.MethodName)) ∈ lw_all := lw_g (lw_at lw_m1 236 rfl) rfl
theorem q257 : (Jvm.Cond.code ({ cls := "ZoneLookupModel", name := "look", desc := "(I)I" } : Jvm.MethodName) prog_3_method_19_code (2 : Nat) (Option.some Jvm.ClassFile.FieldType.int)) ∈ lw_all := lw_g (lw_at lw_m1 237 rfl) rfl
theorem q258 : (Jvm.Cond.methodLink "ZoneLookupModel" (64 : Nat) ({ cls := "ZoneLookupModel", name := "bad", desc := "(I)Z" } : Jvm.MethodName)) ∈ lw_all := lw_g (lw_at lw_m1 238 rfl) rfl
theorem q259 : (Jvm.Cond.static ({ cls := "ZoneLookupModel", name := "bad", desc := "(I)Z" } : Jvm.MethodName)) ∈ lw_all := lw_g (lw_at lw_m1 239 rfl) rfl
theorem q260 : (Jvm.Cond.code ({ cls := "ZoneLookupModel", name := "bad", desc := "(I)Z" } : Jvm.MethodName) prog_3_method_18_code (1 : Nat) (Option.some Jvm.ClassFile.FieldType.boolean)) ∈ lw_all := lw_g (lw_at lw_m2 0 rfl) rfl
theorem q261 : (Jvm.Cond.methodLink "ZoneLookupModel" (67 : Nat) ({ cls := "ZoneLookupModel", name := "lookUp", desc := "(I)I" } : Jvm.MethodName)) ∈ lw_all := lw_g (lw_at lw_m2 1 rfl) rfl
theorem q262 : (Jvm.Cond.privateMethod ({ cls := "ZoneLookupModel", name := "lookUp", desc := "(I)I" } : Jvm.MethodName)) ∈ lw_tbl := lw_at lw_m2 2 rfl
theorem q263 : (Jvm.Cond.instanceMethod ({ cls := "ZoneLookupModel", name := "lookUp", desc := "(I)I" } : Jvm.MethodName)) ∈ lw_all := lw_g (lw_at lw_m2 3 rfl) rfl
theorem q264 : (Jvm.Cond.code ({ cls := "ZoneLookupModel", name := "lookUp", desc := "(I)I" } : Jvm.MethodName) prog_3_method_17_code (5 : Nat) (Option.some Jvm.ClassFile.FieldType.int)) ∈ lw_all := lw_g (lw_at lw_m2 4 rfl) rfl
theorem q265 : (Jvm.Cond.methodLink "ZoneLookupModel" (51 : Nat) ({ cls := "ZoneLookupModel", name := "handed", desc := "(I)I" } : Jvm.MethodName)) ∈ lw_all := lw_g (lw_at lw_m2 5 rfl) rfl
theorem q266 : (Jvm.Cond.privateMethod ({ cls := "ZoneLookupModel", name := "handed", desc := "(I)I" } : Jvm.MethodName)) ∈ lw_tbl := lw_at lw_m2 6 rfl
theorem q267 : (Jvm.Cond.instanceMethod ({ cls := "ZoneLookupModel", name := "handed", desc := "(I)I" } : Jvm.MethodName)) ∈ lw_all := lw_g (lw_at lw_m2 7 rfl) rfl
theorem q268 : (Jvm.Cond.code ({ cls := "ZoneLookupModel", name := "handed", desc := "(I)I" } : Jvm.MethodName) prog_3_method_14_code (5 : Nat) (Option.some Jvm.ClassFile.FieldType.int)) ∈ lw_all := lw_g (lw_at lw_m2 8 rfl) rfl
theorem q269 : (Jvm.Cond.methodLink "ZoneLookupModel" (58 : Nat) ({ cls := "ZoneLookupModel", name := "answering", desc := "(I)I" } : Jvm.MethodName)) ∈ lw_all := lw_g (lw_at lw_m2 9 rfl) rfl
theorem q270 : (Jvm.Cond.privateMethod ({ cls := "ZoneLookupModel", name := "answering", desc := "(I)I" } : Jvm.MethodName)) ∈ lw_tbl := lw_at lw_m2 10 rfl
theorem q271 : (Jvm.Cond.instanceMethod ({ cls := "ZoneLookupModel", name := "answering", desc := "(I)I" } : Jvm.MethodName)) ∈ lw_all := lw_g (lw_at lw_m2 11 rfl) rfl
theorem q272 : (Jvm.Cond.code ({ cls := "ZoneLookupModel", name := "answering", desc := "(I)I" } : Jvm.MethodName) prog_3_method_15_code (4 : Nat) (Option.some Jvm.ClassFile.FieldType.int)) ∈ lw_all := lw_g (lw_at lw_m2 12 rfl) rfl
theorem q273 : (Jvm.Cond.methodLink "ZoneLookupModel" (61 : Nat) ({ cls := "ZoneLookupModel", name := "valueOf", desc := "(III)I" } : Jvm.MethodName)) ∈ lw_all := lw_g (lw_at lw_m2 13 rfl) rfl
theorem q274 : (Jvm.Cond.privateMethod ({ cls := "ZoneLookupModel", name := "valueOf", desc := "(III)I" } : Jvm.MethodName)) ∈ lw_tbl := lw_at lw_m2 14 rfl
theorem q275 : (Jvm.Cond.instanceMethod ({ cls := "ZoneLookupModel", name := "valueOf", desc := "(III)I" } : Jvm.MethodName)) ∈ lw_all := lw_g (lw_at lw_m2 15 rfl) rfl
theorem q276 : (Jvm.Cond.code ({ cls := "ZoneLookupModel", name := "valueOf", desc := "(III)I" } : Jvm.MethodName) prog_3_method_16_code (7 : Nat) (Option.some Jvm.ClassFile.FieldType.int)) ∈ lw_all := lw_g (lw_at lw_m2 16 rfl) rfl
theorem q278 : (Jvm.Cond.instanceMethod ({ cls := "ZoneLookupModel", name := "place", desc := "(I)I" } : Jvm.MethodName)) ∈ lw_all := lw_g (lw_at lw_m2 18 rfl) rfl
theorem q279 : (Jvm.Cond.selects "ZoneLookupModel" ({ cls := "ZoneLookupModel", name := "place", desc := "(I)I" } : Jvm.MethodName) ({ cls := "ZoneLookupModel", name := "place", desc := "(I)I" } : Jvm.MethodName)) ∈ lw_all := lw_g (lw_at lw_m2 19 rfl) rfl
theorem q280 : (Jvm.Cond.code ({ cls := "ZoneLookupModel", name := "place", desc := "(I)I" } : Jvm.MethodName) prog_3_method_20_code (2 : Nat) (Option.some Jvm.ClassFile.FieldType.int)) ∈ lw_all := lw_g (lw_at lw_m2 20 rfl) rfl
theorem q282 : (Jvm.Cond.instanceMethod ({ cls := "ZoneLookupModel", name := "rounds", desc := "(I)I" } : Jvm.MethodName)) ∈ lw_all := lw_g (lw_at lw_m2 22 rfl) rfl
theorem q283 : (Jvm.Cond.selects "ZoneLookupModel" ({ cls := "ZoneLookupModel", name := "rounds", desc := "(I)I" } : Jvm.MethodName) ({ cls := "ZoneLookupModel", name := "rounds", desc := "(I)I" } : Jvm.MethodName)) ∈ lw_all := lw_g (lw_at lw_m2 23 rfl) rfl
theorem q284 : (Jvm.Cond.code ({ cls := "ZoneLookupModel", name := "rounds", desc := "(I)I" } : Jvm.MethodName) prog_3_method_21_code (2 : Nat) (Option.some Jvm.ClassFile.FieldType.int)) ∈ lw_all := lw_g (lw_at lw_m2 24 rfl) rfl
theorem q286 : (Jvm.Cond.instanceMethod ({ cls := "ZoneLookupModel", name := "value", desc := "(II)I" } : Jvm.MethodName)) ∈ lw_all := lw_g (lw_at lw_m2 26 rfl) rfl
theorem q287 : (Jvm.Cond.selects "ZoneLookupModel" ({ cls := "ZoneLookupModel", name := "value", desc := "(II)I" } : Jvm.MethodName) ({ cls := "ZoneLookupModel", name := "value", desc := "(II)I" } : Jvm.MethodName)) ∈ lw_all := lw_g (lw_at lw_m2 27 rfl) rfl
theorem q288 : (Jvm.Cond.code ({ cls := "ZoneLookupModel", name := "value", desc := "(II)I" } : Jvm.MethodName) prog_3_method_22_code (4 : Nat) (Option.some Jvm.ClassFile.FieldType.int)) ∈ lw_all := lw_g (lw_at lw_m2 28 rfl) rfl
theorem in_X1 : ∀ w ∈ wsX10, w ∈ lw_all := lw_in wsX10 [191, 193, 195, 197, 199, 201, 203, 205] (by decide +kernel) (by decide +kernel)
end
section
set_option maxRecDepth 100000
/-! the law's own entry -/
abbrev cL_law : ByteArray := code
theorem dL_law_0 : decode cL_law 0 = .ok (.new 7, 3) := by decide +kernel
theorem dL_law_3 : decode cL_law 3 = .ok (.dup, 1) := by decide +kernel
theorem dL_law_4 : decode cL_law 4 = .ok (.invokespecial 9, 3) := by decide +kernel
theorem dL_law_7 : decode cL_law 7 = .ok (.astore_n 1, 1) := by decide +kernel
theorem dL_law_8 : decode cL_law 8 = .ok (.new 10, 3) := by decide +kernel
theorem dL_law_11 : decode cL_law 11 = .ok (.dup, 1) := by decide +kernel
theorem dL_law_12 : decode cL_law 12 = .ok (.invokespecial 12, 3) := by decide +kernel
theorem dL_law_15 : decode cL_law 15 = .ok (.astore_n 2, 1) := by decide +kernel
theorem dL_law_16 : decode cL_law 16 = .ok (.iconst 0, 1) := by decide +kernel
theorem dL_law_17 : decode cL_law 17 = .ok (.istore_n 3, 1) := by decide +kernel
theorem dL_law_18 : decode cL_law 18 = .ok (.iload_n 3, 1) := by decide +kernel
theorem dL_law_19 : decode cL_law 19 = .ok (.aload_n 0, 1) := by decide +kernel
theorem dL_law_20 : decode cL_law 20 = .ok (.arraylength, 1) := by decide +kernel
theorem dL_law_21 : decode cL_law 21 = .ok (.iconst 3, 1) := by decide +kernel
theorem dL_law_22 : decode cL_law 22 = .ok (.isub, 1) := by decide +kernel
theorem dL_law_23 : decode cL_law 23 = .ok (.if_icmp .gt 316, 3) := by decide +kernel
theorem dL_law_26 : decode cL_law 26 = .ok (.aload_n 0, 1) := by decide +kernel
theorem dL_law_27 : decode cL_law 27 = .ok (.iload_n 3, 1) := by decide +kernel
theorem dL_law_28 : decode cL_law 28 = .ok (.iaload, 1) := by decide +kernel
theorem dL_law_29 : decode cL_law 29 = .ok (.bipush 15, 2) := by decide +kernel
theorem dL_law_31 : decode cL_law 31 = .ok (.iand, 1) := by decide +kernel
theorem dL_law_32 : decode cL_law 32 = .ok (.tableswitch 301 0 10 #[60, 83, 96, 107, 120, 153, 186, 199, 222, 245, 268], 60) := by decide +kernel
theorem dL_law_92 : decode cL_law 92 = .ok (.aload_n 1, 1) := by decide +kernel
theorem dL_law_93 : decode cL_law 93 = .ok (.aload_n 0, 1) := by decide +kernel
theorem dL_law_94 : decode cL_law 94 = .ok (.iload_n 3, 1) := by decide +kernel
theorem dL_law_95 : decode cL_law 95 = .ok (.iconst 1, 1) := by decide +kernel
theorem dL_law_96 : decode cL_law 96 = .ok (.iadd, 1) := by decide +kernel
theorem dL_law_97 : decode cL_law 97 = .ok (.iaload, 1) := by decide +kernel
theorem dL_law_98 : decode cL_law 98 = .ok (.invokevirtual 13, 3) := by decide +kernel
theorem dL_law_101 : decode cL_law 101 = .ok (.aload_n 2, 1) := by decide +kernel
theorem dL_law_102 : decode cL_law 102 = .ok (.aload_n 0, 1) := by decide +kernel
theorem dL_law_103 : decode cL_law 103 = .ok (.iload_n 3, 1) := by decide +kernel
theorem dL_law_104 : decode cL_law 104 = .ok (.iconst 1, 1) := by decide +kernel
theorem dL_law_105 : decode cL_law 105 = .ok (.iadd, 1) := by decide +kernel
theorem dL_law_106 : decode cL_law 106 = .ok (.iaload, 1) := by decide +kernel
theorem dL_law_107 : decode cL_law 107 = .ok (.invokevirtual 17, 3) := by decide +kernel
theorem dL_law_110 : decode cL_law 110 = .ok (.if_icmp .eq 223, 3) := by decide +kernel
theorem dL_law_113 : decode cL_law 113 = .ok (.iconst 0, 1) := by decide +kernel
theorem dL_law_114 : decode cL_law 114 = .ok (.ireturn, 1) := by decide +kernel
theorem dL_law_115 : decode cL_law 115 = .ok (.aload_n 1, 1) := by decide +kernel
theorem dL_law_116 : decode cL_law 116 = .ok (.invokevirtual 18, 3) := by decide +kernel
theorem dL_law_119 : decode cL_law 119 = .ok (.aload_n 2, 1) := by decide +kernel
theorem dL_law_120 : decode cL_law 120 = .ok (.invokevirtual 22, 3) := by decide +kernel
theorem dL_law_123 : decode cL_law 123 = .ok (.if_icmp .eq 210, 3) := by decide +kernel
theorem dL_law_126 : decode cL_law 126 = .ok (.iconst 0, 1) := by decide +kernel
theorem dL_law_127 : decode cL_law 127 = .ok (.ireturn, 1) := by decide +kernel
theorem dL_law_128 : decode cL_law 128 = .ok (.aload_n 1, 1) := by decide +kernel
theorem dL_law_129 : decode cL_law 129 = .ok (.invokevirtual 23, 3) := by decide +kernel
theorem dL_law_132 : decode cL_law 132 = .ok (.aload_n 2, 1) := by decide +kernel
theorem dL_law_133 : decode cL_law 133 = .ok (.invokevirtual 26, 3) := by decide +kernel
theorem dL_law_136 : decode cL_law 136 = .ok (.goto 197, 3) := by decide +kernel
theorem dL_law_139 : decode cL_law 139 = .ok (.aload_n 1, 1) := by decide +kernel
theorem dL_law_140 : decode cL_law 140 = .ok (.invokevirtual 27, 3) := by decide +kernel
theorem dL_law_143 : decode cL_law 143 = .ok (.aload_n 2, 1) := by decide +kernel
theorem dL_law_144 : decode cL_law 144 = .ok (.invokevirtual 30, 3) := by decide +kernel
theorem dL_law_147 : decode cL_law 147 = .ok (.if_icmp .eq 186, 3) := by decide +kernel
theorem dL_law_150 : decode cL_law 150 = .ok (.iconst 0, 1) := by decide +kernel
theorem dL_law_151 : decode cL_law 151 = .ok (.ireturn, 1) := by decide +kernel
theorem dL_law_152 : decode cL_law 152 = .ok (.aload_n 1, 1) := by decide +kernel
theorem dL_law_153 : decode cL_law 153 = .ok (.aload_n 0, 1) := by decide +kernel
theorem dL_law_154 : decode cL_law 154 = .ok (.iload_n 3, 1) := by decide +kernel
theorem dL_law_155 : decode cL_law 155 = .ok (.iconst 1, 1) := by decide +kernel
theorem dL_law_156 : decode cL_law 156 = .ok (.iadd, 1) := by decide +kernel
theorem dL_law_157 : decode cL_law 157 = .ok (.iaload, 1) := by decide +kernel
theorem dL_law_158 : decode cL_law 158 = .ok (.aload_n 0, 1) := by decide +kernel
theorem dL_law_159 : decode cL_law 159 = .ok (.iload_n 3, 1) := by decide +kernel
theorem dL_law_160 : decode cL_law 160 = .ok (.iconst 2, 1) := by decide +kernel
theorem dL_law_161 : decode cL_law 161 = .ok (.iadd, 1) := by decide +kernel
theorem dL_law_162 : decode cL_law 162 = .ok (.iaload, 1) := by decide +kernel
theorem dL_law_163 : decode cL_law 163 = .ok (.invokevirtual 31, 3) := by decide +kernel
theorem dL_law_166 : decode cL_law 166 = .ok (.aload_n 2, 1) := by decide +kernel
theorem dL_law_167 : decode cL_law 167 = .ok (.aload_n 0, 1) := by decide +kernel
theorem dL_law_168 : decode cL_law 168 = .ok (.iload_n 3, 1) := by decide +kernel
theorem dL_law_169 : decode cL_law 169 = .ok (.iconst 1, 1) := by decide +kernel
theorem dL_law_170 : decode cL_law 170 = .ok (.iadd, 1) := by decide +kernel
theorem dL_law_171 : decode cL_law 171 = .ok (.iaload, 1) := by decide +kernel
theorem dL_law_172 : decode cL_law 172 = .ok (.aload_n 0, 1) := by decide +kernel
theorem dL_law_173 : decode cL_law 173 = .ok (.iload_n 3, 1) := by decide +kernel
theorem dL_law_174 : decode cL_law 174 = .ok (.iconst 2, 1) := by decide +kernel
theorem dL_law_175 : decode cL_law 175 = .ok (.iadd, 1) := by decide +kernel
theorem dL_law_176 : decode cL_law 176 = .ok (.iaload, 1) := by decide +kernel
theorem dL_law_177 : decode cL_law 177 = .ok (.invokevirtual 35, 3) := by decide +kernel
theorem dL_law_180 : decode cL_law 180 = .ok (.if_icmp .eq 153, 3) := by decide +kernel
theorem dL_law_183 : decode cL_law 183 = .ok (.iconst 0, 1) := by decide +kernel
theorem dL_law_184 : decode cL_law 184 = .ok (.ireturn, 1) := by decide +kernel
theorem dL_law_185 : decode cL_law 185 = .ok (.aload_n 1, 1) := by decide +kernel
theorem dL_law_186 : decode cL_law 186 = .ok (.aload_n 0, 1) := by decide +kernel
theorem dL_law_187 : decode cL_law 187 = .ok (.iload_n 3, 1) := by decide +kernel
theorem dL_law_188 : decode cL_law 188 = .ok (.iconst 1, 1) := by decide +kernel
theorem dL_law_189 : decode cL_law 189 = .ok (.iadd, 1) := by decide +kernel
theorem dL_law_190 : decode cL_law 190 = .ok (.iaload, 1) := by decide +kernel
theorem dL_law_191 : decode cL_law 191 = .ok (.aload_n 0, 1) := by decide +kernel
theorem dL_law_192 : decode cL_law 192 = .ok (.iload_n 3, 1) := by decide +kernel
theorem dL_law_193 : decode cL_law 193 = .ok (.iconst 2, 1) := by decide +kernel
theorem dL_law_194 : decode cL_law 194 = .ok (.iadd, 1) := by decide +kernel
theorem dL_law_195 : decode cL_law 195 = .ok (.iaload, 1) := by decide +kernel
theorem dL_law_196 : decode cL_law 196 = .ok (.invokevirtual 36, 3) := by decide +kernel
theorem dL_law_199 : decode cL_law 199 = .ok (.aload_n 2, 1) := by decide +kernel
theorem dL_law_200 : decode cL_law 200 = .ok (.aload_n 0, 1) := by decide +kernel
theorem dL_law_201 : decode cL_law 201 = .ok (.iload_n 3, 1) := by decide +kernel
end
section
set_option maxRecDepth 100000
theorem dL_law_202 : decode cL_law 202 = .ok (.iconst 1, 1) := by decide +kernel
theorem dL_law_203 : decode cL_law 203 = .ok (.iadd, 1) := by decide +kernel
theorem dL_law_204 : decode cL_law 204 = .ok (.iaload, 1) := by decide +kernel
theorem dL_law_205 : decode cL_law 205 = .ok (.aload_n 0, 1) := by decide +kernel
theorem dL_law_206 : decode cL_law 206 = .ok (.iload_n 3, 1) := by decide +kernel
theorem dL_law_207 : decode cL_law 207 = .ok (.iconst 2, 1) := by decide +kernel
theorem dL_law_208 : decode cL_law 208 = .ok (.iadd, 1) := by decide +kernel
theorem dL_law_209 : decode cL_law 209 = .ok (.iaload, 1) := by decide +kernel
theorem dL_law_210 : decode cL_law 210 = .ok (.invokevirtual 39, 3) := by decide +kernel
theorem dL_law_213 : decode cL_law 213 = .ok (.if_icmp .eq 120, 3) := by decide +kernel
theorem dL_law_216 : decode cL_law 216 = .ok (.iconst 0, 1) := by decide +kernel
theorem dL_law_217 : decode cL_law 217 = .ok (.ireturn, 1) := by decide +kernel
theorem dL_law_218 : decode cL_law 218 = .ok (.aload_n 1, 1) := by decide +kernel
theorem dL_law_219 : decode cL_law 219 = .ok (.invokevirtual 40, 3) := by decide +kernel
theorem dL_law_222 : decode cL_law 222 = .ok (.aload_n 2, 1) := by decide +kernel
theorem dL_law_223 : decode cL_law 223 = .ok (.invokevirtual 43, 3) := by decide +kernel
theorem dL_law_226 : decode cL_law 226 = .ok (.if_icmp .eq 107, 3) := by decide +kernel
theorem dL_law_229 : decode cL_law 229 = .ok (.iconst 0, 1) := by decide +kernel
theorem dL_law_230 : decode cL_law 230 = .ok (.ireturn, 1) := by decide +kernel
theorem dL_law_231 : decode cL_law 231 = .ok (.aload_n 1, 1) := by decide +kernel
theorem dL_law_232 : decode cL_law 232 = .ok (.aload_n 0, 1) := by decide +kernel
theorem dL_law_233 : decode cL_law 233 = .ok (.iload_n 3, 1) := by decide +kernel
theorem dL_law_234 : decode cL_law 234 = .ok (.iconst 1, 1) := by decide +kernel
theorem dL_law_235 : decode cL_law 235 = .ok (.iadd, 1) := by decide +kernel
theorem dL_law_236 : decode cL_law 236 = .ok (.iaload, 1) := by decide +kernel
theorem dL_law_237 : decode cL_law 237 = .ok (.invokevirtual 44, 3) := by decide +kernel
theorem dL_law_240 : decode cL_law 240 = .ok (.aload_n 2, 1) := by decide +kernel
theorem dL_law_241 : decode cL_law 241 = .ok (.aload_n 0, 1) := by decide +kernel
theorem dL_law_242 : decode cL_law 242 = .ok (.iload_n 3, 1) := by decide +kernel
theorem dL_law_243 : decode cL_law 243 = .ok (.iconst 1, 1) := by decide +kernel
theorem dL_law_244 : decode cL_law 244 = .ok (.iadd, 1) := by decide +kernel
theorem dL_law_245 : decode cL_law 245 = .ok (.iaload, 1) := by decide +kernel
theorem dL_law_246 : decode cL_law 246 = .ok (.invokevirtual 47, 3) := by decide +kernel
theorem dL_law_249 : decode cL_law 249 = .ok (.if_icmp .eq 84, 3) := by decide +kernel
theorem dL_law_252 : decode cL_law 252 = .ok (.iconst 0, 1) := by decide +kernel
theorem dL_law_253 : decode cL_law 253 = .ok (.ireturn, 1) := by decide +kernel
theorem dL_law_254 : decode cL_law 254 = .ok (.aload_n 1, 1) := by decide +kernel
theorem dL_law_255 : decode cL_law 255 = .ok (.aload_n 0, 1) := by decide +kernel
theorem dL_law_256 : decode cL_law 256 = .ok (.iload_n 3, 1) := by decide +kernel
theorem dL_law_257 : decode cL_law 257 = .ok (.iconst 1, 1) := by decide +kernel
theorem dL_law_258 : decode cL_law 258 = .ok (.iadd, 1) := by decide +kernel
theorem dL_law_259 : decode cL_law 259 = .ok (.iaload, 1) := by decide +kernel
theorem dL_law_260 : decode cL_law 260 = .ok (.invokevirtual 48, 3) := by decide +kernel
theorem dL_law_263 : decode cL_law 263 = .ok (.aload_n 2, 1) := by decide +kernel
theorem dL_law_264 : decode cL_law 264 = .ok (.aload_n 0, 1) := by decide +kernel
theorem dL_law_265 : decode cL_law 265 = .ok (.iload_n 3, 1) := by decide +kernel
theorem dL_law_266 : decode cL_law 266 = .ok (.iconst 1, 1) := by decide +kernel
theorem dL_law_267 : decode cL_law 267 = .ok (.iadd, 1) := by decide +kernel
theorem dL_law_268 : decode cL_law 268 = .ok (.iaload, 1) := by decide +kernel
theorem dL_law_269 : decode cL_law 269 = .ok (.invokevirtual 51, 3) := by decide +kernel
theorem dL_law_272 : decode cL_law 272 = .ok (.if_icmp .eq 61, 3) := by decide +kernel
theorem dL_law_275 : decode cL_law 275 = .ok (.iconst 0, 1) := by decide +kernel
theorem dL_law_276 : decode cL_law 276 = .ok (.ireturn, 1) := by decide +kernel
theorem dL_law_277 : decode cL_law 277 = .ok (.aload_n 1, 1) := by decide +kernel
theorem dL_law_278 : decode cL_law 278 = .ok (.aload_n 0, 1) := by decide +kernel
theorem dL_law_279 : decode cL_law 279 = .ok (.iload_n 3, 1) := by decide +kernel
theorem dL_law_280 : decode cL_law 280 = .ok (.iconst 1, 1) := by decide +kernel
theorem dL_law_281 : decode cL_law 281 = .ok (.iadd, 1) := by decide +kernel
theorem dL_law_282 : decode cL_law 282 = .ok (.iaload, 1) := by decide +kernel
theorem dL_law_283 : decode cL_law 283 = .ok (.invokevirtual 52, 3) := by decide +kernel
theorem dL_law_286 : decode cL_law 286 = .ok (.aload_n 2, 1) := by decide +kernel
theorem dL_law_287 : decode cL_law 287 = .ok (.aload_n 0, 1) := by decide +kernel
theorem dL_law_288 : decode cL_law 288 = .ok (.iload_n 3, 1) := by decide +kernel
theorem dL_law_289 : decode cL_law 289 = .ok (.iconst 1, 1) := by decide +kernel
theorem dL_law_290 : decode cL_law 290 = .ok (.iadd, 1) := by decide +kernel
theorem dL_law_291 : decode cL_law 291 = .ok (.iaload, 1) := by decide +kernel
theorem dL_law_292 : decode cL_law 292 = .ok (.invokevirtual 55, 3) := by decide +kernel
theorem dL_law_295 : decode cL_law 295 = .ok (.if_icmp .eq 38, 3) := by decide +kernel
theorem dL_law_298 : decode cL_law 298 = .ok (.iconst 0, 1) := by decide +kernel
theorem dL_law_299 : decode cL_law 299 = .ok (.ireturn, 1) := by decide +kernel
theorem dL_law_300 : decode cL_law 300 = .ok (.aload_n 1, 1) := by decide +kernel
theorem dL_law_301 : decode cL_law 301 = .ok (.aload_n 0, 1) := by decide +kernel
theorem dL_law_302 : decode cL_law 302 = .ok (.iload_n 3, 1) := by decide +kernel
theorem dL_law_303 : decode cL_law 303 = .ok (.iconst 1, 1) := by decide +kernel
theorem dL_law_304 : decode cL_law 304 = .ok (.iadd, 1) := by decide +kernel
theorem dL_law_305 : decode cL_law 305 = .ok (.iaload, 1) := by decide +kernel
theorem dL_law_306 : decode cL_law 306 = .ok (.aload_n 0, 1) := by decide +kernel
theorem dL_law_307 : decode cL_law 307 = .ok (.iload_n 3, 1) := by decide +kernel
theorem dL_law_308 : decode cL_law 308 = .ok (.iconst 2, 1) := by decide +kernel
theorem dL_law_309 : decode cL_law 309 = .ok (.iadd, 1) := by decide +kernel
theorem dL_law_310 : decode cL_law 310 = .ok (.iaload, 1) := by decide +kernel
theorem dL_law_311 : decode cL_law 311 = .ok (.invokevirtual 56, 3) := by decide +kernel
theorem dL_law_314 : decode cL_law 314 = .ok (.aload_n 2, 1) := by decide +kernel
theorem dL_law_315 : decode cL_law 315 = .ok (.aload_n 0, 1) := by decide +kernel
theorem dL_law_316 : decode cL_law 316 = .ok (.iload_n 3, 1) := by decide +kernel
theorem dL_law_317 : decode cL_law 317 = .ok (.iconst 1, 1) := by decide +kernel
theorem dL_law_318 : decode cL_law 318 = .ok (.iadd, 1) := by decide +kernel
theorem dL_law_319 : decode cL_law 319 = .ok (.iaload, 1) := by decide +kernel
theorem dL_law_320 : decode cL_law 320 = .ok (.aload_n 0, 1) := by decide +kernel
theorem dL_law_321 : decode cL_law 321 = .ok (.iload_n 3, 1) := by decide +kernel
theorem dL_law_322 : decode cL_law 322 = .ok (.iconst 2, 1) := by decide +kernel
theorem dL_law_323 : decode cL_law 323 = .ok (.iadd, 1) := by decide +kernel
theorem dL_law_324 : decode cL_law 324 = .ok (.iaload, 1) := by decide +kernel
theorem dL_law_325 : decode cL_law 325 = .ok (.invokevirtual 59, 3) := by decide +kernel
theorem dL_law_328 : decode cL_law 328 = .ok (.if_icmp .eq 5, 3) := by decide +kernel
theorem dL_law_331 : decode cL_law 331 = .ok (.iconst 0, 1) := by decide +kernel
theorem dL_law_332 : decode cL_law 332 = .ok (.ireturn, 1) := by decide +kernel
theorem dL_law_333 : decode cL_law 333 = .ok (.iinc 3 3, 3) := by decide +kernel
theorem dL_law_336 : decode cL_law 336 = .ok (.goto (-318), 3) := by decide +kernel
theorem dL_law_339 : decode cL_law 339 = .ok (.iconst 1, 1) := by decide +kernel
theorem dL_law_340 : decode cL_law 340 = .ok (.ireturn, 1) := by decide +kernel
theorem q20 : (Jvm.Cond.initialized "ZoneLookupLaw") ∈ lw_all := lw_g (lw_at lw_m1 0 rfl) rfl
theorem q23 : (Jvm.Cond.classLink "ZoneLookupLaw" (7 : Nat) "ZoneLookup") ∈ lw_all := lw_g (lw_at lw_m1 3 rfl) rfl
theorem q25 : (Jvm.Cond.methodLink "ZoneLookupLaw" (9 : Nat) ({ cls := "ZoneLookup", name := "<init>", desc := "()V" } : Jvm.MethodName)) ∈ lw_all := lw_g (lw_at lw_m1 5 rfl) rfl
theorem q78 : (Jvm.Cond.methodLink "ZoneLookupLaw" (13 : Nat) ({ cls := "ZoneLookup", name := "label", desc := "(I)I" } : Jvm.MethodName)) ∈ lw_all := lw_g (lw_at lw_m1 58 rfl) rfl
theorem q82 : (Jvm.Cond.methodLink "ZoneLookupLaw" (18 : Nat) ({ cls := "ZoneLookup", name := "back", desc := "()I" } : Jvm.MethodName)) ∈ lw_all := lw_g (lw_at lw_m1 62 rfl) rfl
theorem q86 : (Jvm.Cond.methodLink "ZoneLookupLaw" (23 : Nat) ({ cls := "ZoneLookup", name := "erase", desc := "()V" } : Jvm.MethodName)) ∈ lw_all := lw_g (lw_at lw_m1 66 rfl) rfl
theorem q90 : (Jvm.Cond.methodLink "ZoneLookupLaw" (27 : Nat) ({ cls := "ZoneLookup", name := "number", desc := "()I" } : Jvm.MethodName)) ∈ lw_all := lw_g (lw_at lw_m1 70 rfl) rfl
theorem q94 : (Jvm.Cond.methodLink "ZoneLookupLaw" (31 : Nat) ({ cls := "ZoneLookup", name := "add", desc := "(II)I" } : Jvm.MethodName)) ∈ lw_all := lw_g (lw_at lw_m1 74 rfl) rfl
theorem q121 : (Jvm.Cond.methodLink "ZoneLookupLaw" (36 : Nat) ({ cls := "ZoneLookup", name := "remove", desc := "(II)I" } : Jvm.MethodName)) ∈ lw_all := lw_g (lw_at lw_m1 101 rfl) rfl
theorem q129 : (Jvm.Cond.methodLink "ZoneLookupLaw" (40 : Nat) ({ cls := "ZoneLookup", name := "exists", desc := "()I" } : Jvm.MethodName)) ∈ lw_all := lw_g (lw_at lw_m1 109 rfl) rfl
theorem q133 : (Jvm.Cond.methodLink "ZoneLookupLaw" (44 : Nat) ({ cls := "ZoneLookup", name := "look", desc := "(I)I" } : Jvm.MethodName)) ∈ lw_all := lw_g (lw_at lw_m1 113 rfl) rfl
theorem q165 : (Jvm.Cond.methodLink "ZoneLookupLaw" (48 : Nat) ({ cls := "ZoneLookup", name := "place", desc := "(I)I" } : Jvm.MethodName)) ∈ lw_all := lw_g (lw_at lw_m1 145 rfl) rfl
theorem q169 : (Jvm.Cond.methodLink "ZoneLookupLaw" (52 : Nat) ({ cls := "ZoneLookup", name := "rounds", desc := "(I)I" } : Jvm.MethodName)) ∈ lw_all := lw_g (lw_at lw_m1 149 rfl) rfl
theorem q173 : (Jvm.Cond.methodLink "ZoneLookupLaw" (56 : Nat) ({ cls := "ZoneLookup", name := "value", desc := "(II)I" } : Jvm.MethodName)) ∈ lw_all := lw_g (lw_at lw_m1 153 rfl) rfl
theorem q177 : (Jvm.Cond.classLink "ZoneLookupLaw" (10 : Nat) "ZoneLookupModel") ∈ lw_all := lw_g (lw_at lw_m1 157 rfl) rfl
theorem q179 : (Jvm.Cond.methodLink "ZoneLookupLaw" (12 : Nat) ({ cls := "ZoneLookupModel", name := "<init>", desc := "()V" } : Jvm.MethodName)) ∈ lw_all := lw_g (lw_at lw_m1 159 rfl) rfl
theorem q208 : (Jvm.Cond.methodLink "ZoneLookupLaw" (17 : Nat) ({ cls := "ZoneLookupModel", name := "label", desc := "(I)I" } : Jvm.MethodName)) ∈ lw_all := lw_g (lw_at lw_m1 188 rfl) rfl
theorem q212 : (Jvm.Cond.methodLink "ZoneLookupLaw" (22 : Nat) ({ cls := "ZoneLookupModel", name := "back", desc := "()I" } : Jvm.MethodName)) ∈ lw_all := lw_g (lw_at lw_m1 192 rfl) rfl
theorem q216 : (Jvm.Cond.methodLink "ZoneLookupLaw" (26 : Nat) ({ cls := "ZoneLookupModel", name := "erase", desc := "()V" } : Jvm.MethodName)) ∈ lw_all := lw_g (lw_at lw_m1 196 rfl) rfl
theorem q220 : (Jvm.Cond.methodLink "ZoneLookupLaw" (30 : Nat) ({ cls := "ZoneLookupModel", name := "number", desc := "()I" } : Jvm.MethodName)) ∈ lw_all := lw_g (lw_at lw_m1 200 rfl) rfl
theorem q224 : (Jvm.Cond.methodLink "ZoneLookupLaw" (35 : Nat) ({ cls := "ZoneLookupModel", name := "add", desc := "(II)I" } : Jvm.MethodName)) ∈ lw_all := lw_g (lw_at lw_m1 204 rfl) rfl
theorem q239 : (Jvm.Cond.methodLink "ZoneLookupLaw" (39 : Nat) ({ cls := "ZoneLookupModel", name := "remove", desc := "(II)I" } : Jvm.MethodName)) ∈ lw_all := lw_g (lw_at lw_m1 219 rfl) rfl
theorem q243 : (Jvm.Cond.methodLink "ZoneLookupLaw" (43 : Nat) ({ cls := "ZoneLookupModel", name := "exists", desc := "()I" } : Jvm.MethodName)) ∈ lw_all := lw_g (lw_at lw_m1 223 rfl) rfl
theorem q254 : (Jvm.Cond.methodLink "ZoneLookupLaw" (47 : Nat) ({ cls := "ZoneLookupModel", name := "look", desc := "(I)I" } : Jvm.MethodName)) ∈ lw_all := lw_g (lw_at lw_m1 234 rfl) rfl
theorem q277 : (Jvm.Cond.methodLink "ZoneLookupLaw" (51 : Nat) ({ cls := "ZoneLookupModel", name := "place", desc := "(I)I" } : Jvm.MethodName)) ∈ lw_all := lw_g (lw_at lw_m2 17 rfl) rfl
theorem q281 : (Jvm.Cond.methodLink "ZoneLookupLaw" (55 : Nat) ({ cls := "ZoneLookupModel", name := "rounds", desc := "(I)I" } : Jvm.MethodName)) ∈ lw_all := lw_g (lw_at lw_m2 21 rfl) rfl
theorem q285 : (Jvm.Cond.methodLink "ZoneLookupLaw" (59 : Nat) ({ cls := "ZoneLookupModel", name := "value", desc := "(II)I" } : Jvm.MethodName)) ∈ lw_all := lw_g (lw_at lw_m2 25 rfl) rfl
/-! java/lang/Object -/
def RJ0 : String := "java/lang/Object"
abbrev cJ0_init : ByteArray := object_method_1_code
def yJ0_init : MethodName := ⟨RJ0, "<init>", "()V"⟩
theorem dJ0_init_0 : decode cJ0_init 0 = .ok (.return_, 1) := by decide +kernel
theorem q29 : (Jvm.Cond.instanceMethod ({ cls := "java/lang/Object", name := "<init>", desc := "()V" } : Jvm.MethodName)) ∈ lw_all := lw_g (lw_at lw_m1 9 rfl) rfl
theorem q30 : (Jvm.Cond.code ({ cls := "java/lang/Object", name := "<init>", desc := "()V" } : Jvm.MethodName) object_method_1_code (1 : Nat) (Option.none : Option Jvm.ClassFile.FieldType)) ∈ lw_all := lw_g (lw_at lw_m1 10 rfl) rfl
theorem q77 : (Jvm.Cond.arrayClass Jvm.ClassFile.FieldType.int) ∈ lw_all := lw_g (lw_at lw_m1 57 rfl) rfl
end
section
/-! GENERAL ROWS of this claim: whole numbers (nI) in arrays, calls and ends over one world -/
set_option maxRecDepth 100000
def zn_F (f : Nat → Nat) : Nat → Int32 := fun j => nI (f j)
def zn_u (f : Nat → Nat) (k x : Nat) : Nat → Nat := fun j => if j = k then x else f j
theorem zn_Fu (f : Nat → Nat) (k x : Nat) : upd (zn_F f) k (nI x) = zn_F (zn_u f k x) := by
  funext j
  simp only [upd, zn_F, zn_u]
  split <;> rfl
theorem zn_us {f : Nat → Nat} {k x : Nat} : zn_u f k x k = x := by simp [zn_u]
theorem zn_un {f : Nat → Nat} {k x j : Nat} (h : j ≠ k) : zn_u f k x j = f j := by simp [zn_u, h]
theorem zn_z {a : Nat} (h : a < 2 ^ 31) : nI a = 0 ↔ a = 0 := by
  rw [← nI_0]
  exact nI_eq h (by decide)
theorem zn_z2 {a : Nat} (h : a < 2 ^ 31) : nI a ≤ 0 ↔ a = 0 := by
  rw [← nI_0, nI_leI h (by decide)]
  omega
theorem zn_z3 {a : Nat} (h : a < 2 ^ 31) : 0 < nI a ↔ 0 < a := by
  rw [← nI_0]
  exact nI_ltI (by decide) h
def z_lo (x : Int32) : Nat := x.toBitVec.toNat % 8
theorem z_lo_lt (x : Int32) : z_lo x < 8 := Nat.mod_lt _ (by decide)
section ZROW
variable {p : Program} {l : Launch} {e : Env} {R : Room} {s : State} {m : MethodId} {args : Array Value} {below : List Frame} {meth : Method} {c : Code} {H : Heap} {locs : List Loc} {cells slots : Nat} {Q : State → Prop}
variable {cc : ByteArray} {pc : Nat} {ls : Array Slot} {rest : List Value} {D : va_G} {cl : List vw_C} {A : Nat → Prop} {a : Nat} {tys : List (ClassId × FieldType)} {ws : va_W} {H0 : Heap}
theorem zn_ald (hexec : p.tables.exec = Jvm.exec) (hb : c.code = cc) (hK : va_K D cl tys s) (hP : va_P D cl ws H) (q0 t0 : Nat) {cA : ClassId} {n : Nat} {f : Nat → Nat} (ha : ws[q0]? = some (a, .inl (cA, n, .inl (zn_F f)))) (ht : tys[t0]? = some (cA, .int)) {i : Nat} (hi : i < n) (hn : n < 2 ^ 31) (hdg : decode cc pc = .ok (.iaload, 1))
    (kk : W p l e R s m args below meth c H locs cells slots Q (F0 m (pc + 1) ls (.int (nI (f i)) :: rest))) : W p l e R s m args below meth c H locs cells slots Q (F0 m pc ls (.int (nI i) :: .ref a :: rest)) :=
  va_iald hexec hb hK hP q0 t0 ha ht (vp_in_nI hi hn) hdg (by rw [nI_clamp (by omega)]; exact kk)
theorem zn_ild (hexec : p.tables.exec = Jvm.exec) (hb : c.code = cc) (hK : va_K D cl tys s) (hP : va_P D cl ws H) (q0 t0 : Nat) {cA : ClassId} {n : Nat} {f : Nat → Int32} (ha : ws[q0]? = some (a, .inl (cA, n, .inl f))) (ht : tys[t0]? = some (cA, .int)) {i : Nat} (hi : i < n) (hn : n < 2 ^ 31) (hdg : decode cc pc = .ok (.iaload, 1))
    (kk : W p l e R s m args below meth c H locs cells slots Q (F0 m (pc + 1) ls (.int (f i) :: rest))) : W p l e R s m args below meth c H locs cells slots Q (F0 m pc ls (.int (nI i) :: .ref a :: rest)) :=
  va_iald hexec hb hK hP q0 t0 ha ht (vp_in_nI hi hn) hdg (by rw [nI_clamp (by omega)]; exact kk)
theorem zn_ast (hexec : p.tables.exec = Jvm.exec) (hb : c.code = cc) (hK : va_K D cl tys s) (hP : va_P D cl ws H) (hD : va_D A ws) (hS : va_S A H0 H locs) (q0 t0 : Nat) {cA : ClassId} {n : Nat} {f : Nat → Nat} (ha : ws[q0]? = some (a, .inl (cA, n, .inl (zn_F f)))) (ht : tys[t0]? = some (cA, .int)) {i x : Nat} (hi : i < n) (hn : n < 2 ^ 31) (hdg : decode cc pc = .ok (.iastore, 1))
    (kk : ∀ (H1 : Heap) (locs1 : List Loc), va_P D cl (ws.set q0 (a, .inl (cA, n, .inl (zn_F (zn_u f i x))))) H1 → va_D A (ws.set q0 (a, .inl (cA, n, .inl (zn_F (zn_u f i x))))) → va_S A H0 H1 locs1 → W p l e R s m args below meth c H1 locs1 cells slots Q (F0 m (pc + 1) ls rest)) : W p l e R s m args below meth c H locs cells slots Q (F0 m pc ls (.int (nI x) :: .int (nI i) :: .ref a :: rest)) := by
  refine va_iast hexec hb hK hP hD hS q0 t0 ha ht (vp_in_nI hi hn) hdg (fun H1 locs1 h1 h2 h3 => ?_)
  rw [nI_clamp (by omega), zn_Fu] at h1 h2
  exact kk H1 locs1 h1 h2 h3
theorem zn_ist (hexec : p.tables.exec = Jvm.exec) (hb : c.code = cc) (hK : va_K D cl tys s) (hP : va_P D cl ws H) (hD : va_D A ws) (hS : va_S A H0 H locs) (q0 t0 : Nat) {cA : ClassId} {n : Nat} {f : Nat → Int32} (ha : ws[q0]? = some (a, .inl (cA, n, .inl f))) (ht : tys[t0]? = some (cA, .int)) {i : Nat} {x : Int32} (hi : i < n) (hn : n < 2 ^ 31) (hdg : decode cc pc = .ok (.iastore, 1))
    (kk : ∀ (H1 : Heap) (locs1 : List Loc), va_P D cl (ws.set q0 (a, .inl (cA, n, .inl (upd f i x)))) H1 → va_D A (ws.set q0 (a, .inl (cA, n, .inl (upd f i x)))) → va_S A H0 H1 locs1 → W p l e R s m args below meth c H1 locs1 cells slots Q (F0 m (pc + 1) ls rest)) : W p l e R s m args below meth c H locs cells slots Q (F0 m pc ls (.int x :: .int (nI i) :: .ref a :: rest)) := by
  refine va_iast hexec hb hK hP hD hS q0 t0 ha ht (vp_in_nI hi hn) hdg (fun H1 locs1 h1 h2 h3 => ?_)
  rw [nI_clamp (by omega)] at h1 h2
  exact kk H1 locs1 h1 h2 h3
theorem zn_iadd (hexec : p.tables.exec = Jvm.exec) (hb : c.code = cc) {a b : Nat} (hdg : decode cc pc = .ok (.iadd, 1))
    (k : W p l e R s m args below meth c H locs cells slots Q (F0 m (pc + 1) ls (.int (nI (a + b)) :: rest))) : W p l e R s m args below meth c H locs cells slots Q (F0 m pc ls (.int (nI b) :: .int (nI a) :: rest)) := lv_iadd hexec hb hdg (by rw [nI_add]; exact k)
theorem zn_imul (hexec : p.tables.exec = Jvm.exec) (hb : c.code = cc) {a b : Nat} (hdg : decode cc pc = .ok (.imul, 1))
    (k : W p l e R s m args below meth c H locs cells slots Q (F0 m (pc + 1) ls (.int (nI (a * b)) :: rest))) : W p l e R s m args below meth c H locs cells slots Q (F0 m pc ls (.int (nI b) :: .int (nI a) :: rest)) := lv_imul hexec hb hdg (by rw [pk_mul]; exact k)
theorem zn_isub (hexec : p.tables.exec = Jvm.exec) (hb : c.code = cc) {a b : Nat} (h : b ≤ a) (hdg : decode cc pc = .ok (.isub, 1))
    (k : W p l e R s m args below meth c H locs cells slots Q (F0 m (pc + 1) ls (.int (nI (a - b)) :: rest))) : W p l e R s m args below meth c H locs cells slots Q (F0 m pc ls (.int (nI b) :: .int (nI a) :: rest)) := lv_isub hexec hb hdg (by rw [pk_sub h]; exact k)
theorem zn_idiv (hexec : p.tables.exec = Jvm.exec) (hb : c.code = cc) {a b : Nat} (ha : a < 2 ^ 31) (h0 : 0 < b) (h1 : b < 2 ^ 31) (hdg : decode cc pc = .ok (.idiv, 1))
    (k : W p l e R s m args below meth c H locs cells slots Q (F0 m (pc + 1) ls (.int (nI (a / b)) :: rest))) : W p l e R s m args below meth c H locs cells slots Q (F0 m pc ls (.int (nI b) :: .int (nI a) :: rest)) := lv_idiv hexec hb hdg (nI_ne0 h0 h1) (by rw [pk_div ha h0 h1]; exact k)
theorem zn_irem (hexec : p.tables.exec = Jvm.exec) (hb : c.code = cc) {a b : Nat} (ha : a < 2 ^ 31) (h0 : 0 < b) (h1 : b < 2 ^ 31) (hdg : decode cc pc = .ok (.irem, 1))
    (k : W p l e R s m args below meth c H locs cells slots Q (F0 m (pc + 1) ls (.int (nI (a % b)) :: rest))) : W p l e R s m args below meth c H locs cells slots Q (F0 m pc ls (.int (nI b) :: .int (nI a) :: rest)) := lv_irem hexec hb hdg (nI_ne0 h0 h1) (by rw [pk_rem ha h0 h1]; exact k)
theorem zn_iand7 (hexec : p.tables.exec = Jvm.exec) (hb : c.code = cc) {x : Int32} (hdg : decode cc pc = .ok (.iand, 1))
    (k : W p l e R s m args below meth c H locs cells slots Q (F0 m (pc + 1) ls (.int (nI (z_lo x)) :: rest))) : W p l e R s m args below meth c H locs cells slots Q (F0 m pc ls (.int (nI 7) :: .int x :: rest)) := lv_iand hexec hb hdg (by rw [pk_and x 3 (by decide)]; exact k)
theorem zn_icmp_ge (hexec : p.tables.exec = Jvm.exec) (hb : c.code = cc) {a b : Nat} {off : Int} {tgt : Nat} (ha : a < 2 ^ 31) (h2 : b < 2 ^ 31) (hdg : decode cc pc = .ok (.if_icmp .ge off, 3)) (ht : (pc : Int) + off = (tgt : Int))
    (kt : b ≤ a → W p l e R s m args below meth c H locs cells slots Q (F0 m tgt ls rest)) (kf : a < b → W p l e R s m args below meth c H locs cells slots Q (F0 m (pc + 3) ls rest)) : W p l e R s m args below meth c H locs cells slots Q (F0 m pc ls (.int (nI b) :: .int (nI a) :: rest)) :=
  lv_icmp_ge hexec hb hdg ht (fun h => kt ((nI_leI h2 ha).mp h)) (fun h => kf (Nat.lt_of_not_le (fun q => h ((nI_leI h2 ha).mpr q))))
theorem zn_icmp_lt (hexec : p.tables.exec = Jvm.exec) (hb : c.code = cc) {a b : Nat} {off : Int} {tgt : Nat} (ha : a < 2 ^ 31) (h2 : b < 2 ^ 31) (hdg : decode cc pc = .ok (.if_icmp .lt off, 3)) (ht : (pc : Int) + off = (tgt : Int))
    (kt : a < b → W p l e R s m args below meth c H locs cells slots Q (F0 m tgt ls rest)) (kf : b ≤ a → W p l e R s m args below meth c H locs cells slots Q (F0 m (pc + 3) ls rest)) : W p l e R s m args below meth c H locs cells slots Q (F0 m pc ls (.int (nI b) :: .int (nI a) :: rest)) :=
  lv_icmp_lt hexec hb hdg ht (fun h => kt ((nI_ltI ha h2).mp h)) (fun h => kf (Nat.le_of_not_lt (fun q => h ((nI_ltI ha h2).mpr q))))
theorem zn_icmp_gt (hexec : p.tables.exec = Jvm.exec) (hb : c.code = cc) {a b : Nat} {off : Int} {tgt : Nat} (ha : a < 2 ^ 31) (h2 : b < 2 ^ 31) (hdg : decode cc pc = .ok (.if_icmp .gt off, 3)) (ht : (pc : Int) + off = (tgt : Int))
    (kt : b < a → W p l e R s m args below meth c H locs cells slots Q (F0 m tgt ls rest)) (kf : a ≤ b → W p l e R s m args below meth c H locs cells slots Q (F0 m (pc + 3) ls rest)) : W p l e R s m args below meth c H locs cells slots Q (F0 m pc ls (.int (nI b) :: .int (nI a) :: rest)) :=
  lv_icmp_gt hexec hb hdg ht (fun h => kt ((nI_ltI h2 ha).mp h)) (fun h => kf (Nat.le_of_not_lt (fun q => h ((nI_ltI h2 ha).mpr q))))
theorem zn_icmp_le (hexec : p.tables.exec = Jvm.exec) (hb : c.code = cc) {a b : Nat} {off : Int} {tgt : Nat} (ha : a < 2 ^ 31) (h2 : b < 2 ^ 31) (hdg : decode cc pc = .ok (.if_icmp .le off, 3)) (ht : (pc : Int) + off = (tgt : Int))
    (kt : a ≤ b → W p l e R s m args below meth c H locs cells slots Q (F0 m tgt ls rest)) (kf : b < a → W p l e R s m args below meth c H locs cells slots Q (F0 m (pc + 3) ls rest)) : W p l e R s m args below meth c H locs cells slots Q (F0 m pc ls (.int (nI b) :: .int (nI a) :: rest)) :=
  lv_icmp_le hexec hb hdg ht (fun h => kt ((nI_leI ha h2).mp h)) (fun h => kf (Nat.lt_of_not_le (fun q => h ((nI_leI ha h2).mpr q))))
theorem zn_icmp_eq (hexec : p.tables.exec = Jvm.exec) (hb : c.code = cc) {a b : Nat} {off : Int} {tgt : Nat} (ha : a < 2 ^ 31) (h2 : b < 2 ^ 31) (hdg : decode cc pc = .ok (.if_icmp .eq off, 3)) (ht : (pc : Int) + off = (tgt : Int))
    (kt : a = b → W p l e R s m args below meth c H locs cells slots Q (F0 m tgt ls rest)) (kf : ¬ a = b → W p l e R s m args below meth c H locs cells slots Q (F0 m (pc + 3) ls rest)) : W p l e R s m args below meth c H locs cells slots Q (F0 m pc ls (.int (nI b) :: .int (nI a) :: rest)) :=
  lv_icmp_eq hexec hb hdg ht (fun h => kt ((nI_eq ha h2).mp h)) (fun h => kf (fun q => h ((nI_eq ha h2).mpr q)))
theorem zn_icmp_ne (hexec : p.tables.exec = Jvm.exec) (hb : c.code = cc) {a b : Nat} {off : Int} {tgt : Nat} (ha : a < 2 ^ 31) (h2 : b < 2 ^ 31) (hdg : decode cc pc = .ok (.if_icmp .ne off, 3)) (ht : (pc : Int) + off = (tgt : Int))
    (kt : ¬ a = b → W p l e R s m args below meth c H locs cells slots Q (F0 m tgt ls rest)) (kf : a = b → W p l e R s m args below meth c H locs cells slots Q (F0 m (pc + 3) ls rest)) : W p l e R s m args below meth c H locs cells slots Q (F0 m pc ls (.int (nI b) :: .int (nI a) :: rest)) :=
  lv_icmp_ne hexec hb hdg ht (fun h => kt (fun q => h ((nI_eq ha h2).mpr q))) (fun h => kf ((nI_eq ha h2).mp h))
theorem zn_if_eq (hexec : p.tables.exec = Jvm.exec) (hb : c.code = cc) {a : Nat} {off : Int} {tgt : Nat} (ha : a < 2 ^ 31) (hdg : decode cc pc = .ok (.ifCond .eq off, 3)) (ht : (pc : Int) + off = (tgt : Int))
    (kt : a = 0 → W p l e R s m args below meth c H locs cells slots Q (F0 m tgt ls rest)) (kf : ¬ a = 0 → W p l e R s m args below meth c H locs cells slots Q (F0 m (pc + 3) ls rest)) : W p l e R s m args below meth c H locs cells slots Q (F0 m pc ls (.int (nI a) :: rest)) :=
  lv_if_eq hexec hb hdg ht (fun h => kt ((zn_z ha).mp h)) (fun h => kf (fun q => h ((zn_z ha).mpr q)))
theorem zn_if_ne (hexec : p.tables.exec = Jvm.exec) (hb : c.code = cc) {a : Nat} {off : Int} {tgt : Nat} (ha : a < 2 ^ 31) (hdg : decode cc pc = .ok (.ifCond .ne off, 3)) (ht : (pc : Int) + off = (tgt : Int))
    (kt : ¬ a = 0 → W p l e R s m args below meth c H locs cells slots Q (F0 m tgt ls rest)) (kf : a = 0 → W p l e R s m args below meth c H locs cells slots Q (F0 m (pc + 3) ls rest)) : W p l e R s m args below meth c H locs cells slots Q (F0 m pc ls (.int (nI a) :: rest)) :=
  lv_if_ne hexec hb hdg ht (fun h => kt (fun q => h ((zn_z ha).mpr q))) (fun h => kf ((zn_z ha).mp h))
theorem zn_if_le (hexec : p.tables.exec = Jvm.exec) (hb : c.code = cc) {a : Nat} {off : Int} {tgt : Nat} (ha : a < 2 ^ 31) (hdg : decode cc pc = .ok (.ifCond .le off, 3)) (ht : (pc : Int) + off = (tgt : Int))
    (kt : a = 0 → W p l e R s m args below meth c H locs cells slots Q (F0 m tgt ls rest)) (kf : ¬ a = 0 → W p l e R s m args below meth c H locs cells slots Q (F0 m (pc + 3) ls rest)) : W p l e R s m args below meth c H locs cells slots Q (F0 m pc ls (.int (nI a) :: rest)) :=
  lv_if_le hexec hb hdg ht (fun h => kt ((zn_z2 ha).mp h)) (fun h => kf (fun q => h ((zn_z2 ha).mpr q)))
theorem zn_if_lt (hexec : p.tables.exec = Jvm.exec) (hb : c.code = cc) {a : Nat} {off : Int} {tgt : Nat} (ha : a < 2 ^ 31) (hdg : decode cc pc = .ok (.ifCond .lt off, 3)) (ht : (pc : Int) + off = (tgt : Int))
    (kf : W p l e R s m args below meth c H locs cells slots Q (F0 m (pc + 3) ls rest)) : W p l e R s m args below meth c H locs cells slots Q (F0 m pc ls (.int (nI a) :: rest)) :=
  lv_if_lt hexec hb hdg ht (fun h => absurd h (nI_pos ha)) (fun _ => kf)
theorem zn_if_ge (hexec : p.tables.exec = Jvm.exec) (hb : c.code = cc) {a : Nat} {off : Int} {tgt : Nat} (ha : a < 2 ^ 31) (hdg : decode cc pc = .ok (.ifCond .ge off, 3)) (ht : (pc : Int) + off = (tgt : Int))
    (kt : W p l e R s m args below meth c H locs cells slots Q (F0 m tgt ls rest)) : W p l e R s m args below meth c H locs cells slots Q (F0 m pc ls (.int (nI a) :: rest)) :=
  lv_if_ge hexec hb hdg ht (fun _ => kt) (fun h => absurd (nI_pos' ha) h)
end ZROW
end
section
/-! CONTRACTS over one world: the two classes, the worlds of an object of each, a method's contract (z_Mi: answers an int or boolean, z_Mv: answers nothing), its start, its end, its call -/
set_option maxRecDepth 100000
abbrev z_cl : List vw_C := [(RX0, TX0, 15), (RX1, TX1, 8)]
abbrev z_w0 (cA : ClassId) (h : Nat → Nat) (kl : Int32) (ky ch nu be : Nat → Int32) (he : Int32) (en es ev : Nat → Int32) (an ap ao ar al : Int32) (ak : Nat → Int32) : va_W := [(h 0, .inr (0, [.int kl, .ref (h 1), .ref (h 2), .ref (h 3), .ref (h 4), .int he, .ref (h 5), .ref (h 6), .ref (h 7), .int an, .int ap, .int ao, .int ar, .int al, .ref (h 8)])), (h 1, .inl (cA, 4, .inl ky)), (h 2, .inl (cA, 800, .inl ch)), (h 3, .inl (cA, 100, .inl nu)), (h 4, .inl (cA, 100, .inl be)), (h 5, .inl (cA, 24, .inl en)), (h 6, .inl (cA, 24, .inl es)), (h 7, .inl (cA, 24, .inl ev)), (h 8, .inl (cA, 4, .inl ak))]
abbrev z_w1 (cA : ClassId) (h : Nat → Nat) (he : Int32) (nm es ev : Nat → Int32) (ke la pl ro : Int32) : va_W := [(h 0, .inr (1, [.int he, .ref (h 1), .ref (h 2), .ref (h 3), .int ke, .int la, .int pl, .int ro])), (h 1, .inl (cA, 24, .inl nm)), (h 2, .inl (cA, 24, .inl es)), (h 3, .inl (cA, 24, .inl ev))]
abbrev z_PZ (D : va_G) (cA : ClassId) (sz : Nat) (ws : va_W) : State → Prop := fun U => U.heap.size = sz ∧ va_P D z_cl ws U.heap ∧ va_K D z_cl [(cA, .int)] U ∧ va_D (fun _ => True) ws
abbrev z_BZ (D : va_G) (cA : ClassId) (A : Nat → Prop) (ws : va_W) (t : State) : Prop := va_P D z_cl ws t.heap ∧ va_K D z_cl [(cA, .int)] t ∧ va_D A ws
abbrev z_Mi {S : Type} (l : Launch) (y : MethodName) (bc : ByteArray) (L : Nat) (rt : FieldType) (rm : Room) (D : va_G) (cA : ClassId) (sz : Nat) (av : List Value) (w0 : va_W) (post : Int32 → S → Prop) (w1 : S → va_W) : Prop := Met l y (ws_ y bc L (some rt)) rm (va_Pc av (z_PZ D cA sz w0)) (va_Qi post (fun u t => z_BZ D cA (va_A w0 sz) (w1 u) t) (va_A w0 sz)) 0 0 (va_A w0 sz)
abbrev z_Mv {S : Type} (l : Launch) (y : MethodName) (bc : ByteArray) (L : Nat) (rm : Room) (D : va_G) (cA : ClassId) (sz : Nat) (av : List Value) (w0 : va_W) (post : S → Prop) (w1 : S → va_W) : Prop := Met l y (ws_ y bc L none) rm (va_Pc av (z_PZ D cA sz w0)) (va_Qv post (fun u t => z_BZ D cA (va_A w0 sz) (w1 u) t) (va_A w0 sz)) 0 0 (va_A w0 sz)
set_option maxHeartbeats 4000000 in
theorem z_ofi {S : Type} {l : Launch} {y : MethodName} {bc : ByteArray} {L : Nat} {rt : FieldType} {rm : Room} {D : va_G} {cA : ClassId} {sz : Nat} {av : List Value} {w0 : va_W} {post : Int32 → S → Prop} {w1 : S → va_W} (hy : plainName y.cls = true) (hL : (lg_sl av).length ≤ L)
    (body : ∀ (p : Program) (e : Env) (s : State) (m : MethodId) (below : List Frame) (meth : Method) (c : Code) (A : Nat → Prop) (Q : State → Prop), p.tables.exec = Jvm.exec → c.code = bc → c.maxLocals = L → s.vm.findClass y.cls = some m.cls → (∀ w ∈ lw_all, w.before av.toArray s = true) → (∀ q : Nat, s.heap.size ≤ q → A q) →
      (∀ (r : Int32) (u : S) (H : Heap) (locs : List Loc) (pc : Nat) (ls : Array Slot), decode bc pc = .ok (.ireturn, 1) → narrow rt (.int r) = .int r → post r u → va_P D z_cl (w1 u) H → va_D A (w1 u) → va_S A s.heap H locs → W p l e rm s m av.toArray below meth c H locs 0 0 Q (F0 m pc ls [.int r])) →
      va_K D z_cl [(cA, .int)] s → va_P D z_cl w0 s.heap → va_D A w0 → va_S A s.heap s.heap [] → ∀ ls : Array Slot, lv_has ls L (lv_args 0 av) → W p l e rm s m av.toArray below meth c s.heap [] 0 0 Q (F0 m 0 ls [])) : z_Mi l y bc L rt rm D cA sz av w0 post w1 := by
  refine Met.ofW (cc := bc) (maxL := L) (ret := some rt) hy rfl ?_
  intro p e s m args below meth c s₁ B hml hv
  obtain ⟨rfl, hsz, hP, hK, hD0⟩ := hv
  have hts := atoms_spec (ws := ws_ y bc L (some rt)) B.pre
  have hts : ∀ w ∈ lw_all, w.before _ s = true := fun w h => hts w (List.mem_cons_of_mem _ h)
  subst hsz
  rw [lg_entry_eq]
  have hD := hD0.self (sz := s.heap.size)
  exact body p e s m below meth c (va_A w0 s.heap.size) _ B.exec B.bytes hml (findClass_of_methodNamed B.named) hts (fun q h => Or.inr h) (fun r u H locs pc ls hd hn hp h1 h2 h3 => W.zret B.exec B.bytes B.returns hn (fun t ht hW => ⟨⟨r, u, rfl, hp, by rw [ht]; exact h1, va_K.moved hW.alike hK, h2⟩, h3.F ht⟩) h3.2.2 hd B.notSynchronized) hK hP hD va_S.rf _ (lv_entry av hL)
set_option maxHeartbeats 4000000 in
theorem z_ofv {S : Type} {l : Launch} {y : MethodName} {bc : ByteArray} {L : Nat} {rm : Room} {D : va_G} {cA : ClassId} {sz : Nat} {av : List Value} {w0 : va_W} {post : S → Prop} {w1 : S → va_W} (hy : plainName y.cls = true) (hL : (lg_sl av).length ≤ L)
    (body : ∀ (p : Program) (e : Env) (s : State) (m : MethodId) (below : List Frame) (meth : Method) (c : Code) (A : Nat → Prop) (Q : State → Prop), p.tables.exec = Jvm.exec → c.code = bc → c.maxLocals = L → s.vm.findClass y.cls = some m.cls → (∀ w ∈ lw_all, w.before av.toArray s = true) → (∀ q : Nat, s.heap.size ≤ q → A q) →
      (∀ (u : S) (H : Heap) (locs : List Loc) (pc : Nat) (ls : Array Slot), decode bc pc = .ok (.return_, 1) → post u → va_P D z_cl (w1 u) H → va_D A (w1 u) → va_S A s.heap H locs → W p l e rm s m av.toArray below meth c H locs 0 0 Q (F0 m pc ls [])) →
      va_K D z_cl [(cA, .int)] s → va_P D z_cl w0 s.heap → va_D A w0 → va_S A s.heap s.heap [] → ∀ ls : Array Slot, lv_has ls L (lv_args 0 av) → W p l e rm s m av.toArray below meth c s.heap [] 0 0 Q (F0 m 0 ls [])) : z_Mv l y bc L rm D cA sz av w0 post w1 := by
  refine Met.ofW (cc := bc) (maxL := L) (ret := none) hy rfl ?_
  intro p e s m args below meth c s₁ B hml hv
  obtain ⟨rfl, hsz, hP, hK, hD0⟩ := hv
  have hts := atoms_spec (ws := ws_ y bc L none) B.pre
  have hts : ∀ w ∈ lw_all, w.before _ s = true := fun w h => hts w (List.mem_cons_of_mem _ h)
  subst hsz
  rw [lg_entry_eq]
  have hD := hD0.self (sz := s.heap.size)
  exact body p e s m below meth c (va_A w0 s.heap.size) _ B.exec B.bytes hml (findClass_of_methodNamed B.named) hts (fun q h => Or.inr h) (fun u H locs pc ls hd hp h1 h2 h3 => W.vret B.exec B.bytes B.returns (fun t ht hW => ⟨⟨u, rfl, hp, by rw [ht]; exact h1, va_K.moved hW.alike hK, h2⟩, h3.F ht⟩) h3.2.2 hd B.notSynchronized) hK hP hD va_S.rf _ (lv_entry av hL)
theorem z_fr {A : Nat → Prop} {w0 : va_W} {H0 H : Heap} {locs : List Loc} (hD : va_D A w0) (hS : va_S A H0 H locs) (hA : ∀ q : Nat, H0.size ≤ q → A q) : ∀ q, va_A w0 H.size q → A q := by
  intro q h
  rcases h with ⟨k, e, h⟩ | h
  · exact hD.2 k (q, e) h
  · exact hA q (Nat.le_trans hS.1 h)
section ZCALL
variable {p : Program} {l : Launch} {e : Env} {R : Room} {s : State} {m : MethodId} {args : Array Value} {below : List Frame} {meth : Method} {c : Code} {H : Heap} {locs : List Loc} {cells slots : Nat} {Q : State → Prop}
variable {cc : ByteArray} {pc nL : Nat} {ls : Array Slot} {rest st0 : List Value} {D : va_G} {A : Nat → Prop}
variable {S : Type} {y : MethodName} {bytes : ByteArray} {maxL n index : Nat} {rt : FieldType} {rm : Room} {own C : String} {b : Nat} {As : List Value} {cA : ClassId} {w0 : va_W} {Ts : List Cond}
set_option maxHeartbeats 4000000 in
theorem z_calli {post : Int32 → S → Prop} {w1 : S → va_W} (hf : CallFix p m c cc nL s args Ts own) (hM : z_Mi l y bytes maxL rt rm D cA H.size (.ref b :: As) w0 post w1)
    (cw : CallW R s args own C index y bytes maxL (some rt) (ws_ y bytes maxL (some rt)) rm 0 0 n) (hrc : ∃ cell : Cell, H[b]? = some cell ∧ cell.vm.isStatics = false ∧ s.vm.findClass C = some cell.cls)
    (hK : va_K D z_cl [(cA, .int)] s) (hP : va_P D z_cl w0 H) (hD : va_D A w0) (hS : va_S A s.heap H locs) (hA : ∀ q : Nat, s.heap.size ≤ q → A q) (hn : As.length = n) (hsz : ls.size = nL) (hst : st0 = As.reverse ++ .ref b :: rest) (hW : (rest.map fun v => v.category).sum ≤ 8)
    (hdg : decode cc pc = .ok (.invokevirtual index, 3)) (hc1 : cells ≤ R.cells) (hc2 : slots ≤ R.slots)
    (kk : ∀ (r : Int32) (u : S) (H1 : Heap) (locs1 : List Loc), post r u → va_P D z_cl (w1 u) H1 → va_D A (w1 u) → va_S A s.heap H1 locs1 → W p l e R s m args below meth c H1 locs1 cells slots Q (F0 m (pc + 3) ls (.int r :: rest))) : W p l e R s m args below meth c H locs cells slots Q (F0 m pc ls st0) := by
  subst hst
  have hFc := z_fr hD hS hA
  refine va_calli (va_runV (As := As) (rest := rest) hf hM cw ⟨fun a U g mk q => by obtain ⟨q0, q1, qP, qK, qD⟩ := q; exact ⟨q0, q1, qP, va_K.moved (u := U) (U := U.calling g mk a) (Vm.Alike.refl U.vm) qK, qD⟩, hrc, fun U hU hW => ⟨rfl, by rw [hU], by rw [hU]; exact hP, va_K.moved hW.alike hK, hD.weaken (fun _ _ _ _ => trivial)⟩⟩ rfl hn hsz rfl (lv_room hW) hdg ⟨hc1, hc2⟩) hS (fun q _ h => hFc q h) hFc (fun r u t H1 locs ht hvm hw hB hz1 hk1 hS => ?_)
  obtain ⟨hP1, hK1, hD1⟩ := hB
  rw [ht] at hP1
  exact kk r u H1 locs hw hP1 (hD1.weaken (fun _ q _ h => hFc q.1 h)) hS
set_option maxHeartbeats 4000000 in
theorem z_callv {post : S → Prop} {w1 : S → va_W} (hf : CallFix p m c cc nL s args Ts own) (hM : z_Mv l y bytes maxL rm D cA H.size (.ref b :: As) w0 post w1)
    (cw : CallW R s args own C index y bytes maxL none (ws_ y bytes maxL none) rm 0 0 n) (hrc : ∃ cell : Cell, H[b]? = some cell ∧ cell.vm.isStatics = false ∧ s.vm.findClass C = some cell.cls)
    (hK : va_K D z_cl [(cA, .int)] s) (hP : va_P D z_cl w0 H) (hD : va_D A w0) (hS : va_S A s.heap H locs) (hA : ∀ q : Nat, s.heap.size ≤ q → A q) (hn : As.length = n) (hsz : ls.size = nL) (hst : st0 = As.reverse ++ .ref b :: rest) (hW : (rest.map fun v => v.category).sum ≤ 8)
    (hdg : decode cc pc = .ok (.invokevirtual index, 3)) (hc1 : cells ≤ R.cells) (hc2 : slots ≤ R.slots)
    (kk : ∀ (u : S) (H1 : Heap) (locs1 : List Loc), post u → va_P D z_cl (w1 u) H1 → va_D A (w1 u) → va_S A s.heap H1 locs1 → W p l e R s m args below meth c H1 locs1 cells slots Q (F0 m (pc + 3) ls rest)) : W p l e R s m args below meth c H locs cells slots Q (F0 m pc ls st0) := by
  subst hst
  have hFc := z_fr hD hS hA
  refine va_callv (va_runV (As := As) (rest := rest) hf hM cw ⟨fun a U g mk q => by obtain ⟨q0, q1, qP, qK, qD⟩ := q; exact ⟨q0, q1, qP, va_K.moved (u := U) (U := U.calling g mk a) (Vm.Alike.refl U.vm) qK, qD⟩, hrc, fun U hU hW => ⟨rfl, by rw [hU], by rw [hU]; exact hP, va_K.moved hW.alike hK, hD.weaken (fun _ _ _ _ => trivial)⟩⟩ rfl hn hsz rfl (lv_room hW) hdg ⟨hc1, hc2⟩) hS (fun q _ h => hFc q h) hFc (fun u t H1 locs ht hvm hw hB hz1 hk1 hS => ?_)
  obtain ⟨hP1, hK1, hD1⟩ := hB
  rw [ht] at hP1
  exact kk u H1 locs hw hP1 (hD1.weaken (fun _ q _ h => hFc q.1 h)) hS
set_option maxHeartbeats 4000000 in
theorem z_calls {post : Int32 → S → Prop} {w1 : S → va_W} (hf : CallFix p m c cc nL s args Ts own) (hM : z_Mi l y bytes maxL rt rm D cA H.size As w0 post w1)
    (cw : CallB R s args own index y bytes maxL (some rt) (ws_ y bytes maxL (some rt)) rm 0 0 n ∧ (Cond.static y).before args s = true)
    (hK : va_K D z_cl [(cA, .int)] s) (hP : va_P D z_cl w0 H) (hD : va_D A w0) (hS : va_S A s.heap H locs) (hA : ∀ q : Nat, s.heap.size ≤ q → A q) (hn : As.length = n) (hsz : ls.size = nL) (hst : st0 = As.reverse ++ rest) (hW : (rest.map fun v => v.category).sum ≤ 8)
    (hdg : decode cc pc = .ok (.invokestatic index, 3)) (hc1 : cells ≤ R.cells) (hc2 : slots ≤ R.slots)
    (kk : ∀ (r : Int32) (u : S) (H1 : Heap) (locs1 : List Loc), post r u → va_P D z_cl (w1 u) H1 → va_D A (w1 u) → va_S A s.heap H1 locs1 → W p l e R s m args below meth c H1 locs1 cells slots Q (F0 m (pc + 3) ls (.int r :: rest))) : W p l e R s m args below meth c H locs cells slots Q (F0 m pc ls st0) := by
  subst hst
  have hFc := z_fr hD hS hA
  refine va_calli (va_runS (As := As) (rest := rest) hf hM cw ⟨fun a U g mk q => by obtain ⟨q0, q1, qP, qK, qD⟩ := q; exact ⟨q0, q1, qP, va_K.moved (u := U) (U := U.calling g mk a) (Vm.Alike.refl U.vm) qK, qD⟩, fun U hU hW => ⟨rfl, by rw [hU], by rw [hU]; exact hP, va_K.moved hW.alike hK, hD.weaken (fun _ _ _ _ => trivial)⟩⟩ rfl hn hsz rfl (lv_room hW) hdg ⟨hc1, hc2⟩) hS (fun q _ h => hFc q h) hFc (fun r u t H1 locs ht hvm hw hB hz1 hk1 hS => ?_)
  obtain ⟨hP1, hK1, hD1⟩ := hB
  rw [ht] at hP1
  exact kk r u H1 locs hw hP1 (hD1.weaken (fun _ q _ h => hFc q.1 h)) hS
end ZCALL
end
section
/-! PLAIN LAWS, no program in sight: sums, entries (count, first place, rank), names as numbers -/
def z_sum (f : Nat → Nat) : Nat → Nat
  | 0 => 0
  | n + 1 => z_sum f n + f n
theorem z_sum_congr {f g : Nat → Nat} {n : Nat} (h : ∀ e, e < n → f e = g e) : z_sum f n = z_sum g n := by
  induction n with
  | zero => rfl
  | succ n ih => simp only [z_sum]; rw [ih (fun e he => h e (by omega)), h n (by omega)]
theorem z_sum_le {f g : Nat → Nat} {n : Nat} (h : ∀ e, e < n → f e ≤ g e) : z_sum f n ≤ z_sum g n := by
  induction n with
  | zero => exact Nat.le_refl _
  | succ n ih =>
    have h1 := ih (fun e he => h e (by omega))
    have h2 := h n (by omega)
    simp only [z_sum]; omega
theorem z_sum_one {f : Nat → Nat} {k n : Nat} (h : k < n) : f k ≤ z_sum f n := by
  induction n with
  | zero => omega
  | succ n ih =>
    simp only [z_sum]
    rcases Nat.lt_or_ge k n with q | q
    · have := ih q; omega
    · have : k = n := by omega
      subst this; omega
theorem z_sum_out {f : Nat → Nat} {k n v : Nat} (h : n ≤ k) : z_sum (zn_u f k v) n = z_sum f n :=
  z_sum_congr (fun e he => zn_un (by omega))
theorem z_sum_upd {f : Nat → Nat} {k n v : Nat} (h : k < n) : z_sum (zn_u f k v) n + f k = z_sum f n + v := by
  induction n with
  | zero => omega
  | succ n ih =>
    simp only [z_sum]
    rcases Nat.lt_or_ge k n with q | q
    · have := ih q
      rw [zn_un (show n ≠ k by omega)]; omega
    · have hk : k = n := by omega
      subst hk
      rw [z_sum_out (Nat.le_refl k), zn_us]; omega
theorem z_sum_swap {f : Nat → Nat} {a n : Nat} (h : a ≤ n) : z_sum f (n + 1) = z_sum (zn_u f a (f n)) n + f a := by
  simp only [z_sum]
  rcases Nat.lt_or_ge a n with q | q
  · rw [z_sum_upd q]
  · have : a = n := by omega
    subst this
    rw [z_sum_out (Nat.le_refl a)]
theorem z_sum_ge1 {f : Nat → Nat} {n : Nat} (h : ∀ e, e < n → 1 ≤ f e) : n ≤ z_sum f n := by
  induction n with
  | zero => exact Nat.zero_le _
  | succ n ih =>
    have h1 := ih (fun e he => h e (by omega))
    have h2 := h n (by omega)
    simp only [z_sum]; omega
theorem z_sum_pos {f : Nat → Nat} {n : Nat} (h : 0 < z_sum f n) : ∃ e, e < n ∧ 0 < f e := by
  induction n with
  | zero => simp [z_sum] at h
  | succ n ih =>
    simp only [z_sum] at h
    rcases Nat.eq_zero_or_pos (f n) with q | q
    · obtain ⟨e, h1, h2⟩ := ih (by omega)
      exact ⟨e, by omega, h2⟩
    · exact ⟨n, by omega, q⟩
theorem z_sum_bd {f : Nat → Nat} {n : Nat} (h : ∀ e, e < n → f e ≤ 1) : z_sum f n ≤ n := by
  induction n with
  | zero => exact Nat.le_refl _
  | succ n ih =>
    have h1 := ih (fun e he => h e (by omega))
    have h2 := h n (by omega)
    simp only [z_sum]; omega
/-- how many of the first n entries are of the owner a and the sort s -/
def z_cnt (k es : Nat → Int32) (a s : Int32) (n : Nat) : Nat := z_sum (fun e => if k e = a ∧ es e = s then 1 else 0) n
theorem z_cnt_le (k es : Nat → Int32) (a s : Int32) (n : Nat) : z_cnt k es a s n ≤ n := z_sum_bd (fun e _ => by split <;> omega)
theorem z_cnt_0 (k es : Nat → Int32) (a s : Int32) : z_cnt k es a s 0 = 0 := rfl
theorem z_cnt_y {k es : Nat → Int32} {a s : Int32} {n : Nat} (h1 : k n = a) (h2 : es n = s) : z_cnt k es a s (n + 1) = z_cnt k es a s n + 1 := by
  simp only [z_cnt, z_sum]; rw [if_pos ⟨h1, h2⟩]
theorem z_cnt_n {k es : Nat → Int32} {a s : Int32} {n : Nat} (h : ¬ (k n = a ∧ es n = s)) : z_cnt k es a s (n + 1) = z_cnt k es a s n := by
  simp only [z_cnt, z_sum]; rw [if_neg h]; rfl
/-- the first of the first n entries that is of owner a, sort s and value v -/
def z_at (k es ev : Nat → Int32) (a s v : Int32) : Nat → Option Nat
  | 0 => none
  | n + 1 => match z_at k es ev a s v n with
    | some j => some j
    | none => if k n = a ∧ es n = s ∧ ev n = v then some n else none
theorem z_at_n {k es ev : Nat → Int32} {a s v : Int32} {n : Nat} (h : z_at k es ev a s v n = none) (hn : ¬ (k n = a ∧ es n = s ∧ ev n = v)) : z_at k es ev a s v (n + 1) = none := by
  simp only [z_at, h]; rw [if_neg hn]
theorem z_at_up {k es ev : Nat → Int32} {a s v : Int32} {i j n : Nat} (h : z_at k es ev a s v i = some j) (hn : i ≤ n) : z_at k es ev a s v n = some j := by
  induction n with
  | zero =>
    have : i = 0 := by omega
    subst this; exact h
  | succ n ih =>
    rcases Nat.lt_or_ge i (n + 1) with q | q
    · simp only [z_at, ih (by omega)]
    · have : i = n + 1 := by omega
      subst this; exact h
theorem z_at_y {k es ev : Nat → Int32} {a s v : Int32} {i n : Nat} (h : z_at k es ev a s v i = none) (h1 : k i = a) (h2 : es i = s) (h3 : ev i = v) (hn : i < n) : z_at k es ev a s v n = some i :=
  z_at_up (i := i + 1) (by simp only [z_at, h]; rw [if_pos ⟨h1, h2, h3⟩]) hn
theorem z_at_spec {k es ev : Nat → Int32} {a s v : Int32} {n j : Nat} (h : z_at k es ev a s v n = some j) : j < n ∧ k j = a ∧ es j = s ∧ ev j = v := by
  induction n with
  | zero => simp [z_at] at h
  | succ n ih =>
    simp only [z_at] at h
    cases hq : z_at k es ev a s v n with
    | some q =>
      rw [hq] at h
      have := ih (by rw [hq]; exact h)
      exact ⟨by omega, this.2⟩
    | none =>
      rw [hq] at h
      dsimp only at h
      split at h
      · next hc =>
        have : n = j := Option.some.inj h
        subst this
        exact ⟨by omega, hc⟩
      · exact absurd h (by simp)
theorem z_at_none {k es ev : Nat → Int32} {a s v : Int32} {n : Nat} (h : ∀ e, e < n → ¬ (k e = a ∧ es e = s ∧ ev e = v)) : z_at k es ev a s v n = none := by
  induction n with
  | zero => rfl
  | succ n ih => exact z_at_n (ih (fun e he => h e (by omega))) (h n (by omega))
theorem z_at_congr {k k' es ev : Nat → Int32} {a a' s v : Int32} {n : Nat} (h : ∀ e, e < n → (k e = a ↔ k' e = a')) : z_at k es ev a s v n = z_at k' es ev a' s v n := by
  induction n with
  | zero => rfl
  | succ n ih =>
    simp only [z_at]
    rw [ih (fun e he => h e (by omega))]
    have := h n (by omega)
    simp only [this]
theorem z_cnt_congr {k k' es : Nat → Int32} {a a' s : Int32} {n : Nat} (h : ∀ e, e < n → (k e = a ↔ k' e = a')) : z_cnt k es a s n = z_cnt k' es a' s n :=
  z_sum_congr (fun e he => by have := h e he; simp only [this])
/-- how many entries of owner a and sort s have a value less than x -/
def z_less (k es ev : Nat → Int32) (a s x : Int32) (n : Nat) : Nat := z_sum (fun e => if k e = a ∧ es e = s ∧ ev e < x then 1 else 0) n
theorem z_less_le (k es ev : Nat → Int32) (a s x : Int32) (n : Nat) : z_less k es ev a s x n ≤ n := z_sum_bd (fun e _ => by split <;> omega)
theorem z_less_y {k es ev : Nat → Int32} {a s x : Int32} {n : Nat} (h1 : k n = a) (h2 : es n = s) (h3 : ev n < x) : z_less k es ev a s x (n + 1) = z_less k es ev a s x n + 1 := by
  simp only [z_less, z_sum]; rw [if_pos ⟨h1, h2, h3⟩]
theorem z_less_n {k es ev : Nat → Int32} {a s x : Int32} {n : Nat} (h : ¬ (k n = a ∧ es n = s ∧ ev n < x)) : z_less k es ev a s x (n + 1) = z_less k es ev a s x n := by
  simp only [z_less, z_sum]; rw [if_neg h]; rfl
theorem z_less_congr {k k' es ev : Nat → Int32} {a a' s x : Int32} {n : Nat} (h : ∀ e, e < n → (k e = a ↔ k' e = a')) : z_less k es ev a s x n = z_less k' es ev a' s x n :=
  z_sum_congr (fun e he => by have := h e he; simp only [this])
/-- the value of the first of the first n entries that has exactly ix lesser ones among all h -/
def z_rank (k es ev : Nat → Int32) (a s ix : Int32) (h : Nat) : Nat → Option Int32
  | 0 => none
  | n + 1 => match z_rank k es ev a s ix h n with
    | some j => some j
    | none => if k n = a ∧ es n = s ∧ nI (z_less k es ev a s (ev n) h) = ix then some (ev n) else none
def z_val (k es ev : Nat → Int32) (a s ix : Int32) (h : Nat) : Int32 := (z_rank k es ev a s ix h h).getD 0
theorem z_rank_n {k es ev : Nat → Int32} {a s ix : Int32} {h n : Nat} (e : z_rank k es ev a s ix h n = none) (hn : ¬ (k n = a ∧ es n = s ∧ nI (z_less k es ev a s (ev n) h) = ix)) : z_rank k es ev a s ix h (n + 1) = none := by
  simp only [z_rank, e]; rw [if_neg hn]
theorem z_rank_up {k es ev : Nat → Int32} {a s ix : Int32} {h i n : Nat} {j : Int32} (e : z_rank k es ev a s ix h i = some j) (hn : i ≤ n) : z_rank k es ev a s ix h n = some j := by
  induction n with
  | zero =>
    have : i = 0 := by omega
    subst this; exact e
  | succ n ih =>
    rcases Nat.lt_or_ge i (n + 1) with q | q
    · simp only [z_rank, ih (by omega)]
    · have : i = n + 1 := by omega
      subst this; exact e
theorem z_rank_y {k es ev : Nat → Int32} {a s ix : Int32} {h i : Nat} (e : z_rank k es ev a s ix h i = none) (h1 : k i = a) (h2 : es i = s) (h3 : nI (z_less k es ev a s (ev i) h) = ix) (hn : i < h) : ev i = z_val k es ev a s ix h := by
  have e2 : z_rank k es ev a s ix h (i + 1) = some (ev i) := by
    simp only [z_rank, e]; rw [if_pos ⟨h1, h2, h3⟩]
  have := z_rank_up e2 hn
  simp only [z_val, this, Option.getD_some]
theorem z_rank_0 {k es ev : Nat → Int32} {a s ix : Int32} {h : Nat} (e : z_rank k es ev a s ix h h = none) : (0 : Int32) = z_val k es ev a s ix h := by
  simp only [z_val, e, Option.getD_none]
theorem z_rank_congr {k k' es ev : Nat → Int32} {a a' s ix : Int32} {h n : Nat} (hh : ∀ e, e < h → (k e = a ↔ k' e = a')) (hn : n ≤ h) : z_rank k es ev a s ix h n = z_rank k' es ev a' s ix h n := by
  induction n with
  | zero => rfl
  | succ n ih =>
    simp only [z_rank]
    rw [ih (by omega), z_less_congr hh]
    have := hh n (by omega)
    simp only [this]
theorem z_val_congr {k k' es ev : Nat → Int32} {a a' s ix : Int32} {h : Nat} (hh : ∀ e, e < h → (k e = a ↔ k' e = a')) : z_val k es ev a s ix h = z_val k' es ev a' s ix h := by
  simp only [z_val, z_rank_congr hh (Nat.le_refl h)]
/-- the value is one of the entries', or 0 -/
theorem z_rank_in {k es ev : Nat → Int32} {a s ix v : Int32} {h n : Nat} (e : z_rank k es ev a s ix h n = some v) : ∃ j, j < n ∧ k j = a ∧ es j = s ∧ ev j = v ∧ nI (z_less k es ev a s (ev j) h) = ix := by
  induction n with
  | zero => simp [z_rank] at e
  | succ n ih =>
    simp only [z_rank] at e
    cases hq : z_rank k es ev a s ix h n with
    | some q =>
      rw [hq] at e
      obtain ⟨j, h1, h2⟩ := ih (by rw [hq]; exact e)
      exact ⟨j, by omega, h2⟩
    | none =>
      rw [hq] at e
      dsimp only at e
      split at e
      · next hc => exact ⟨n, by omega, hc.1, hc.2.1, Option.some.inj e, hc.2.2⟩
      · exact absurd e (by simp)
/-- out of range: no entry has that many lesser ones -/
theorem z_less_lt {k es ev : Nat → Int32} {a s : Int32} {j h : Nat} (hj : j < h) (h1 : k j = a) (h2 : es j = s) : z_less k es ev a s (ev j) h < z_cnt k es a s h := by
  have hle : ∀ m, z_less k es ev a s (ev j) m ≤ z_cnt k es a s m := fun m => z_sum_le (fun e _ => by
    by_cases hc : k e = a ∧ es e = s
    · rw [if_pos hc]; split <;> omega
    · rw [if_neg hc, if_neg (fun q => hc ⟨q.1, q.2.1⟩)]; omega)
  induction h with
  | zero => omega
  | succ h ih =>
    rcases Nat.lt_or_ge j h with q | q
    · have h3 := ih q
      by_cases hc : k h = a ∧ es h = s
      · rw [z_cnt_y hc.1 hc.2]
        by_cases hd : ev h < ev j
        · rw [z_less_y hc.1 hc.2 hd]; omega
        · rw [z_less_n (fun q => hd q.2.2)]; omega
      · rw [z_cnt_n hc, z_less_n (fun q => hc ⟨q.1, q.2.1⟩)]; exact h3
    · have : j = h := by omega
      subst this
      rw [z_cnt_y h1 h2, z_less_n (fun q => Int32.lt_irrefl q.2.2)]
      have := hle j; omega
theorem z_val_out {k es ev : Nat → Int32} {a s ix : Int32} {h : Nat} (hb : h < 2 ^ 31) (ho : ix < 0 ∨ nI (z_cnt k es a s h) ≤ ix) : z_val k es ev a s ix h = 0 := by
  cases hq : z_rank k es ev a s ix h h with
  | none => exact (z_rank_0 hq).symm
  | some v =>
    obtain ⟨j, h1, h2, h3, h4, h5⟩ := z_rank_in hq
    have hlt := z_less_lt (ev := ev) h1 h2 h3
    have hcb := z_cnt_le k es a s h
    subst h5
    rcases ho with ho | ho
    · exact absurd ho (nI_pos (by omega))
    · exact absurd ho (nI_ge hlt (by omega))
end
section
/-! PLAIN LAWS: names as numbers to the base 9, the walk down the tree, free nodes -/
/-- the number of the first k labels -/
def z_P (ky : Nat → Nat) : Nat → Nat
  | 0 => 0
  | k + 1 => 9 * z_P ky k + ky k + 1
/-- the node that the first k labels lead to -/
def z_fn (ky ch : Nat → Nat) : Nat → Option Nat
  | 0 => some 0
  | k + 1 => match z_fn ky ch k with
    | none => none
    | some nd => if ch (8 * nd + ky k) = 0 then none else some (ch (8 * nd + ky k))
theorem z_fn_s {ky ch : Nat → Nat} {k nd : Nat} (h : z_fn ky ch k = some nd) (hc : ¬ ch (8 * nd + ky k) = 0) : z_fn ky ch (k + 1) = some (ch (8 * nd + ky k)) := by
  simp only [z_fn, h]; rw [if_neg hc]
theorem z_fn_n {ky ch : Nat → Nat} {k nd : Nat} (h : z_fn ky ch k = some nd) (hc : ch (8 * nd + ky k) = 0) : z_fn ky ch (k + 1) = none := by
  simp only [z_fn, h]; rw [if_pos hc]
theorem z_fn_up {ky ch : Nat → Nat} {k n : Nat} (h : z_fn ky ch k = none) (hn : k ≤ n) : z_fn ky ch n = none := by
  induction n with
  | zero =>
    have : k = 0 := by omega
    subst this; exact h
  | succ n ih =>
    rcases Nat.lt_or_ge k (n + 1) with q | q
    · simp only [z_fn, ih (by omega)]
    · have : k = n + 1 := by omega
      subst this; exact h
/-- the sum of what lies below the nodes 1 .. 99 -/
def z_sb (be : Nat → Nat) : Nat := z_sum (fun j => be (j + 1)) 99
theorem z_sb_one (be : Nat → Nat) {i : Nat} (h1 : 1 ≤ i) (h2 : i < 100) : be i ≤ z_sb be := by
  have := z_sum_one (f := fun j => be (j + 1)) (k := i - 1) (n := 99) (by omega)
  rw [show i - 1 + 1 = i by omega] at this
  exact this
theorem z_sb_all {be : Nat → Nat} (h : ∀ j, 1 ≤ j → j < 100 → be j ≠ 0) : 99 ≤ z_sb be :=
  z_sum_ge1 (fun e he => Nat.pos_of_ne_zero (h (e + 1) (by omega) (by omega)))
theorem z_sb_upd {be : Nat → Nat} {i v : Nat} (h1 : 1 ≤ i) (h2 : i < 100) : z_sb (zn_u be i v) + be i = z_sb be + v := by
  have h3 : z_sb (zn_u be i v) = z_sum (zn_u (fun j => be (j + 1)) (i - 1) v) 99 := by
    refine z_sum_congr (fun e he => ?_)
    simp only [zn_u]
    by_cases hc : e + 1 = i
    · rw [if_pos hc, if_pos (by omega)]
    · rw [if_neg hc, if_neg (by omega)]
  have h4 := z_sum_upd (f := fun j => be (j + 1)) (k := i - 1) (n := 99) (v := v) (by omega)
  rw [show i - 1 + 1 = i by omega] at h4
  rw [h3]; exact h4
theorem z_sb_0 {be : Nat → Nat} {v : Nat} : z_sb (zn_u be 0 v) = z_sb be := z_sum_congr (fun e _ => zn_un (by omega))
/-- the number less its last j digits -/
def z_sh (k : Nat) : Nat → Nat
  | 0 => k
  | j + 1 => z_sh k j / 9
def z_ok (r : Nat) : Prop := r = 0 ∨ ¬ r % 9 = 0
def z_vn (k : Nat) : Prop := k ≤ 6560 ∧ ∀ i, i < 4 → z_ok (z_sh k i)
/-- a value that is a name's number -/
def z_isn (v : Int32) : Prop := ∃ k, v = nI k ∧ z_vn k
theorem z_ok_s {k j : Nat} (h : ∀ i, i < j → z_ok (z_sh k i)) (h2 : z_ok (z_sh k j)) : ∀ i, i < j + 1 → z_ok (z_sh k i) := fun i hi => by
  rcases Nat.lt_or_ge i j with q | q
  · exact h i q
  · rw [show i = j by omega]; exact h2
theorem z_isn_out {v : Int32} (h : v < 0 ∨ ¬ v ≤ nI 6560) : ¬ z_isn v := by
  rintro ⟨k, rfl, hk, -⟩
  rcases h with h | h
  · exact nI_pos (by omega) h
  · exact h (nI_le hk (by decide))
theorem z_isn_bad {k j : Nat} (hk : k ≤ 6560) (hj : j < 4) (h1 : ¬ z_sh k j = 0) (h2 : z_sh k j % 9 = 0) : ¬ z_isn (nI k) := by
  rintro ⟨k', e, hk', hv⟩
  have : k = k' := (nI_eq (by omega) (by omega)).mp e
  subst this
  rcases hv j hj with q | q
  · exact h1 q
  · exact q h2
end
section
/-! PLAIN LAWS: which name covers which, how many entries a name covers -/
/-- a is b or above it -/
abbrev z_cov (a b : Nat) : Prop := b = a ∨ b / 9 = a ∨ b / 9 / 9 = a ∨ b / 9 / 9 / 9 = a ∨ b / 9 / 9 / 9 / 9 = a
theorem z_cov_of {a b j : Nat} (hj : j < 5) (h : z_sh b j = a) : z_cov a b := by
  match j, hj, h with
  | 0, _, h => exact Or.inl h
  | 1, _, h => exact Or.inr (Or.inl h)
  | 2, _, h => exact Or.inr (Or.inr (Or.inl h))
  | 3, _, h => exact Or.inr (Or.inr (Or.inr (Or.inl h)))
  | 4, _, h => exact Or.inr (Or.inr (Or.inr (Or.inr h)))
theorem z_cov_no {a b : Nat} (h : ∀ i, i < 5 → ¬ z_sh b i = a) : ¬ z_cov a b := by
  rintro (q | q | q | q | q)
  · exact h 0 (by omega) q
  · exact h 1 (by omega) q
  · exact h 2 (by omega) q
  · exact h 3 (by omega) q
  · exact h 4 (by omega) q
/-- how many of the first n entries lie at the name p or below it -/
def z_pc (nm : Nat → Nat) (p n : Nat) : Nat := z_sum (fun e => if z_cov p (nm e) then 1 else 0) n
/-- the name p is there -/
abbrev z_thr (nm : Nat → Nat) (he p : Nat) : Prop := p = 0 ∨ 0 < z_pc nm p he
theorem z_pc_n {nm : Nat → Nat} {p n : Nat} (h : z_pc nm p n = 0) (hc : ¬ z_cov p (nm n)) : z_pc nm p (n + 1) = 0 := by
  simp only [z_pc, z_sum] at h ⊢
  rw [h, if_neg hc]
theorem z_pc_y {nm : Nat → Nat} {p i n : Nat} (h : i < n) (hc : z_cov p (nm i)) : 0 < z_pc nm p n := by
  have := z_sum_one (f := fun e => if z_cov p (nm e) then 1 else 0) h
  rw [if_pos hc] at this
  exact this
theorem z_pc_pos {nm : Nat → Nat} {p n : Nat} (h : 0 < z_pc nm p n) : ∃ e, e < n ∧ z_cov p (nm e) := by
  obtain ⟨e, h1, h2⟩ := z_sum_pos h
  refine ⟨e, h1, ?_⟩
  by_cases hc : z_cov p (nm e)
  · exact hc
  · rw [if_neg hc] at h2; omega
theorem z_sh_0 {k j i : Nat} (h : z_sh k j = 0) (hi : j ≤ i) : z_sh k i = 0 := by
  induction i with
  | zero =>
    have : j = 0 := by omega
    subst this; exact h
  | succ i ih =>
    rcases Nat.lt_or_ge j (i + 1) with q | q
    · simp only [z_sh]; rw [ih (by omega)]
    · have : j = i + 1 := by omega
      subst this; exact h
theorem z_ok_z {k j : Nat} (h : ∀ i, i < j → z_ok (z_sh k i)) (h2 : z_sh k j = 0) : ∀ i, z_ok (z_sh k i) := fun i => by
  rcases Nat.lt_or_ge i j with q | q
  · exact h i q
  · exact Or.inl (z_sh_0 h2 q)
/-- a sort that may be asked for -/
abbrev z_so (s : Int32) : Prop := ¬ s < nI 1 ∧ s ≤ nI 4
end
section
/-! PLAIN LAWS: the tree of labels. cn p: how many entries lie at or below the name p. A node is live if it is the root, or the one in hand (cur), or something lies below it -/
abbrev z_lv (be : Nat → Nat) (cur m : Nat) : Prop := m = 0 ∨ m = cur ∨ 0 < be m
def z_T (ch nu be cn : Nat → Nat) (cur : Nat) : Prop :=
  nu 0 = 0 ∧ (∀ j, ch j < 100) ∧
  (∀ m, m < 100 → z_lv be cur m → ∀ c, c < 8 → ch (8 * m + c) ≠ 0 → 0 < be (ch (8 * m + c)) ∧ nu (ch (8 * m + c)) = 9 * nu m + c + 1) ∧
  (∀ m, m < 100 → ¬ z_lv be cur m → ∀ c, c < 8 → ch (8 * m + c) = 0) ∧
  (∀ m, m < 100 → z_lv be cur m → be m = cn (nu m)) ∧
  (∀ m, m < 100 → z_lv be cur m → ∀ c, c < 8 → 0 < cn (9 * nu m + c + 1) → ch (8 * m + c) ≠ 0) ∧
  (∀ m m', m < 100 → m' < 100 → z_lv be cur m → z_lv be cur m' → nu m = nu m' → m = m')
/-- one entry more below a live node -/
theorem z_T_inc {ch nu be cn cn' : Nat → Nat} {x : Nat} (h : z_T ch nu be cn 0) (hx : x < 100) (hl : z_lv be 0 x) (hc : ∀ q, cn' q = cn q + if q = nu x then 1 else 0) : z_T ch nu (zn_u be x (be x + 1)) cn' 0 := by
  obtain ⟨h0, h1, h2, h3, h4, h5, h6⟩ := h
  have hlv : ∀ m, z_lv (zn_u be x (be x + 1)) 0 m ↔ z_lv be 0 m := by
    intro m
    by_cases hm : m = x
    · subst hm
      constructor
      · intro _; exact hl
      · intro _; right; right; rw [zn_us]; omega
    · simp only [z_lv]; rw [zn_un hm]
  refine ⟨h0, h1, ?_, ?_, ?_, ?_, ?_⟩
  · intro m hm hv c hc8 hne
    obtain ⟨g1, g2⟩ := h2 m hm ((hlv m).mp hv) c hc8 hne
    refine ⟨?_, g2⟩
    by_cases he : ch (8 * m + c) = x
    · rw [he, zn_us]; omega
    · rw [zn_un he]; exact g1
  · intro m hm hv
    exact h3 m hm (fun q => hv ((hlv m).mpr q))
  · intro m hm hv
    rw [hc]
    have hv' := (hlv m).mp hv
    by_cases he : m = x
    · subst he
      rw [zn_us, if_pos rfl, h4 m hm hl]
    · rw [zn_un he, if_neg (fun q => he (h6 m x hm hx hv' hl q)), h4 m hm hv']; rfl
  · intro m hm hv c hc8 hp
    have hv' := (hlv m).mp hv
    rw [hc] at hp
    by_cases he : 9 * nu m + c + 1 = nu x
    · refine h5 m hm hv' c hc8 ?_
      rw [he, ← h4 x hx hl]
      rcases hl with q | q | q
      · subst q; omega
      · subst q; omega
      · exact q
    · rw [if_neg he] at hp
      exact h5 m hm hv' c hc8 hp
  · intro m m' hm hm' hv hv'
    exact h6 m m' hm hm' ((hlv m).mp hv) ((hlv m').mp hv')
/-- a new node under a live one -/
theorem z_T_new {ch nu be cn cn' : Nat → Nat} {nd c0 x : Nat} (h : z_T ch nu be cn 0) (hnd : nd < 100) (hl : z_lv be 0 nd) (hc0 : c0 < 8) (hz : ch (8 * nd + c0) = 0) (hx0 : 0 < x) (hx : x < 100) (hbx : be x = 0)
    (hcz : ∀ c, c < 8 → cn (9 * (9 * nu nd + c0 + 1) + c + 1) = 0) (hc : ∀ q, cn' q = cn q + if q = 9 * nu nd + c0 + 1 then 1 else 0) : z_T (zn_u ch (8 * nd + c0) x) (zn_u nu x (9 * nu nd + c0 + 1)) (zn_u be x (0 + 1)) cn' 0 := by
  obtain ⟨h0, h1, h2, h3, h4, h5, h6⟩ := h
  have hnx : nd ≠ x := by
    intro q; subst q
    rcases hl with q | q | q <;> omega
  have hcn : cn (9 * nu nd + c0 + 1) = 0 := by
    rcases Nat.eq_zero_or_pos (cn (9 * nu nd + c0 + 1)) with q | q
    · exact q
    · exact absurd hz (h5 nd hnd hl c0 hc0 q)
  have hxd : ¬ z_lv be 0 x := by
    rintro (q | q | q) <;> omega
  have hlv : ∀ m, m ≠ x → (z_lv (zn_u be x (0 + 1)) 0 m ↔ z_lv be 0 m) := by
    intro m hm
    simp only [z_lv]; rw [zn_un hm]
  have hchn : ∀ m c, c < 8 → ¬ (m = nd ∧ c = c0) → zn_u ch (8 * nd + c0) x (8 * m + c) = ch (8 * m + c) := by
    intro m c hc8 hn
    refine zn_un (fun q => hn ?_)
    omega
  -- no live node has the new name
  have hfresh : ∀ m, m < 100 → z_lv be 0 m → nu m ≠ 9 * nu nd + c0 + 1 := by
    intro m hm hv q
    have h4m := h4 m hm hv
    rw [q, hcn] at h4m
    rcases hv with r | r | r
    · subst r; omega
    · subst r; omega
    · omega
  refine ⟨?_, ?_, ?_, ?_, ?_, ?_, ?_⟩
  · rw [zn_un (by omega)]; exact h0
  · intro j
    by_cases hj : j = 8 * nd + c0
    · rw [hj, zn_us]; exact hx
    · rw [zn_un hj]; exact h1 j
  · intro m hm hv c hc8 hne
    by_cases hmx : m = x
    · subst hmx
      rw [hchn m c hc8 (fun q => hnx q.1.symm)] at hne
      exact absurd (h3 m hm hxd c hc8) hne
    · have hv' := (hlv m hmx).mp hv
      by_cases hmc : m = nd ∧ c = c0
      · obtain ⟨rfl, rfl⟩ := hmc
        rw [zn_us, zn_us, zn_us, zn_un hmx]
        exact ⟨by omega, rfl⟩
      · rw [hchn m c hc8 hmc] at hne ⊢
        obtain ⟨g1, g2⟩ := h2 m hm hv' c hc8 hne
        have hy : ch (8 * m + c) ≠ x := fun q => by rw [q] at g1; omega
        rw [zn_un hy, zn_un hy, zn_un hmx]
        exact ⟨g1, g2⟩
  · intro m hm hv c hc8
    have hmx : m ≠ x := fun q => hv (by subst q; right; right; rw [zn_us]; omega)
    have hv' : ¬ z_lv be 0 m := fun q => hv ((hlv m hmx).mpr q)
    rw [hchn m c hc8 (fun q => hv' (by rw [q.1]; exact hl))]
    exact h3 m hm hv' c hc8
  · intro m hm hv
    rw [hc]
    by_cases hmx : m = x
    · subst hmx
      rw [zn_us, zn_us, if_pos rfl, hcn]
    · have hv' := (hlv m hmx).mp hv
      rw [zn_un hmx, zn_un hmx, if_neg (hfresh m hm hv'), h4 m hm hv']; rfl
  · intro m hm hv c hc8 hp
    rw [hc] at hp
    by_cases hmx : m = x
    · subst hmx
      rw [zn_us, hcz c hc8] at hp
      rw [if_neg (by omega)] at hp
      omega
    · have hv' := (hlv m hmx).mp hv
      rw [zn_un hmx] at hp
      by_cases hmc : m = nd ∧ c = c0
      · obtain ⟨rfl, rfl⟩ := hmc
        rw [zn_us]; omega
      · rw [hchn m c hc8 hmc]
        by_cases he : 9 * nu m + c + 1 = 9 * nu nd + c0 + 1
        · have e1 : nu m = nu nd := by omega
          exact absurd ⟨h6 m nd hm hnd hv' hl e1, by omega⟩ hmc
        · rw [if_neg he] at hp
          exact h5 m hm hv' c hc8 hp
  · intro m m' hm hm' hv hv' he
    by_cases hmx : m = x
    · by_cases hmx' : m' = x
      · rw [hmx, hmx']
      · rw [hmx, zn_us, zn_un hmx'] at he
        exact absurd he.symm (hfresh m' hm' ((hlv m' hmx').mp hv'))
    · by_cases hmx' : m' = x
      · rw [hmx', zn_us, zn_un hmx] at he
        exact absurd he (hfresh m hm ((hlv m hmx).mp hv))
      · rw [zn_un hmx, zn_un hmx'] at he
        exact h6 m m' hm hm' ((hlv m hmx).mp hv) ((hlv m' hmx').mp hv') he
/-- the child that a counted name leads to -/
theorem z_T_kid {ch nu be cn : Nat → Nat} {cur nd c0 : Nat} (h : z_T ch nu be cn cur) (hnd : nd < 100) (hl : z_lv be cur nd) (hc0 : c0 < 8) (hp : 0 < cn (9 * nu nd + c0 + 1)) : ch (8 * nd + c0) ≠ 0 ∧ ch (8 * nd + c0) < 100 ∧ nu (ch (8 * nd + c0)) = 9 * nu nd + c0 + 1 ∧ 0 < be (ch (8 * nd + c0)) ∧ be (ch (8 * nd + c0)) = cn (9 * nu nd + c0 + 1) := by
  obtain ⟨h0, h1, h2, h3, h4, h5, h6⟩ := h
  have hne := h5 nd hnd hl c0 hc0 hp
  obtain ⟨g1, g2⟩ := h2 nd hnd hl c0 hc0 hne
  refine ⟨hne, h1 _, g2, g1, ?_⟩
  rw [h4 _ (h1 _) (Or.inr (Or.inr g1)), g2]
/-- one entry less below the child of the node in hand; a node with nothing below goes -/
theorem z_T_dec {ch ch' nu be cn cn' : Nat → Nat} {cur c0 d : Nat} (h : z_T ch nu be cn cur) (hcur : cur < 100) (hc0 : c0 < 8) (hd : cn (9 * nu cur + c0 + 1) = d + 1) (hle : d ≤ be cur) (hoff : be cur = 0 → ∀ c, c < 8 → c ≠ c0 → cn (9 * nu cur + c + 1) = 0)
    (hc : ∀ q, cn' q = if q = 9 * nu cur + c0 + 1 then d else cn q) (hch : (d = 0 ∧ ch' = zn_u ch (8 * cur + c0) 0) ∨ (d ≠ 0 ∧ ch' = ch)) : z_T ch' nu (zn_u be (ch (8 * cur + c0)) d) cn' (ch (8 * cur + c0)) := by
  obtain ⟨hx0, hx, hnx, hbx, hbd⟩ := z_T_kid h hcur (Or.inr (Or.inl rfl)) hc0 (by omega)
  obtain ⟨h0, h1, h2, h3, h4, h5, h6⟩ := h
  generalize hxe : ch (8 * cur + c0) = x at *
  have hlvx : z_lv be cur x := Or.inr (Or.inr hbx)
  have hlvc : z_lv be cur cur := Or.inr (Or.inl rfl)
  have hlv : ∀ m, z_lv (zn_u be x d) x m → z_lv be cur m := by
    intro m hm
    by_cases hmx : m = x
    · rw [hmx]; exact hlvx
    · rcases hm with q | q | q
      · exact Or.inl q
      · exact absurd q hmx
      · rw [zn_un hmx] at q; exact Or.inr (Or.inr q)
  have hlv2 : ∀ m, z_lv be cur m → ¬ z_lv (zn_u be x d) x m → m = cur ∧ be cur = 0 := by
    intro m hm hn
    have hmx : m ≠ x := fun q => hn (Or.inr (Or.inl q))
    rcases hm with q | q | q
    · exact absurd (Or.inl q) hn
    · refine ⟨q, ?_⟩
      rcases Nat.eq_zero_or_pos (be cur) with r | r
      · exact r
      · exact absurd (Or.inr (Or.inr (by rw [zn_un hmx, q]; exact r))) hn
    · exact absurd (Or.inr (Or.inr (by rw [zn_un hmx]; exact q))) hn
  have hch1 : ∀ j, ch' j ≠ 0 → ch' j = ch j := by
    intro j hj
    rcases hch with ⟨-, e⟩ | ⟨-, e⟩
    · rw [e] at hj ⊢
      by_cases hje : j = 8 * cur + c0
      · rw [hje, zn_us] at hj; exact absurd rfl hj
      · rw [zn_un hje]
    · rw [e]
  have hch0 : ∀ j, ch j = 0 → ch' j = 0 := by
    intro j hj
    rcases hch with ⟨-, e⟩ | ⟨-, e⟩
    · rw [e]
      by_cases hje : j = 8 * cur + c0
      · rw [hje, zn_us]
      · rw [zn_un hje]; exact hj
    · rw [e]; exact hj
  refine ⟨h0, ?_, ?_, ?_, ?_, ?_, ?_⟩
  · intro j
    by_cases hj : ch' j = 0
    · omega
    · rw [hch1 j hj]; exact h1 j
  · intro m hm hv c hc8 hne
    have hv' := hlv m hv
    have e1 := hch1 _ hne
    rw [e1] at hne ⊢
    obtain ⟨g1, g2⟩ := h2 m hm hv' c hc8 hne
    refine ⟨?_, g2⟩
    by_cases hy : ch (8 * m + c) = x
    · rw [hy, zn_us]
      rw [hy, hnx] at g2
      have e2 : nu m = nu cur := by omega
      have e3 : m = cur := h6 m cur hm hcur hv' hlvc e2
      have e4 : c = c0 := by omega
      rcases hch with ⟨hd0, e⟩ | ⟨hd0, e⟩
      · rw [e, e3, e4, zn_us] at e1
        omega
      · omega
    · rw [zn_un hy]; exact g1
  · intro m hm hv c hc8
    by_cases hv' : z_lv be cur m
    · obtain ⟨rfl, hb0⟩ := hlv2 m hv' hv
      by_cases hcc : c = c0
      · subst hcc
        rcases hch with ⟨hd0, e⟩ | ⟨hd0, e⟩
        · rw [e, zn_us]
        · omega
      · refine hch0 _ ?_
        rcases Nat.eq_zero_or_pos (ch (8 * m + c)) with q | q
        · exact q
        · obtain ⟨g1, g2⟩ := h2 m hm hlvc c hc8 (by omega)
          have g3 := h4 _ (h1 (8 * m + c)) (Or.inr (Or.inr g1))
          rw [g2, hoff hb0 c hc8 hcc] at g3
          omega
    · exact hch0 _ (h3 m hm hv' c hc8)
  · intro m hm hv
    rw [hc]
    by_cases hmx : m = x
    · rw [hmx, zn_us, hnx, if_pos rfl]
    · have hv' := hlv m hv
      rw [zn_un hmx, if_neg (fun q => hmx (h6 m x hm hx hv' hlvx (by rw [q, hnx])))]
      exact h4 m hm hv'
  · intro m hm hv c hc8 hp
    have hv' := hlv m hv
    rw [hc] at hp
    by_cases he : 9 * nu m + c + 1 = 9 * nu cur + c0 + 1
    · rw [if_pos he] at hp
      have e3 : m = cur := h6 m cur hm hcur hv' hlvc (by omega)
      have e4 : c = c0 := by omega
      subst e3; subst e4
      rcases hch with ⟨hd0, e⟩ | ⟨hd0, e⟩
      · omega
      · rw [e, hxe]; exact hx0
    · rw [if_neg he] at hp
      have g := h5 m hm hv' c hc8 hp
      rcases hch with ⟨hd0, e⟩ | ⟨hd0, e⟩
      · rw [e, zn_un (fun q => he (by have : m = cur ∧ c = c0 := by omega
                                      rw [this.1, this.2]))]
        exact g
      · rw [e]; exact g
  · intro m m' hm hm' hv hv'
    exact h6 m m' hm hm' (hlv m hv) (hlv m' hv')
/-- every node that was named before keeps its count -/
theorem z_T_keep {nu be cn cn' : Nat → Nat} {x d : Nat} {L : Nat → Prop} (hL : ∀ m m', m < 100 → m' < 100 → L m → L m' → nu m = nu m' → m = m') (h4 : ∀ m, m < 100 → L m → be m = cn (nu m)) (hx : x < 100) (hLx : L x)
    (hc : ∀ q, cn' q = if q = nu x then d else cn q) : ∀ m, m < 100 → L m → zn_u be x d m = cn' (nu m) := by
  intro m hm hv
  rw [hc]
  by_cases hmx : m = x
  · rw [hmx, zn_us, if_pos rfl]
  · rw [zn_un hmx, if_neg (fun q => hmx (hL m x hm hx hv hLx q))]
    exact h4 m hm hv
end
section
/-! PLAIN LAWS: the way down to a key, one entry more or less on the whole way -/
theorem z_P_lt {ky : Nat → Nat} (hky : ∀ j, ky j < 8) : z_P ky 0 = 0 ∧ z_P ky 1 < 9 ∧ z_P ky 2 < 81 ∧ z_P ky 3 < 729 ∧ z_P ky 4 < 6561 := by
  have h0 := hky 0
  have h1 := hky 1
  have h2 := hky 2
  have h3 := hky 3
  have e0 : z_P ky 0 = 0 := rfl
  have e1 : z_P ky 1 = 9 * z_P ky 0 + ky 0 + 1 := rfl
  have e2 : z_P ky 2 = 9 * z_P ky 1 + ky 1 + 1 := rfl
  have e3 : z_P ky 3 = 9 * z_P ky 2 + ky 2 + 1 := rfl
  have e4 : z_P ky 4 = 9 * z_P ky 3 + ky 3 + 1 := rfl
  omega
theorem z_P_lt3 {ky : Nat → Nat} (hky : ∀ j, ky j < 8) {k : Nat} (hk : k < 4) : z_P ky k < 729 := by
  have h := z_P_lt hky
  match k, hk with
  | 0, _ => omega
  | 1, _ => omega
  | 2, _ => omega
  | 3, _ => omega
theorem z_P_lt4 {ky : Nat → Nat} (hky : ∀ j, ky j < 8) {k : Nat} (hk : k ≤ 4) : z_P ky k < 6561 := by
  have h := z_P_lt hky
  rcases Nat.lt_or_ge k 4 with q | q
  · have := z_P_lt3 hky q; omega
  · rw [show k = 4 by omega]; omega
theorem z_P_mono {ky : Nat → Nat} {i j : Nat} (h : i < j) : z_P ky i < z_P ky j := by
  induction j with
  | zero => omega
  | succ j ih =>
    simp only [z_P]
    rcases Nat.lt_or_ge i j with q | q
    · have := ih q; omega
    · rw [show i = j by omega]; omega
theorem z_P_inj {ky : Nat → Nat} {i j : Nat} (h : z_P ky i = z_P ky j) : i = j := by
  rcases Nat.lt_trichotomy i j with q | q | q
  · have := z_P_mono (ky := ky) q; omega
  · exact q
  · have := z_P_mono (ky := ky) q; omega
theorem z_P_congr {a b : Nat → Nat} {k : Nat} (h : ∀ j, j < k → a j = b j) : z_P a k = z_P b k := by
  induction k with
  | zero => rfl
  | succ k ih => simp only [z_P]; rw [ih (fun j hj => h j (by omega)), h k (by omega)]
theorem z_cov_0 {p : Nat} : z_cov p 0 ↔ p = 0 := by
  simp only [z_cov]; omega
theorem z_cov_le {p b : Nat} (h : z_cov p b) : p ≤ b := by
  simp only [z_cov] at h; omega
theorem z_cov_self (p : Nat) : z_cov p p := Or.inl rfl
theorem z_cov_S {ky : Nat → Nat} (hky : ∀ j, ky j < 8) {k q : Nat} (hk : k < 4) : z_cov q (z_P ky (k + 1)) ↔ q = z_P ky (k + 1) ∨ z_cov q (z_P ky k) := by
  have h1 := z_P_lt3 hky hk
  have h2 := hky k
  simp only [z_P, z_cov]
  generalize z_P ky k = a at *
  omega
theorem z_cov_up {p c b : Nat} (hb : b < 6561) (hc : c < 8) (h : z_cov (9 * p + c + 1) b) : z_cov p b := by
  simp only [z_cov] at *
  omega
theorem z_cov_pre {ky : Nat → Nat} (hky : ∀ j, ky j < 8) {k q : Nat} (hk : k ≤ 4) : z_cov q (z_P ky k) ↔ ∃ j, j ≤ k ∧ q = z_P ky j := by
  induction k with
  | zero =>
    rw [show z_P ky 0 = 0 from rfl, z_cov_0]
    constructor
    · intro h; exact ⟨0, Nat.le_refl _, h⟩
    · rintro ⟨j, h1, h2⟩
      rw [show j = 0 by omega] at h2; exact h2
  | succ k ih =>
    rw [z_cov_S hky (by omega), ih (by omega)]
    constructor
    · rintro (h | ⟨j, h1, h2⟩)
      · exact ⟨k + 1, Nat.le_refl _, h⟩
      · exact ⟨j, by omega, h2⟩
    · rintro ⟨j, h1, h2⟩
      rcases Nat.lt_or_ge j (k + 1) with q | q
      · exact Or.inr ⟨j, by omega, h2⟩
      · left; rw [h2, show j = k + 1 by omega]
theorem z_iff {a b : Prop} [Decidable a] [Decidable b] (h : a ↔ b) : (if a then 1 else 0) = (if b then 1 else 0 : Nat) := by
  by_cases hb : b
  · rw [if_pos hb, if_pos (h.mpr hb)]
  · rw [if_neg hb, if_neg (fun q => hb (h.mp q))]
theorem z_T_root {ch nu be cn cn' : Nat → Nat} {v : Nat} (h : z_T ch nu be cn 0) (hc : ∀ q, cn' q = if q = 0 then v else cn q) : z_T ch nu (zn_u be 0 v) cn' 0 := by
  obtain ⟨h0, h1, h2, h3, h4, h5, h6⟩ := h
  have hlv : ∀ m, z_lv (zn_u be 0 v) 0 m ↔ z_lv be 0 m := by
    intro m
    by_cases hm : m = 0
    · exact ⟨fun _ => Or.inl hm, fun _ => Or.inl hm⟩
    · simp only [z_lv]; rw [zn_un hm]
  refine ⟨h0, h1, ?_, ?_, ?_, ?_, ?_⟩
  · intro m hm hv c hc8 hne
    obtain ⟨g1, g2⟩ := h2 m hm ((hlv m).mp hv) c hc8 hne
    refine ⟨?_, g2⟩
    rw [zn_un hne]; exact g1
  · intro m hm hv
    exact h3 m hm (fun q => hv ((hlv m).mpr q))
  · intro m hm hv
    rw [hc]
    have hv' := (hlv m).mp hv
    by_cases he : m = 0
    · rw [he, zn_us, h0, if_pos rfl]
    · rw [zn_un he, if_neg (fun q => he (h6 m 0 hm (by decide) hv' (Or.inl rfl) (by rw [q, h0]))), h4 m hm hv']
  · intro m hm hv c hc8 hp
    rw [hc, if_neg (by omega)] at hp
    exact h5 m hm ((hlv m).mp hv) c hc8 hp
  · intro m m' hm hm' hv hv'
    exact h6 m m' hm hm' ((hlv m).mp hv) ((hlv m').mp hv')
/-- the state of the way down while it grows: i labels are done, the node in hand is nd -/
def z_G (ky ch nu be cn be0 nu0 : Nat → Nat) (i nd : Nat) : Prop :=
  nd < 100 ∧ z_lv be 0 nd ∧ nu nd = z_P ky i ∧ z_T ch nu be (fun p => cn p + if z_cov p (z_P ky i) then 1 else 0) 0 ∧ z_sb be = z_sb be0 + i ∧ ∀ m, m < 100 → z_lv be0 0 m → z_lv be 0 m ∧ nu m = nu0 m
theorem z_G_0 {ky ch nu be cn : Nat → Nat} (hT : z_T ch nu be cn 0) : z_G ky ch nu (zn_u be 0 (be 0 + 1)) cn be nu 0 0 := by
  have h4 := hT.2.2.2.2.1 0 (by decide) (Or.inl rfl)
  rw [hT.1] at h4
  refine ⟨by decide, Or.inl rfl, hT.1, z_T_root hT ?_, by rw [z_sb_0, Nat.add_zero], ?_⟩
  · intro q
    show (cn q + if z_cov q 0 then 1 else 0) = _
    rw [z_iff (z_cov_0 (p := q))]
    by_cases hq : q = 0
    · rw [if_pos hq, if_pos hq, h4, hq]
    · rw [if_neg hq, if_neg hq]; rfl
  · intro m hm hv
    refine ⟨?_, rfl⟩
    by_cases h : m = 0
    · exact Or.inl h
    · simp only [z_lv] at *; rw [zn_un h]; exact hv
theorem z_G_old {ky ch nu be cn be0 nu0 : Nat → Nat} {i nd : Nat} (hky : ∀ j, ky j < 8) (hi : i < 4) (h : z_G ky ch nu be cn be0 nu0 i nd) (hc : ¬ ch (8 * nd + ky i) = 0) : z_G ky ch nu (zn_u be (ch (8 * nd + ky i)) (be (ch (8 * nd + ky i)) + 1)) cn be0 nu0 (i + 1) (ch (8 * nd + ky i)) := by
  obtain ⟨h1, h2, h3, h4, h5, h6⟩ := h
  obtain ⟨g1, g2⟩ := h4.2.2.1 nd h1 h2 (ky i) (hky i) hc
  have hx := h4.2.1 (8 * nd + ky i)
  generalize hxe : ch (8 * nd + ky i) = x at *
  have hnx : nu x = z_P ky (i + 1) := by rw [g2, h3]; rfl
  refine ⟨hx, Or.inr (Or.inr (by rw [zn_us]; omega)), hnx, z_T_inc h4 hx (Or.inr (Or.inr g1)) ?_, ?_, ?_⟩
  · intro q
    rw [hnx]
    have hlt := z_P_mono (ky := ky) (show i < i + 1 by omega)
    by_cases hq : q = z_P ky (i + 1)
    · rw [if_pos hq, if_pos ((z_cov_S hky hi).mpr (Or.inl hq)), if_neg (fun r => by have := z_cov_le r; omega)]
    · rw [if_neg hq]
      have := z_iff (show z_cov q (z_P ky (i + 1)) ↔ z_cov q (z_P ky i) from by
        rw [z_cov_S hky hi]
        exact ⟨fun r => r.elim (fun r => absurd r hq) id, Or.inr⟩)
      omega
  · have := z_sb_upd (be := be) (i := x) (v := be x + 1) (by omega) hx
    omega
  · intro m hm hv
    obtain ⟨k1, k2⟩ := h6 m hm hv
    refine ⟨?_, k2⟩
    by_cases hmx : m = x
    · right; right; rw [hmx, zn_us]; omega
    · simp only [z_lv] at *; rw [zn_un hmx]; exact k1
theorem z_G_new {ky ch nu be cn be0 nu0 : Nat → Nat} {i nd x : Nat} (hky : ∀ j, ky j < 8) (hi : i < 4) (hM : ∀ p c, c < 8 → cn (9 * p + c + 1) ≤ cn p) (h : z_G ky ch nu be cn be0 nu0 i nd) (hc : ch (8 * nd + ky i) = 0) (hx0 : 0 < x) (hx : x < 100) (hbx : be x = 0) :
    z_G ky (zn_u ch (8 * nd + ky i) x) (zn_u nu x (9 * nu nd + ky i + 1)) (zn_u be x (be x + 1)) cn be0 nu0 (i + 1) x := by
  obtain ⟨h1, h2, h3, h4, h5, h6⟩ := h
  have hP : 9 * nu nd + ky i + 1 = z_P ky (i + 1) := by rw [h3]; rfl
  have hlt := z_P_mono (ky := ky) (show i < i + 1 by omega)
  have hcn : cn (z_P ky (i + 1)) = 0 := by
    rcases Nat.eq_zero_or_pos (cn (z_P ky (i + 1))) with q | q
    · exact q
    · exact absurd hc (h4.2.2.2.2.2.1 nd h1 h2 (ky i) (hky i) (by show 0 < cn _ + _; rw [hP]; omega))
  refine ⟨hx, Or.inr (Or.inr (by rw [zn_us]; omega)), by rw [zn_us, hP], ?_, ?_, ?_⟩
  · have := z_T_new (cn' := fun p => cn p + if z_cov p (z_P ky (i + 1)) then 1 else 0) h4 h1 h2 (hky i) hc hx0 hx hbx ?_ ?_
    · rw [hbx]; exact this
    · intro c hc8
      have hm := hM (z_P ky (i + 1)) c hc8
      rw [hP, if_neg (fun r => by have := z_cov_le r; omega)]
      omega
    · intro q
      rw [hP]
      by_cases hq : q = z_P ky (i + 1)
      · rw [if_pos hq, if_pos ((z_cov_S hky hi).mpr (Or.inl hq)), if_neg (fun r => by have := z_cov_le r; omega)]
      · rw [if_neg hq]
        have := z_iff (show z_cov q (z_P ky (i + 1)) ↔ z_cov q (z_P ky i) from by
          rw [z_cov_S hky hi]
          exact ⟨fun r => r.elim (fun r => absurd r hq) id, Or.inr⟩)
        omega
  · have := z_sb_upd (be := be) (i := x) (v := be x + 1) (by omega) hx
    omega
  · intro m hm hv
    obtain ⟨k1, k2⟩ := h6 m hm hv
    have hmx : m ≠ x := by
      intro q; subst q
      rcases k1 with r | r | r <;> omega
    refine ⟨?_, by rw [zn_un hmx]; exact k2⟩
    simp only [z_lv] at *; rw [zn_un hmx]; exact k1
/-- the state of the way down while it shrinks -/
def z_H (ky : Nat → Nat) (kl : Nat) (ch nu be cn be0 : Nat → Nat) (i nd : Nat) : Prop :=
  nd < 100 ∧ nu nd = z_P ky i ∧ z_lv be0 0 nd ∧ z_T ch nu be (fun q => cn q + if z_cov q (z_P ky kl) ∧ ¬ z_cov q (z_P ky i) then 1 else 0) nd ∧
  (∀ m, m < 100 → z_lv be0 0 m → be m = cn (nu m) + if z_cov (nu m) (z_P ky kl) ∧ ¬ z_cov (nu m) (z_P ky i) then 1 else 0) ∧ z_sb be + i = z_sb be0
theorem z_H_0 {ky ch nu be cn cn' : Nat → Nat} {kl : Nat} (hky : ∀ j, ky j < 8) (hkl : kl ≤ 4) (hT : z_T ch nu be cn' 0) (hc : ∀ q, cn' q = cn q + if z_cov q (z_P ky kl) then 1 else 0) : 1 ≤ be 0 ∧ z_H ky kl ch nu (zn_u be 0 (be 0 - 1)) cn be 0 0 := by
  have h4 := hT.2.2.2.2.1 0 (by decide) (Or.inl rfl)
  have hcov : z_cov 0 (z_P ky kl) := (z_cov_pre hky hkl).mpr ⟨0, Nat.zero_le _, rfl⟩
  rw [hT.1, hc, if_pos hcov] at h4
  have hfun : ∀ q, (cn q + if z_cov q (z_P ky kl) ∧ ¬ z_cov q (z_P ky 0) then 1 else 0) = if q = 0 then be 0 - 1 else cn' q := by
    intro q
    rw [hc]
    by_cases hq : q = 0
    · rw [if_pos hq, if_neg (fun r => r.2 (z_cov_0.mpr hq)), hq]; omega
    · rw [if_neg hq, z_iff (show (z_cov q (z_P ky kl) ∧ ¬ z_cov q (z_P ky 0)) ↔ z_cov q (z_P ky kl) from ⟨fun r => r.1, fun r => ⟨r, fun r2 => hq (z_cov_0.mp r2)⟩⟩)]
  refine ⟨by omega, by decide, hT.1, Or.inl rfl, z_T_root hT hfun, ?_, by rw [z_sb_0, Nat.add_zero]⟩
  intro m hm hv
  rw [hfun]
  by_cases h : m = 0
  · rw [h, zn_us, hT.1, if_pos rfl]
  · rw [zn_un h, if_neg (fun q => h (hT.2.2.2.2.2.2 m 0 hm (by decide) hv (Or.inl rfl) (by rw [q, hT.1])))]
    exact hT.2.2.2.2.1 m hm hv
theorem z_H_S {ky ch ch' nu be cn be0 : Nat → Nat} {kl i nd : Nat} (hky : ∀ j, ky j < 8) (hkl : kl ≤ 4) (hi : i < kl) (hM : ∀ p c, c < 8 → cn (9 * p + c + 1) ≤ cn p) (hinj : ∀ m m', m < 100 → m' < 100 → z_lv be0 0 m → z_lv be0 0 m' → nu m = nu m' → m = m') (h : z_H ky kl ch nu be cn be0 i nd) (hlv0 : ∀ m, z_lv be nd m → z_lv be0 0 m) :
    ch (8 * nd + ky i) ≠ 0 ∧ ch (8 * nd + ky i) < 100 ∧ 1 ≤ be (ch (8 * nd + ky i)) ∧ ((be (ch (8 * nd + ky i)) - 1 = 0 ∧ ch' = zn_u ch (8 * nd + ky i) 0) ∨ (be (ch (8 * nd + ky i)) - 1 ≠ 0 ∧ ch' = ch) → z_H ky kl ch' nu (zn_u be (ch (8 * nd + ky i)) (be (ch (8 * nd + ky i)) - 1)) cn be0 (i + 1) (ch (8 * nd + ky i))) ∧ (∀ m, z_lv (zn_u be (ch (8 * nd + ky i)) (be (ch (8 * nd + ky i)) - 1)) (ch (8 * nd + ky i)) m → z_lv be0 0 m) := by
  obtain ⟨h1, h2, h3, h4, h5, h6⟩ := h
  have hP : 9 * nu nd + ky i + 1 = z_P ky (i + 1) := by rw [h2]; rfl
  have hlt := z_P_mono (ky := ky) (show i < i + 1 by omega)
  have hc1 : z_cov (z_P ky (i + 1)) (z_P ky kl) := (z_cov_pre hky hkl).mpr ⟨i + 1, by omega, rfl⟩
  have hn1 : ¬ z_cov (z_P ky (i + 1)) (z_P ky i) := fun r => by have := z_cov_le r; omega
  have hval : (cn (9 * nu nd + ky i + 1) + if z_cov (9 * nu nd + ky i + 1) (z_P ky kl) ∧ ¬ z_cov (9 * nu nd + ky i + 1) (z_P ky i) then 1 else 0) = cn (z_P ky (i + 1)) + 1 := by
    simp only [hP]; rw [if_pos ⟨hc1, hn1⟩]
  obtain ⟨k1, k2, k3, k4, k5⟩ := z_T_kid h4 h1 (Or.inr (Or.inl rfl)) (hky i) (by rw [hval]; omega)
  rw [hval] at k5
  generalize hxe : ch (8 * nd + ky i) = x at *
  have hbx1 : be x - 1 = cn (z_P ky (i + 1)) := by omega
  rw [hP] at k3
  have hlvx : z_lv be0 0 x := hlv0 x (Or.inr (Or.inr k4))
  have hbn : be nd = cn (z_P ky i) := by
    have := h4.2.2.2.2.1 nd h1 (Or.inr (Or.inl rfl))
    rw [this, h2]
    show (cn (z_P ky i) + if z_cov (z_P ky i) (z_P ky kl) ∧ ¬ z_cov (z_P ky i) (z_P ky i) then 1 else 0) = _
    rw [if_neg (fun r => r.2 (z_cov_self _))]; rfl
  have hfun : ∀ q, (cn q + if z_cov q (z_P ky kl) ∧ ¬ z_cov q (z_P ky (i + 1)) then 1 else 0) = if q = z_P ky (i + 1) then cn (z_P ky (i + 1)) else (cn q + if z_cov q (z_P ky kl) ∧ ¬ z_cov q (z_P ky i) then 1 else 0) := by
    intro q
    by_cases hq : q = z_P ky (i + 1)
    · rw [if_pos hq, if_neg (fun r => r.2 (by rw [hq]; exact z_cov_self _)), hq]; rfl
    · rw [if_neg hq]
      have hs := z_cov_S hky (show i < 4 by omega) (q := q)
      rw [z_iff (show (z_cov q (z_P ky kl) ∧ ¬ z_cov q (z_P ky (i + 1))) ↔ (z_cov q (z_P ky kl) ∧ ¬ z_cov q (z_P ky i)) from ⟨fun r => ⟨r.1, fun r2 => r.2 (hs.mpr (Or.inr r2))⟩, fun r => ⟨r.1, fun r2 => (hs.mp r2).elim hq r.2⟩⟩)]
  refine ⟨k1, k2, k4, ?_, ?_⟩
  · intro hch
    rw [hbx1] at hch ⊢
    refine ⟨k2, k3, hlvx, ?_, ?_, ?_⟩
    · have := z_T_dec (cn' := fun q => cn q + if z_cov q (z_P ky kl) ∧ ¬ z_cov q (z_P ky (i + 1)) then 1 else 0) h4 h1 (hky i) hval (by rw [hbn]; exact hM (z_P ky i) (ky i) (hky i)) ?_ (by intro q; rw [hP]; exact hfun q) hch
      · rw [hxe] at this; exact this
      · intro hb0 c hc8 hcc
        rw [hbn] at hb0
        have hm := hM (z_P ky i) c hc8
        rw [h2, if_neg]
        · omega
        · rintro ⟨r, -⟩
          obtain ⟨j, j1, j2⟩ := (z_cov_pre hky hkl).mp r
          match j, j1, j2 with
          | 0, _, j2 => simp only [z_P] at j2; omega
          | j + 1, j1, j2 =>
            simp only [z_P] at j2
            have h9 := hky j
            have : z_P ky i = z_P ky j := by omega
            have := z_P_inj this
            subst this
            omega
    · intro m hm hv
      rw [hfun]
      exact z_T_keep (cn := fun q => cn q + if z_cov q (z_P ky kl) ∧ ¬ z_cov q (z_P ky i) then 1 else 0) (cn' := fun q => if q = z_P ky (i + 1) then cn (z_P ky (i + 1)) else (cn q + if z_cov q (z_P ky kl) ∧ ¬ z_cov q (z_P ky i) then 1 else 0)) (L := z_lv be0 0) hinj h5 k2 hlvx (fun q => by rw [k3]) m hm hv
    · have := z_sb_upd (be := be) (i := x) (v := be x - 1) (by omega) k2
      rw [hbx1] at this
      omega
  · intro m hv
    by_cases hmx : m = x
    · rw [hmx]; exact hlvx
    · refine hlv0 m ?_
      rcases hv with r | r | r
      · exact Or.inl r
      · exact absurd r hmx
      · rw [zn_un hmx] at r; exact Or.inr (Or.inr r)
end
section
/-! PLAIN LAWS: the labels of a number -/
theorem z_sh_le (k j : Nat) : z_sh k j ≤ k := by
  induction j with
  | zero => exact Nat.le_refl _
  | succ j ih => simp only [z_sh]; omega
theorem z_sh_729 {j : Nat} (hj : j ≤ 4) (h : z_sh 729 j = 0) : j = 4 := by
  match j, hj, h with
  | 0, _, h => exact absurd h (by decide)
  | 1, _, h => exact absurd h (by decide)
  | 2, _, h => exact absurd h (by decide)
  | 3, _, h => exact absurd h (by decide)
  | 4, _, _ => rfl
theorem z_sh_729n {j : Nat} (hj : j ≤ 4) (h : ¬ z_sh 729 j = 0) : j < 4 := by
  rcases Nat.lt_or_ge j 4 with q | q
  · exact q
  · rw [show j = 4 by omega] at h; exact absurd rfl h
theorem z_dg {q j : Nat} (hj : j < 4) : q / z_sh 729 j % 9 = z_sh q (3 - j) % 9 := by
  match j, hj with
  | 0, _ =>
    show q / 729 % 9 = q / 9 / 9 / 9 % 9
    omega
  | 1, _ =>
    show q / 81 % 9 = q / 9 / 9 % 9
    omega
  | 2, _ =>
    show q / 9 % 9 = q / 9 % 9
    rfl
  | 3, _ =>
    show q / 1 % 9 = q % 9
    omega
/-- the first j digits of q are in the labels ak, al of them -/
def z_A (q al : Nat) (ak : Nat → Nat) (j : Nat) : Prop := al ≤ j ∧ (∀ i, ak i < 8) ∧ z_P ak al = z_sh q (4 - j)
theorem z_A_0 {q : Nat} {ak : Nat → Nat} (hq : z_vn q) (hak : ∀ j, ak j < 8) : z_A q 0 ak 0 := by
  refine ⟨Nat.le_refl _, hak, ?_⟩
  show 0 = q / 9 / 9 / 9 / 9
  have := hq.1
  omega
theorem z_A_s {q al j x : Nat} {ak : Nat → Nat} (h : z_A q al ak j) (hj : j < 4) (ep : x = z_sh 729 j) (hc : ¬ q / x % 9 = 0) : z_A q (al + 1) (zn_u ak al (q / x % 9 - 1)) (j + 1) := by
  obtain ⟨h1, h2, h3⟩ := h
  have h4 : z_sh q (4 - j) = z_sh q (3 - j) / 9 := by
    rw [show 4 - j = (3 - j) + 1 by omega]; rfl
  have h5 : q / x % 9 = z_sh q (3 - j) % 9 := by rw [ep]; exact z_dg hj
  refine ⟨by omega, ?_, ?_⟩
  · intro i
    by_cases hi : i = al
    · rw [hi, zn_us]; omega
    · rw [zn_un hi]; exact h2 i
  · have h6 : z_P (zn_u ak al (q / x % 9 - 1)) al = z_P ak al := z_P_congr (fun j hj => zn_un (by omega))
    show 9 * z_P (zn_u ak al (q / x % 9 - 1)) al + zn_u ak al (q / x % 9 - 1) al + 1 = z_sh q (4 - (j + 1))
    rw [h6, zn_us, h3, h4, show 4 - (j + 1) = 3 - j by omega]
    omega
theorem z_A_z {q al j x : Nat} {ak : Nat → Nat} (hq : z_vn q) (h : z_A q al ak j) (hj : j < 4) (ep : x = z_sh 729 j) (hc : q / x % 9 = 0) : z_A q al ak (j + 1) := by
  obtain ⟨h1, h2, h3⟩ := h
  have h4 : z_sh q (4 - j) = z_sh q (3 - j) / 9 := by
    rw [show 4 - j = (3 - j) + 1 by omega]; rfl
  have h5 : q / x % 9 = z_sh q (3 - j) % 9 := by rw [ep]; exact z_dg hj
  refine ⟨by omega, h2, ?_⟩
  rw [h3, h4, show 4 - (j + 1) = 3 - j by omega]
  rcases hq.2 (3 - j) (by omega) with r | r
  · omega
  · omega
end
section
/-! PLAIN LAWS: what a lookup answers, over the names nm, sorts es, values ev of he entries -/
set_option maxRecDepth 100000
/-- the shortest name with a hand-over among the first i of q, q/9, ..; 0: none -/
def z_hd (nm : Nat → Nat) (es : Nat → Int32) (he q : Nat) : Nat → Nat
  | 0 => 0
  | i + 1 => if z_sh q i ≠ 0 ∧ z_cnt (zn_F nm) es (nI (z_sh q i)) (nI 4) he ≠ 0 then z_sh q i else z_hd nm es he q i
/-- the first of a, a/9, .. that is there -/
def z_clo (nm : Nat → Nat) (he : Nat) : Nat → Nat → Nat
  | 0, a => a
  | f + 1, a => if z_thr nm he a then a else z_clo nm he f (a / 9)
/-- the name that answers for q -/
def z_ans (nm : Nat → Nat) (he q : Nat) : Option Nat :=
  if z_thr nm he q then some q else if z_thr nm he (z_clo nm he 4 (q / 9) * 9 + 8) then some (z_clo nm he 4 (q / 9) * 9 + 8) else none
/-- what is decided at a name: (0, the name to go on with), (1, it) found, (2, it) no data -/
def z_dec (nm : Nat → Nat) (es ev : Nat → Int32) (he : Nat) (s : Int32) (r : Nat) : Nat × Nat :=
  if s ≠ nI 3 ∧ z_cnt (zn_F nm) es (nI r) (nI 3) he ≠ 0 then (0, (z_val (zn_F nm) es ev (nI r) (nI 3) (nI 0) he).toNatClampNeg)
  else if z_cnt (zn_F nm) es (nI r) s he ≠ 0 then (1, r) else (2, r)
/-- one round -/
def z_rnd (nm : Nat → Nat) (es ev : Nat → Int32) (he : Nat) (s : Int32) (q : Nat) : Nat × Nat :=
  if s ≠ nI 4 ∧ z_hd nm es he q 4 ≠ 0 then (4, z_hd nm es he q 4)
  else match z_ans nm he q with
    | none => (3, q)
    | some r => z_dec nm es ev he s r
/-- all rounds: answer, place, rounds -/
def z_lk (nm : Nat → Nat) (es ev : Nat → Int32) (he : Nat) (s : Int32) : Nat → Nat → Nat → Nat × Nat × Nat
  | 0, q, r => (5, q, r)
  | f + 1, q, r => if (z_rnd nm es ev he s q).1 = 0 then (if r = 5 then (5, q, r) else z_lk nm es ev he s f (z_rnd nm es ev he s q).2 (r + 1)) else ((z_rnd nm es ev he s q).1, (z_rnd nm es ev he s q).2, r)
section ZLK
variable {nm : Nat → Nat} {es ev : Nat → Int32} {he : Nat} {s : Int32}
theorem z_lk_done {q r k p : Nat} (h : z_rnd nm es ev he s q = (k, p)) (hk : k ≠ 0) (hr : r ≤ 5) : z_lk nm es ev he s (6 - r) q r = (k, p, r) := by
  rw [show 6 - r = (5 - r) + 1 by omega]
  simp only [z_lk, h]
  rw [if_neg hk]
theorem z_lk_loop {q p : Nat} (h : z_rnd nm es ev he s q = (0, p)) : z_lk nm es ev he s (6 - 5) q 5 = (5, q, 5) := by
  rw [show 6 - 5 = 0 + 1 from rfl]
  simp only [z_lk, h]
  rw [if_pos trivial, if_pos trivial]
theorem z_lk_next {q r p : Nat} (h : z_rnd nm es ev he s q = (0, p)) (hr : r < 5) : z_lk nm es ev he s (6 - r) q r = z_lk nm es ev he s (6 - (r + 1)) p (r + 1) := by
  rw [show 6 - r = (5 - r) + 1 by omega, show 6 - (r + 1) = 5 - r by omega]
  simp only [z_lk, h]
  rw [if_pos trivial, if_neg (by omega)]
theorem z_rnd_hd {q : Nat} (hs : s ≠ nI 4) (hh : z_hd nm es he q 4 ≠ 0) : z_rnd nm es ev he s q = (4, z_hd nm es he q 4) := by
  simp only [z_rnd]; rw [if_pos ⟨hs, hh⟩]
theorem z_rnd_no {q : Nat} (hn : ¬ (s ≠ nI 4 ∧ z_hd nm es he q 4 ≠ 0)) (ha : z_ans nm he q = none) : z_rnd nm es ev he s q = (3, q) := by
  simp only [z_rnd]; rw [if_neg hn, ha]
theorem z_rnd_an {q r : Nat} (hn : ¬ (s ≠ nI 4 ∧ z_hd nm es he q 4 ≠ 0)) (ha : z_ans nm he q = some r) : z_rnd nm es ev he s q = z_dec nm es ev he s r := by
  simp only [z_rnd]; rw [if_neg hn, ha]
theorem z_dec_0 {r k : Nat} (hs : s ≠ nI 3) (hc : z_cnt (zn_F nm) es (nI r) (nI 3) he ≠ 0) (hv : z_val (zn_F nm) es ev (nI r) (nI 3) (nI 0) he = nI k) (hk : k < 2 ^ 31) : z_dec nm es ev he s r = (0, k) := by
  simp only [z_dec]; rw [if_pos ⟨hs, hc⟩, hv, nI_clamp hk]
theorem z_dec_1 {r : Nat} (hn : ¬ (s ≠ nI 3 ∧ z_cnt (zn_F nm) es (nI r) (nI 3) he ≠ 0)) (hc : z_cnt (zn_F nm) es (nI r) s he ≠ 0) : z_dec nm es ev he s r = (1, r) := by
  simp only [z_dec]; rw [if_neg hn, if_pos hc]
theorem z_dec_2 {r : Nat} (hn : ¬ (s ≠ nI 3 ∧ z_cnt (zn_F nm) es (nI r) (nI 3) he ≠ 0)) (hc : z_cnt (zn_F nm) es (nI r) s he = 0) : z_dec nm es ev he s r = (2, r) := by
  simp only [z_dec]; rw [if_neg hn, if_neg (fun q => q hc)]
/-- the value of a pointer (sort 3) is a name's number -/
theorem z_val_isn {k : Nat → Int32} {a : Int32} (hal : ∀ e, e < he → es e = nI 3 → z_isn (ev e)) (ix : Int32) : ∃ t, z_val k es ev a (nI 3) ix he = nI t ∧ z_vn t := by
  cases hq : z_rank k es ev a (nI 3) ix he he with
  | none =>
    refine ⟨0, (z_rank_0 hq).symm, by omega, fun i _ => Or.inl ?_⟩
    exact z_sh_0 (j := 0) rfl (Nat.zero_le _)
  | some v =>
    obtain ⟨j, h1, h2, h3, h4, -⟩ := z_rank_in hq
    obtain ⟨t, e, ht⟩ := hal j h1 h3
    refine ⟨t, ?_, ht⟩
    simp only [z_val, hq, Option.getD_some]
    rw [← h4, e]
theorem z_vn_lt {t : Nat} (h : z_vn t) : t < 6561 := by have := h.1; omega
theorem z_hd_skip {q a b : Nat} (hab : a ≤ b) (h : ∀ i, a ≤ i → i < b → ¬ (z_sh q i ≠ 0 ∧ z_cnt (zn_F nm) es (nI (z_sh q i)) (nI 4) he ≠ 0)) : z_hd nm es he q b = z_hd nm es he q a := by
  induction b with
  | zero => rw [show a = 0 by omega]
  | succ b ih =>
    rcases Nat.lt_or_ge a (b + 1) with q | q
    · simp only [z_hd]
      rw [if_neg (h b (by omega) (by omega))]
      exact ih (by omega) (fun i h1 h2 => h i h1 (by omega))
    · rw [show a = b + 1 by omega]
theorem z_hd_lt {q i : Nat} : z_hd nm es he q i ≤ q := by
  induction i with
  | zero => exact Nat.zero_le _
  | succ i ih =>
    simp only [z_hd]
    split
    · exact z_sh_le q i
    · exact ih
theorem z_clo_le {f a : Nat} : z_clo nm he f a ≤ a := by
  induction f generalizing a with
  | zero => exact Nat.le_refl _
  | succ f ih =>
    simp only [z_clo]
    split
    · exact Nat.le_refl _
    · have := ih (a := a / 9); omega
theorem z_clo_s {f a : Nat} (h : ¬ z_thr nm he a) : z_clo nm he (f + 1) a = z_clo nm he f (a / 9) := by
  simp only [z_clo]; rw [if_neg h]
theorem z_clo_y {f a : Nat} (h : z_thr nm he a) : z_clo nm he f a = a := by
  cases f with
  | zero => rfl
  | succ f => simp only [z_clo]; rw [if_pos h]
theorem z_ans_y {q : Nat} (h : z_thr nm he q) : z_ans nm he q = some q := by
  simp only [z_ans]; rw [if_pos h]
theorem z_ans_s {q : Nat} (h : ¬ z_thr nm he q) (h2 : z_thr nm he (z_clo nm he 4 (q / 9) * 9 + 8)) : z_ans nm he q = some (z_clo nm he 4 (q / 9) * 9 + 8) := by
  simp only [z_ans]; rw [if_neg h, if_pos h2]
theorem z_ans_n {q : Nat} (h : ¬ z_thr nm he q) (h2 : ¬ z_thr nm he (z_clo nm he 4 (q / 9) * 9 + 8)) : z_ans nm he q = none := by
  simp only [z_ans]; rw [if_neg h, if_neg h2]
/-- the prefixes of a name by their labels -/
theorem z_sh_P {ak : Nat → Nat} (hak : ∀ j, ak j < 8) {al i : Nat} (hi : i ≤ al) : z_sh (z_P ak al) i = z_P ak (al - i) := by
  induction i with
  | zero => rfl
  | succ i ih =>
    simp only [z_sh]
    rw [ih (by omega), show al - i = (al - (i + 1)) + 1 by omega]
    have := hak (al - (i + 1))
    simp only [z_P]
    omega
theorem z_sh_PZ {ak : Nat → Nat} (hak : ∀ j, ak j < 8) {al i : Nat} (hi : al ≤ i) : z_sh (z_P ak al) i = 0 :=
  z_sh_0 (j := al) (by rw [z_sh_P hak (Nat.le_refl _), show al - al = 0 by omega]; rfl) hi
theorem z_P_ne {ak : Nat → Nat} {j : Nat} (hj : 1 ≤ j) : z_P ak j ≠ 0 := by
  have := z_P_mono (ky := ak) (show 0 < j by omega)
  omega
/-- the first hand-over on the way down -/
theorem z_hd_P {ak : Nat → Nat} (hak : ∀ j, ak j < 8) {al d : Nat} (hal : al ≤ 4) (hd : d < al) (hno : ∀ j, 1 ≤ j → j ≤ d → z_cnt (zn_F nm) es (nI (z_P ak j)) (nI 4) he = 0) (hy : z_cnt (zn_F nm) es (nI (z_P ak (d + 1))) (nI 4) he ≠ 0) : z_hd nm es he (z_P ak al) 4 = z_P ak (d + 1) := by
  have h1 : z_hd nm es he (z_P ak al) 4 = z_hd nm es he (z_P ak al) (al - d) := by
    refine z_hd_skip (by omega) (fun i h1 h2 q => ?_)
    rcases Nat.lt_or_ge i al with r | r
    · rw [z_sh_P hak (by omega)] at q
      exact q.2 (hno (al - i) (by omega) (by omega))
    · exact q.1 (z_sh_PZ hak r)
  rw [h1, show al - d = (al - d - 1) + 1 by omega]
  simp only [z_hd]
  rw [z_sh_P hak (by omega), show al - (al - d - 1) = d + 1 by omega]
  rw [if_pos ⟨z_P_ne (by omega), hy⟩]
theorem z_hd_0 {ak : Nat → Nat} (hak : ∀ j, ak j < 8) {al : Nat} (hno : ∀ j, 1 ≤ j → j ≤ al → z_cnt (zn_F nm) es (nI (z_P ak j)) (nI 4) he = 0) : z_hd nm es he (z_P ak al) 4 = 0 := by
  have h1 : z_hd nm es he (z_P ak al) 4 = z_hd nm es he (z_P ak al) 0 := by
    refine z_hd_skip (by omega) (fun i h1 h2 q => ?_)
    rcases Nat.lt_or_ge i al with r | r
    · rw [z_sh_P hak (by omega)] at q
      exact q.2 (hno (al - i) (by omega) (by omega))
    · exact q.1 (z_sh_PZ hak r)
  rw [h1]; rfl
/-- a name that isn't there has no entries -/
theorem z_cnt_none {p : Nat} {t : Int32} (hnm : ∀ j, nm j < 6561) (hp : p < 6561) (h : z_pc nm p he = 0) : z_cnt (zn_F nm) es (nI p) t he = 0 := by
  rcases Nat.eq_zero_or_pos (z_cnt (zn_F nm) es (nI p) t he) with q | q
  · exact q
  · obtain ⟨e, h1, h2⟩ := z_sum_pos q
    by_cases hc : zn_F nm e = nI p ∧ es e = t
    · have e1 : nm e = p := (nI_eq (by have := hnm e; omega) (by omega)).mp hc.1
      have := z_pc_y (nm := nm) (p := p) h1 (by rw [e1]; exact z_cov_self p)
      omega
    · rw [if_neg hc] at h2; omega
theorem z_pc_M (hnm : ∀ j, nm j < 6561) (he : Nat) : ∀ p c, c < 8 → z_pc nm (9 * p + c + 1) he ≤ z_pc nm p he := by
  intro p c hc
  refine z_sum_le (fun e _ => ?_)
  by_cases h : z_cov (9 * p + c + 1) (nm e)
  · rw [if_pos h, if_pos (z_cov_up (hnm e) hc h)]; omega
  · rw [if_neg h]; omega
/-- below a name that isn't there nothing is -/
theorem z_pc_down (hnm : ∀ j, nm j < 6561) {ak : Nat → Nat} (hak : ∀ j, ak j < 8) {d j : Nat} (h : z_pc nm (z_P ak d) he = 0) (hj : d ≤ j) : z_pc nm (z_P ak j) he = 0 := by
  induction j with
  | zero => rw [show d = 0 by omega] at h; exact h
  | succ j ih =>
    rcases Nat.lt_or_ge d (j + 1) with q | q
    · have h1 := ih (by omega)
      have h2 := z_pc_M hnm he (z_P ak j) (ak j) (hak j)
      have h3 : z_P ak (j + 1) = 9 * z_P ak j + ak j + 1 := rfl
      rw [h3]; omega
    · rw [show d = j + 1 by omega] at h; exact h
theorem z_clo_P {ak : Nat → Nat} (hak : ∀ j, ak j < 8) {d : Nat} (hy : z_thr nm he (z_P ak d)) : ∀ (f j : Nat), d ≤ j → j ≤ d + f → (∀ i, d < i → i ≤ j → ¬ z_thr nm he (z_P ak i)) → z_clo nm he f (z_P ak j) = z_P ak d := by
  intro f
  induction f with
  | zero =>
    intro j h1 h2 _
    rw [show j = d by omega]; rfl
  | succ f ih =>
    intro j h1 h2 h3
    rcases Nat.lt_or_ge d j with q | q
    · rw [z_clo_s (h3 j q (Nat.le_refl _))]
      have e1 : z_P ak j / 9 = z_P ak (j - 1) := by
        rw [show j = (j - 1) + 1 by omega]
        have := hak (j - 1)
        simp only [z_P, Nat.add_sub_cancel]
        omega
      rw [e1]
      exact ih (j - 1) (by omega) (by omega) (fun i h4 h5 => h3 i h4 (by omega))
    · rw [show j = d by omega]; exact z_clo_y hy
/-- where the way down ends early, the star of the last node answers -/
theorem z_ans_P (hnm : ∀ j, nm j < 6561) {ak : Nat → Nat} (hak : ∀ j, ak j < 8) {al d : Nat} (hal : al ≤ 4) (hd : d < al) (hy : z_thr nm he (z_P ak d)) (hz : z_pc nm (z_P ak (d + 1)) he = 0) : ¬ z_thr nm he (z_P ak al) ∧ z_clo nm he 4 (z_P ak al / 9) * 9 + 8 = 9 * z_P ak d + 7 + 1 := by
  have hn : ∀ i, d < i → ¬ z_thr nm he (z_P ak i) := by
    intro i hi q
    have h1 := z_pc_down hnm hak hz (show d + 1 ≤ i by omega)
    rcases q with q | q
    · exact z_P_ne (by omega) q
    · omega
  refine ⟨hn al hd, ?_⟩
  have e1 : z_P ak al / 9 = z_P ak (al - 1) := by
    rw [show al = (al - 1) + 1 by omega]
    have := hak (al - 1)
    simp only [z_P, Nat.add_sub_cancel]
    omega
  rw [e1, z_clo_P hak hy 4 (al - 1) (by omega) (by omega) (fun i h1 _ => hn i h1)]
  omega
end ZLK
/-- a name or -1 -/
def z_or (h : Nat) : Int32 := if h = 0 then -1 else nI h
theorem z_or_0 {h : Nat} (e : h = 0) : z_or h = -1 := by simp only [z_or]; rw [if_pos e]
theorem z_or_n {h : Nat} (e : h ≠ 0) : z_or h = nI h := by simp only [z_or]; rw [if_neg e]
theorem z_or_c {h : Nat} {r : Int32} (e : r = z_or h) : (h = 0 ∧ r = (-1)) ∨ (h ≠ 0 ∧ r = nI h) := by
  by_cases q : h = 0
  · exact Or.inl ⟨q, e.trans (z_or_0 q)⟩
  · exact Or.inr ⟨q, e.trans (z_or_n q)⟩
end
section
/-! PLAIN LAWS: what add, remove, value do to the entries -/
/-- how many entries of a sort a name may have -/
def z_room (s : Int32) : Nat := if s = nI 3 ∨ s = nI 4 then 1 else 3
theorem z_so_k {s : Int32} (h1 : ¬ s < nI 1) (h2 : ¬ nI 4 < s) : ∃ k, 1 ≤ k ∧ k ≤ 4 ∧ s = nI k := by
  have h3 : ¬ s < 0 := fun q => h1 (Int32.lt_of_lt_of_le q (by decide))
  obtain ⟨k, hk, rfl⟩ := nI_of2 (n := 4) (by decide) h3 (Int32.not_lt.mp h2)
  refine ⟨k, ?_, hk, rfl⟩
  rcases Nat.lt_or_ge k 1 with q | q
  · exact absurd (nI_lt q (by decide)) h1
  · exact q
theorem z_so_n {k : Nat} (h1 : 1 ≤ k) (h2 : k ≤ 4) : z_so (nI k) := ⟨fun q => by have := (nI_ltI (by omega) (by decide)).mp q; omega, nI_le h2 (by decide)⟩
theorem z_room_k {k : Nat} (h2 : k ≤ 4) : z_room (nI k) = if k = 3 ∨ k = 4 then 1 else 3 := by
  simp only [z_room, nI_eq (show k < 2 ^ 31 by omega) (show 3 < 2 ^ 31 by decide), nI_eq (show k < 2 ^ 31 by omega) (show 4 < 2 ^ 31 by decide)]
/-- an entry may be added -/
def z_aok (nm : Nat → Nat) (es ev : Nat → Int32) (he K : Nat) (s v : Int32) : Prop :=
  z_so s ∧ (s = nI 3 → z_isn v) ∧ he < 24 ∧ z_at (zn_F nm) es ev (nI K) s v he = none ∧ z_cnt (zn_F nm) es (nI K) s he < z_room s
/-- the state behind add -/
def z_add (nm : Nat → Nat) (es ev : Nat → Int32) (he K : Nat) (s v : Int32) (r : Int32) (u : Nat × (Nat → Nat) × (Nat → Int32) × (Nat → Int32)) : Prop :=
  (z_aok nm es ev he K s v ∧ r = nI (he + 1) ∧ u = (he + 1, zn_u nm he K, upd es he s, upd ev he v)) ∨ (¬ z_aok nm es ev he K s v ∧ r = (-1) ∧ u = (he, nm, es, ev))
/-- the state behind remove -/
def z_rem (nm : Nat → Nat) (es ev : Nat → Int32) (he K : Nat) (s v : Int32) (r : Int32) (u : Nat × (Nat → Nat) × (Nat → Int32) × (Nat → Int32)) : Prop :=
  (∃ j, z_at (zn_F nm) es ev (nI K) s v he = some j ∧ r = nI (he - 1) ∧ u = (he - 1, zn_u nm j (nm (he - 1)), upd es j (es (he - 1)), upd ev j (ev (he - 1)))) ∨ (z_at (zn_F nm) es ev (nI K) s v he = none ∧ r = (-1) ∧ u = (he, nm, es, ev))
/-- what value answers -/
def z_vl (nm : Nat → Nat) (es ev : Nat → Int32) (he K : Nat) (s ix : Int32) : Int32 :=
  if (z_lk nm es ev he s 5 K 1).1 = 1 then z_val (zn_F nm) es ev (nI (z_lk nm es ev he s 5 K 1).2.1) s ix he
  else if (z_lk nm es ev he s 5 K 1).1 = 4 ∧ ix = nI 0 then z_val (zn_F nm) es ev (nI (z_lk nm es ev he s 5 K 1).2.1) (nI 4) (nI 0) he else nI 0
theorem z_dec_le (nm : Nat → Nat) (es ev : Nat → Int32) (he : Nat) (s : Int32) (r : Nat) : (z_dec nm es ev he s r).1 ≤ 2 := by
  simp only [z_dec]; split
  · exact Nat.zero_le _
  · split
    · exact Nat.le_succ _
    · exact Nat.le_refl _
theorem z_rnd_le (nm : Nat → Nat) (es ev : Nat → Int32) (he : Nat) (s : Int32) (q : Nat) : (z_rnd nm es ev he s q).1 ≤ 4 := by
  simp only [z_rnd]; split
  · exact Nat.le_refl _
  · split
    · exact Nat.le_succ _
    · exact Nat.le_trans (z_dec_le nm es ev he s _) (by decide)
theorem z_lk_le (nm : Nat → Nat) (es ev : Nat → Int32) (he : Nat) (s : Int32) (f q r : Nat) : (z_lk nm es ev he s f q r).1 ≤ 5 := by
  induction f generalizing q r with
  | zero => exact Nat.le_refl _
  | succ f ih =>
    simp only [z_lk]
    split
    · split
      · exact Nat.le_refl _
      · exact ih _ _
    · have := z_rnd_le nm es ev he s q; dsimp only; omega
theorem z_room_lt {k c : Nat} (h1 : 1 ≤ k) (h4 : k ≤ 4) (hc : c ≤ z_room (nI k)) (h : (2 < k ∧ c ≠ 1) ∨ (k ≤ 2 ∧ c ≠ 3)) : c < z_room (nI k) := by
  rw [z_room_k h4] at hc ⊢
  by_cases h8 : k = 3 ∨ k = 4
  · rw [if_pos h8] at hc ⊢; omega
  · rw [if_neg h8] at hc ⊢; omega
end
section
/-! PLAIN LAWS: what a round of ZoneLookup leaves behind, and all rounds -/
/-- behind a round: u = (answer, answerPlace, answerNode, askedLength, asked) -/
def z_O (kp : Nat × Nat) (rr q : Nat) (nu be : Nat → Nat) (an : Int32) (u : Int32 × Int32 × Int32 × Nat × (Nat → Nat)) : Prop :=
  (∀ j, u.2.2.2.2 j < 8) ∧ u.2.2.2.1 ≤ 4 ∧
  ((kp.1 = 0 ∧ rr = 5 ∧ u.1 = nI 5 ∧ u.2.1 = nI q) ∨
   (kp.1 = 0 ∧ rr ≠ 5 ∧ u.1 = an ∧ z_P u.2.2.2.2 u.2.2.2.1 = kp.2) ∨
   (kp.1 ≠ 0 ∧ u.1 = nI kp.1 ∧ u.2.1 = nI kp.2 ∧ (kp.1 = 3 ∨ ∃ nd, u.2.2.1 = nI nd ∧ nd < 100 ∧ z_lv be 0 nd ∧ nu nd = kp.2)))
/-- behind all rounds: u = (answer, answerPlace, answerNode, answerRounds, askedLength, asked) -/
def z_D (LK : Nat × Nat × Nat) (nu be : Nat → Nat) (u : Int32 × Int32 × Int32 × Int32 × Nat × (Nat → Nat)) : Prop :=
  (∀ j, u.2.2.2.2.2 j < 8) ∧ u.2.2.2.2.1 ≤ 4 ∧ u.1 = nI LK.1 ∧ u.2.1 = nI LK.2.1 ∧ u.2.2.2.1 = nI LK.2.2 ∧ ((LK.1 = 1 ∨ LK.1 = 4) → ∃ nd, u.2.2.1 = nI nd ∧ nd < 100 ∧ z_lv be 0 nd ∧ nu nd = LK.2.1)
/-- ahead of round r -/
def z_R (nm : Nat → Nat) (es ev : Nat → Int32) (he : Nat) (s : Int32) (K : Nat) (nu be : Nat → Nat) (r : Nat) (u : Int32 × Int32 × Int32 × Int32 × Nat × (Nat → Nat)) : Prop :=
  (∀ j, u.2.2.2.2.2 j < 8) ∧ u.2.2.2.2.1 ≤ 4 ∧ ((r ≤ 5 ∧ u.1 = nI 0 ∧ z_lk nm es ev he s (6 - r) (z_P u.2.2.2.2.2 u.2.2.2.2.1) r = z_lk nm es ev he s 5 K 1) ∨
   ((z_lk nm es ev he s 5 K 1).1 ≠ 0 ∧ z_D (z_lk nm es ev he s 5 K 1) nu be u))
section ZRND
variable {nm : Nat → Nat} {es ev : Nat → Int32} {he : Nat} {s : Int32} {K : Nat} {nu be : Nat → Nat}
theorem z_R_done {r : Nat} {u : Int32 × Int32 × Int32 × Int32 × Nat × (Nat → Nat)} (h : z_R nm es ev he s K nu be r u) (hc : 5 < r ∨ ¬ u.1 = 0) : z_D (z_lk nm es ev he s 5 K 1) nu be u := by
  obtain ⟨-, -, h | h⟩ := h
  · rcases hc with q | q
    · omega
    · exact absurd (h.2.1.trans nI_0) q
  · exact h.2
theorem z_R_run {r : Nat} {u : Int32 × Int32 × Int32 × Int32 × Nat × (Nat → Nat)} (h : z_R nm es ev he s K nu be r u) (hc : u.1 = 0) : z_lk nm es ev he s (6 - r) (z_P u.2.2.2.2.2 u.2.2.2.2.1) r = z_lk nm es ev he s 5 K 1 := by
  obtain ⟨-, -, h | h⟩ := h
  · exact h.2.2
  · obtain ⟨h1, -, -, h2, -⟩ := h
    rw [h2] at hc
    have := z_lk_le nm es ev he s 5 K 1
    exact absurd ((zn_z (by omega)).mp hc) h1
theorem z_R_step {r q : Nat} {an an' ap ao : Int32} {al : Nat} {ak : Nat → Nat} (hr : r ≤ 5) (han : an = 0) (e0 : z_lk nm es ev he s (6 - r) q r = z_lk nm es ev he s 5 K 1) (h : z_O (z_rnd nm es ev he s q) r q nu be an (an', ap, ao, al, ak)) : z_R nm es ev he s K nu be (r + 1) (an', ap, ao, nI r, al, ak) := by
  obtain ⟨h1, h2, h3⟩ := h
  refine ⟨h1, h2, ?_⟩
  generalize hkp : z_rnd nm es ev he s q = kp at h3
  obtain ⟨k, p⟩ := kp
  rcases h3 with ⟨g1, g2, g3, g4⟩ | ⟨g1, g2, g3, g4⟩ | ⟨g1, g2, g3, g4⟩
  · right
    dsimp only at g1 g3 g4
    subst g1; subst g2
    rw [z_lk_loop hkp] at e0
    rw [← e0]
    refine ⟨by dsimp only; omega, h1, h2, g3, g4, rfl, fun q9 => ?_⟩
    dsimp only at q9; omega
  · left
    dsimp only at g1 g3 g4
    subst g1
    refine ⟨by omega, by rw [show nI 0 = 0 from nI_0, ← han]; exact g3, ?_⟩
    show z_lk nm es ev he s (6 - (r + 1)) (z_P ak al) (r + 1) = _
    rw [g4, ← e0]
    exact (z_lk_next hkp (by omega)).symm
  · right
    dsimp only at g1 g2 g3 g4
    rw [z_lk_done hkp g1 hr] at e0
    rw [← e0]
    refine ⟨g1, h1, h2, g2, g3, rfl, fun q9 => ?_⟩
    rcases g4 with q8 | q8
    · dsimp only at q9; omega
    · exact q8
/-- entries by their nodes and by their names -/
theorem z_rel {ch : Nat → Nat} {en : Nat → Nat} {nd : Nat} {cn : Nat → Nat} (hT : z_T ch nu be cn 0) (hnm : ∀ j, nm j < 6561) (hen : ∀ e, e < he → en e < 100 ∧ z_lv be 0 (en e) ∧ nu (en e) = nm e) (hnd : nd < 100) (hlv : z_lv be 0 nd) (hnu : nu nd < 6561) : ∀ e, e < he → (zn_F en e = nI nd ↔ zn_F nm e = nI (nu nd)) := by
  intro e he'
  obtain ⟨g1, g2, g3⟩ := hen e he'
  have h1 := hnm e
  simp only [zn_F]
  rw [nI_eq (by omega) (by omega), nI_eq (by omega) (by omega)]
  constructor
  · intro q; rw [← q, g3]
  · intro q; exact hT.2.2.2.2.2.2 _ _ g1 hnd g2 hlv (by rw [g3, q])
/-- one step of the way down -/
theorem z_step_y {ch cn : Nat → Nat} {ak : Nat → Nat} {nd d k : Nat} (hT : z_T ch nu be cn 0) (hak : ∀ j, ak j < 8) (hnd : nd < 100) (hlv : z_lv be 0 nd) (hnu : nu nd = z_P ak d) (e : d = k) (hc : ¬ ch (8 * nd + ak k) = 0) : ch (8 * nd + ak k) < 100 ∧ z_lv be 0 (ch (8 * nd + ak k)) ∧ nu (ch (8 * nd + ak k)) = z_P ak (d + 1) := by
  obtain ⟨g1, g2⟩ := hT.2.2.1 nd hnd hlv (ak k) (hak k) hc
  refine ⟨hT.2.1 _, Or.inr (Or.inr g1), ?_⟩
  rw [g2, hnu, e]; rfl
theorem z_step_n {ch cn : Nat → Nat} {ak : Nat → Nat} {nd d k : Nat} (hT : z_T ch nu be cn 0) (hak : ∀ j, ak j < 8) (hnd : nd < 100) (hlv : z_lv be 0 nd) (hnu : nu nd = z_P ak d) (e : d = k) (hc : ch (8 * nd + ak k) = 0) : cn (z_P ak (d + 1)) = 0 := by
  rcases Nat.eq_zero_or_pos (cn (z_P ak (d + 1))) with q | q
  · exact q
  · refine absurd hc (hT.2.2.2.2.2.1 nd hnd hlv (ak k) (hak k) ?_)
    rw [hnu, ← e]; exact q
theorem z_live_thr {ch : Nat → Nat} {nd : Nat} (hT : z_T ch nu be (fun p => z_pc nm p he) 0) (hnd : nd < 100) (hlv : z_lv be 0 nd) : z_thr nm he (nu nd) := by
  have h4 := hT.2.2.2.2.1 nd hnd hlv
  rcases hlv with q | q | q
  · left; rw [q]; exact hT.1
  · left; rw [q]; exact hT.1
  · right; rw [h4] at q; exact q
end ZRND
end
section
/-! PLAIN LAWS: the invariant that ties ZoneLookup's cells to the names, and that add and remove keep it -/
set_option maxRecDepth 100000
/-- how many labels a name has -/
def z_dp (k : Nat) : Nat := if k = 0 then 0 else if k < 9 then 1 else if k < 81 then 2 else if k < 729 then 3 else 4
theorem z_dp_le (k : Nat) : z_dp k ≤ 4 := by
  simp only [z_dp]; repeat' split
  all_goals omega
theorem z_dp_P {ky : Nat → Nat} (hky : ∀ j, ky j < 8) {kl : Nat} (hkl : kl ≤ 4) : z_dp (z_P ky kl) = kl := by
  have h := z_P_lt hky
  have e1 : z_P ky 1 = 9 * z_P ky 0 + ky 0 + 1 := rfl
  have e2 : z_P ky 2 = 9 * z_P ky 1 + ky 1 + 1 := rfl
  have e3 : z_P ky 3 = 9 * z_P ky 2 + ky 2 + 1 := rfl
  have e4 : z_P ky 4 = 9 * z_P ky 3 + ky 3 + 1 := rfl
  match kl, hkl with
  | 0, _ => rw [h.1]; rfl
  | 1, _ => simp only [z_dp]; rw [if_neg (by omega), if_pos (by omega)]
  | 2, _ => simp only [z_dp]; rw [if_neg (by omega), if_neg (by omega), if_pos (by omega)]
  | 3, _ => simp only [z_dp]; rw [if_neg (by omega), if_neg (by omega), if_neg (by omega), if_pos (by omega)]
  | 4, _ => simp only [z_dp]; rw [if_neg (by omega), if_neg (by omega), if_neg (by omega), if_neg (by omega)]
theorem z_dp_sum (f : Nat → Nat) (n : Nat) : z_sum (fun e => z_dp (f e)) n ≤ 4 * n := by
  induction n with
  | zero => exact Nat.le_refl _
  | succ n ih =>
    have := z_dp_le (f n)
    simp only [z_sum]; omega
def z_I (kl : Nat) (ky ch nu be : Nat → Nat) (he : Nat) (en : Nat → Nat) (es ev : Nat → Int32) (nm : Nat → Nat) : Prop :=
  kl ≤ 4 ∧ (∀ j, ky j < 8) ∧ he ≤ 24 ∧ (∀ j, nm j < 6561) ∧ z_T ch nu be (fun p => z_pc nm p he) 0 ∧ z_sb be = z_sum (fun e => z_dp (nm e)) he ∧
  (∀ e, e < he → en e < 100 ∧ z_lv be 0 (en e) ∧ nu (en e) = nm e) ∧ (∀ e, e < he → es e = nI 3 → z_isn (ev e)) ∧ (∀ p s, z_so s → z_cnt (zn_F nm) es (nI p) s he ≤ z_room s)
theorem z_I_0 : z_I 0 (fun _ => 0) (fun _ => 0) (fun _ => 0) (fun _ => 0) 0 (fun _ => 0) (fun _ => 0) (fun _ => 0) (fun _ => 0) := by
  refine ⟨by omega, fun _ => Nat.zero_lt_succ 7, by omega, fun _ => Nat.zero_lt_succ 6560, ⟨rfl, fun _ => Nat.zero_lt_succ 99, fun m hm hv c hc h => absurd rfl h, fun _ _ _ _ _ => rfl, fun _ _ _ => rfl, fun m hm hv c hc h => absurd h (Nat.lt_irrefl 0), ?_⟩, by decide, fun e h => absurd h (by omega), fun e h => absurd h (by omega), fun p s _ => Nat.zero_le _⟩
  intro m m' _ _ h1 h2 _
  have h3 : m = 0 := by rcases h1 with q | q | q; exact q; exact q; exact absurd q (Nat.lt_irrefl 0)
  have h4 : m' = 0 := by rcases h2 with q | q | q; exact q; exact q; exact absurd q (Nat.lt_irrefl 0)
  rw [h3, h4]
section ZI
variable {kl : Nat} {ky ch nu be : Nat → Nat} {he : Nat} {en : Nat → Nat} {es ev : Nat → Int32} {nm : Nat → Nat}
/-- another key -/
theorem z_I_key (h : z_I kl ky ch nu be he en es ev nm) {kl' : Nat} {ky' : Nat → Nat} (h1 : kl' ≤ 4) (h2 : ∀ j, ky' j < 8) : z_I kl' ky' ch nu be he en es ev nm := ⟨h1, h2, h.2.2⟩
theorem z_fn_some (h : z_I kl ky ch nu be he en es ev nm) {k nd : Nat} (hf : z_fn ky ch k = some nd) : nd < 100 ∧ z_lv be 0 nd ∧ nu nd = z_P ky k := by
  obtain ⟨h1, h2, h3, h4, hT, -⟩ := h
  induction k generalizing nd with
  | zero =>
    have : 0 = nd := Option.some.inj hf
    subst this
    exact ⟨by decide, Or.inl rfl, hT.1⟩
  | succ k ih =>
    cases hq : z_fn ky ch k with
    | none => simp only [z_fn, hq] at hf; exact absurd hf (by simp)
    | some m =>
      obtain ⟨g1, g2, g3⟩ := ih hq
      by_cases hc : ch (8 * m + ky k) = 0
      · rw [z_fn_n hq hc] at hf; exact absurd hf (by simp)
      · rw [z_fn_s hq hc] at hf
        have := Option.some.inj hf
        subst this
        exact z_step_y hT h2 g1 g2 g3 rfl hc
theorem z_fn_none (h : z_I kl ky ch nu be he en es ev nm) {k : Nat} (hf : z_fn ky ch k = none) : 1 ≤ k ∧ z_pc nm (z_P ky k) he = 0 := by
  have h' := h
  obtain ⟨h1, h2, h3, h4, hT, -⟩ := h
  induction k with
  | zero => exact absurd hf (by simp [z_fn])
  | succ k ih =>
    refine ⟨by omega, ?_⟩
    cases hq : z_fn ky ch k with
    | none => exact z_pc_down h4 h2 (ih hq).2 (by omega)
    | some m =>
      obtain ⟨g1, g2, g3⟩ := z_fn_some h' hq
      by_cases hc : ch (8 * m + ky k) = 0
      · exact z_step_n hT h2 g1 g2 g3 rfl hc
      · rw [z_fn_s hq hc] at hf; exact absurd hf (by simp)
theorem z_I_rel (h : z_I kl ky ch nu be he en es ev nm) {nd : Nat} (h1 : nd < 100) (h2 : z_lv be 0 nd) (h3 : nu nd < 6561) : ∀ e, e < he → (zn_F en e = nI nd ↔ zn_F nm e = nI (nu nd)) := by
  obtain ⟨-, -, -, g4, g5, -, g7, -⟩ := h
  exact z_rel g5 g4 g7 h1 h2 h3
theorem z_at_no {K : Nat} {s v : Int32} (hnm : ∀ j, nm j < 6561) (hK : K < 6561) (h : z_pc nm K he = 0) : z_at (zn_F nm) es ev (nI K) s v he = none := by
  refine z_at_none (fun e he' q => ?_)
  have e1 : nm e = K := (nI_eq (by have := hnm e; omega) (by omega)).mp q.1
  have := z_pc_y (nm := nm) (p := K) he' (by rw [e1]; exact z_cov_self K)
  omega
theorem z_pc_add {K : Nat} (p : Nat) : z_pc (zn_u nm he K) p (he + 1) = z_pc nm p he + if z_cov p K then 1 else 0 := by
  have e1 : z_sum (fun e => if z_cov p (zn_u nm he K e) then 1 else 0) he = z_sum (fun e => if z_cov p (nm e) then 1 else 0) he :=
    z_sum_congr (fun e h => by rw [zn_un (show e ≠ he by omega)])
  simp only [z_pc, z_sum]
  rw [e1, zn_us]
theorem z_I_add (h : z_I kl ky ch nu be he en es ev nm) {s v : Int32} (hok : z_aok nm es ev he (z_P ky kl) s v) {ch1 nu1 be1 : Nat → Nat} {nd : Nat} (hG : z_G ky ch1 nu1 be1 (fun p => z_pc nm p he) be nu kl nd) : z_I kl ky ch1 nu1 be1 (he + 1) (zn_u en he nd) (upd es he s) (upd ev he v) (zn_u nm he (z_P ky kl)) := by
  obtain ⟨h1, h2, h3, h4, hT, h6, h7, h8, h9⟩ := h
  obtain ⟨k1, k2, k3, k4, k5⟩ := hok
  obtain ⟨g1, g2, g3, g4, g5, g6⟩ := hG
  have hK := z_P_lt4 h2 h1
  refine ⟨h1, h2, by omega, ?_, ?_, ?_, ?_, ?_, ?_⟩
  · intro j
    by_cases hj : j = he
    · rw [hj, zn_us]; exact hK
    · rw [zn_un hj]; exact h4 j
  · have : (fun p => z_pc (zn_u nm he (z_P ky kl)) p (he + 1)) = (fun p => z_pc nm p he + if z_cov p (z_P ky kl) then 1 else 0) := funext (fun p => z_pc_add p)
    rw [this]; exact g4
  · have e1 : z_sum (fun e => z_dp (zn_u nm he (z_P ky kl) e)) he = z_sum (fun e => z_dp (nm e)) he :=
      z_sum_congr (fun e h => by rw [zn_un (show e ≠ he by omega)])
    simp only [z_sum]
    rw [e1, zn_us, z_dp_P h2 h1, ← h6]; exact g5
  · intro e he'
    by_cases hj : e = he
    · rw [hj, zn_us, zn_us]; exact ⟨g1, g2, g3⟩
    · rw [zn_un hj, zn_un hj]
      obtain ⟨q1, q2, q3⟩ := h7 e (by omega)
      obtain ⟨q4, q5⟩ := g6 _ q1 q2
      exact ⟨q1, q4, by rw [q5]; exact q3⟩
  · intro e he' hs
    by_cases hj : e = he
    · rw [hj, pk_us] at hs ⊢; exact k2 hs
    · rw [pk_un hj] at hs ⊢; exact h8 e (by omega) hs
  · intro p t ht
    have e1 : z_cnt (zn_F (zn_u nm he (z_P ky kl))) (upd es he s) (nI p) t he = z_cnt (zn_F nm) es (nI p) t he :=
      z_sum_congr (fun e h => by
        have a1 : zn_F (zn_u nm he (z_P ky kl)) e = zn_F nm e := by simp only [zn_F]; rw [zn_un (show e ≠ he by omega)]
        rw [a1, pk_un (show e ≠ he by omega)])
    by_cases hc : zn_F (zn_u nm he (z_P ky kl)) he = nI p ∧ upd es he s he = t
    · rw [z_cnt_y hc.1 hc.2, e1]
      have a1 : nI (z_P ky kl) = nI p := by have := hc.1; simp only [zn_F] at this; rw [zn_us] at this; exact this
      have a2 : s = t := by have := hc.2; rw [pk_us] at this; exact this
      rw [← a1, ← a2]; omega
    · rw [z_cnt_n hc, e1]; exact h9 p t ht
theorem z_pc_rem {j : Nat} (hj : j < he) (p : Nat) : z_pc nm p he = z_pc (zn_u nm j (nm (he - 1))) p (he - 1) + if z_cov p (nm j) then 1 else 0 := by
  have h1 := z_sum_swap (f := fun e => if z_cov p (nm e) then 1 else 0) (a := j) (n := he - 1) (by omega)
  rw [show he - 1 + 1 = he by omega] at h1
  simp only [z_pc]
  rw [h1]
  congr 1
  refine z_sum_congr (fun e _ => ?_)
  by_cases hc : e = j
  · rw [hc, zn_us, zn_us]
  · rw [zn_un hc, zn_un hc]
theorem z_T_cur {cn : Nat → Nat} {cur : Nat} (h : z_T ch nu be cn cur) (hcur : cur < 100) (hM : ∀ p c, c < 8 → cn (9 * p + c + 1) ≤ cn p) : z_T ch nu be cn 0 := by
  obtain ⟨h0, h1, h2, h3, h4, h5, h6⟩ := h
  have hlv : ∀ m, z_lv be 0 m → z_lv be cur m := by
    rintro m (q | q | q)
    · exact Or.inl q
    · exact Or.inl q
    · exact Or.inr (Or.inr q)
  refine ⟨h0, h1, fun m hm hv => h2 m hm (hlv m hv), ?_, fun m hm hv => h4 m hm (hlv m hv), fun m hm hv => h5 m hm (hlv m hv), fun m m' hm hm' hv hv' => h6 m m' hm hm' (hlv m hv) (hlv m' hv')⟩
  intro m hm hv c hc
  by_cases hv' : z_lv be cur m
  · have hb : be m = 0 := by
      rcases Nat.eq_zero_or_pos (be m) with q | q
      · exact q
      · exact absurd (Or.inr (Or.inr q)) hv
    rcases Nat.eq_zero_or_pos (ch (8 * m + c)) with q | q
    · exact q
    · obtain ⟨g1, g2⟩ := h2 m hm hv' c hc (by omega)
      have g3 := h4 _ (h1 (8 * m + c)) (Or.inr (Or.inr g1))
      have g4 := h4 m hm hv'
      have g5 := hM (nu m) c hc
      rw [g2] at g3
      omega
  · exact h3 m hm hv' c hc
theorem z_I_rem (h : z_I kl ky ch nu be he en es ev nm) {s v : Int32} {j : Nat} (hj : z_at (zn_F nm) es ev (nI (z_P ky kl)) s v he = some j) : j < he ∧ nm j = z_P ky kl ∧ (∀ q, z_pc nm q he = z_pc (zn_u nm j (nm (he - 1))) q (he - 1) + if z_cov q (z_P ky kl) then 1 else 0) ∧ (∀ j', zn_u nm j (nm (he - 1)) j' < 6561) ∧
    ∀ {ch1 be1 : Nat → Nat} {nd : Nat}, z_H ky kl ch1 nu be1 (fun q => z_pc (zn_u nm j (nm (he - 1))) q (he - 1)) be kl nd → z_I kl ky ch1 nu be1 (he - 1) (zn_u en j (en (he - 1))) (upd es j (es (he - 1))) (upd ev j (ev (he - 1))) (zn_u nm j (nm (he - 1))) := by
  obtain ⟨h1, h2, h3, h4, hT, h6, h7, h8, h9⟩ := h
  obtain ⟨j1, j2, j3, j4⟩ := z_at_spec hj
  have hK := z_P_lt4 h2 h1
  have hjK : nm j = z_P ky kl := (nI_eq (by have := h4 j; omega) (by omega)).mp j2
  have hnm' : ∀ j', zn_u nm j (nm (he - 1)) j' < 6561 := by
    intro j'
    by_cases hq : j' = j
    · rw [hq, zn_us]; exact h4 _
    · rw [zn_un hq]; exact h4 _
  have hpc : ∀ q, z_pc nm q he = z_pc (zn_u nm j (nm (he - 1))) q (he - 1) + if z_cov q (z_P ky kl) then 1 else 0 := fun q => by rw [← hjK]; exact z_pc_rem j1 q
  refine ⟨j1, hjK, hpc, hnm', ?_⟩
  intro ch1 be1 nd hH
  obtain ⟨g1, g2, g3, g4, g5, g6⟩ := hH
  have hfun : (fun q => (fun q => z_pc (zn_u nm j (nm (he - 1))) q (he - 1)) q + if z_cov q (z_P ky kl) ∧ ¬ z_cov q (z_P ky kl) then 1 else 0) = (fun q => z_pc (zn_u nm j (nm (he - 1))) q (he - 1)) := by
    funext q
    rw [if_neg (fun r => r.2 r.1)]; rfl
  rw [hfun] at g4
  -- an entry that stays: which it was
  have hst : ∀ e, e < he - 1 → ∃ e0, e0 < he ∧ zn_u nm j (nm (he - 1)) e = nm e0 ∧ zn_u en j (en (he - 1)) e = en e0 ∧ upd es j (es (he - 1)) e = es e0 ∧ upd ev j (ev (he - 1)) e = ev e0 := by
    intro e he'
    by_cases hq : e = j
    · exact ⟨he - 1, by omega, by rw [hq, zn_us], by rw [hq, zn_us], by rw [hq, pk_us], by rw [hq, pk_us]⟩
    · exact ⟨e, by omega, zn_un hq, zn_un hq, pk_un hq, pk_un hq⟩
  refine ⟨h1, h2, by omega, hnm', z_T_cur g4 g1 (z_pc_M hnm' (he - 1)), ?_, ?_, ?_, ?_⟩
  · have e1 := z_sum_swap (f := fun e => z_dp (nm e)) (a := j) (n := he - 1) (by omega)
    rw [show he - 1 + 1 = he by omega, ← h6, hjK, z_dp_P h2 h1] at e1
    have e2 : z_sum (fun e => z_dp (zn_u nm j (nm (he - 1)) e)) (he - 1) = z_sum (zn_u (fun e => z_dp (nm e)) j (z_dp (nm (he - 1)))) (he - 1) := z_sum_congr (fun e _ => by
      simp only [zn_u]
      by_cases hc : e = j
      · rw [if_pos hc, if_pos hc]
      · rw [if_neg hc, if_neg hc])
    rw [e2]; omega
  · intro e he'
    obtain ⟨e0, a1, a2, a3, -, -⟩ := hst e he'
    rw [a3]
    obtain ⟨q1, q2, q3⟩ := h7 e0 a1
    refine ⟨q1, ?_, by rw [a2]; exact q3⟩
    have b1 := g5 _ q1 q2
    rw [if_neg (fun r => r.2 r.1)] at b1
    right; right
    rw [b1, q3, ← a2]
    exact z_pc_y he' (z_cov_self _)
  · intro e he' hs
    obtain ⟨e0, a1, -, -, a4, a5⟩ := hst e he'
    rw [a4] at hs; rw [a5]
    exact h8 e0 a1 hs
  · intro p t ht
    refine Nat.le_trans ?_ (h9 p t ht)
    have e1 := z_sum_swap (f := fun e => if zn_F nm e = nI p ∧ es e = t then 1 else 0) (a := j) (n := he - 1) (by omega)
    rw [show he - 1 + 1 = he by omega] at e1
    have e2 : z_cnt (zn_F (zn_u nm j (nm (he - 1)))) (upd es j (es (he - 1))) (nI p) t (he - 1) = z_sum (zn_u (fun e => if zn_F nm e = nI p ∧ es e = t then 1 else 0) j (if zn_F nm (he - 1) = nI p ∧ es (he - 1) = t then 1 else 0)) (he - 1) := z_sum_congr (fun e _ => by
      by_cases hc : e = j
      · have a1 : zn_F (zn_u nm j (nm (he - 1))) j = zn_F nm (he - 1) := by simp only [zn_F]; rw [zn_us]
        rw [hc, zn_us, a1, pk_us]
      · have a1 : zn_F (zn_u nm j (nm (he - 1))) e = zn_F nm e := by simp only [zn_F]; rw [zn_un hc]
        rw [zn_un hc, a1, pk_un hc])
    rw [e2]
    simp only [z_cnt]
    rw [e1]; omega
end ZI
/-- the place that a lookup gives is a name's number -/
theorem z_rnd_pl {kl : Nat} {ky ch nu be : Nat → Nat} {he : Nat} {en : Nat → Nat} {es ev : Nat → Int32} {nm : Nat → Nat} {s : Int32} {q : Nat} (hq : q < 6561) (hals : ∀ e, e < he → es e = nI 3 → z_isn (ev e)) : (z_rnd nm es ev he s q).2 < 6561 := by
  have hd : ∀ r, r < 6561 → (z_dec nm es ev he s r).2 < 6561 := by
    intro r hr
    obtain ⟨t, h1, h2⟩ := z_val_isn (k := zn_F nm) (a := nI r) hals (nI 0)
    simp only [z_dec]; split
    · show (z_val (zn_F nm) es ev (nI r) (nI 3) (nI 0) he).toNatClampNeg < 6561
      have := h2.1
      rw [h1, nI_clamp (by omega)]; omega
    · split <;> exact hr
  simp only [z_rnd]; split
  · exact Nat.lt_of_le_of_lt z_hd_lt hq
  · split
    · exact hq
    · next r hr =>
      refine hd r ?_
      simp only [z_ans] at hr
      split at hr
      · have := Option.some.inj hr; omega
      · split at hr
        · have := Option.some.inj hr
          have h9 := z_clo_le (nm := nm) (he := he) (f := 4) (a := q / 9)
          omega
        · exact absurd hr (by simp)
theorem z_lk_plq {he : Nat} {es ev : Nat → Int32} {nm : Nat → Nat} {s : Int32} (hals : ∀ e, e < he → es e = nI 3 → z_isn (ev e)) : ∀ (f q r : Nat), q < 6561 → (z_lk nm es ev he s f q r).2.1 < 6561 := by
  intro f
  induction f with
  | zero => intro q r hq; exact hq
  | succ f ih =>
    intro q r hq
    have h1 := z_rnd_pl (nm := nm) (s := s) (kl := 0) (ky := nm) (ch := nm) (nu := nm) (be := nm) (en := nm) hq hals
    simp only [z_lk]; split
    · split
      · exact hq
      · exact ih _ _ h1
    · exact h1
theorem z_lk_pl {kl : Nat} {ky ch nu be : Nat → Nat} {he : Nat} {en : Nat → Nat} {es ev : Nat → Int32} {nm : Nat → Nat} {s : Int32} (h : z_I kl ky ch nu be he en es ev nm) (hals : ∀ e, e < he → es e = nI 3 → z_isn (ev e)) : (z_lk nm es ev he s 5 (z_P ky kl) 1).2.1 < 6561 :=
  z_lk_plq hals 5 _ 1 (z_P_lt4 h.2.1 h.1)
end
section
/-! ZoneLookup: its small methods and those over its entries -/
set_option maxRecDepth 100000
set_option maxHeartbeats 4000000 in
/-- count(node, sort) -/
theorem zc_count (l : Launch) (D : va_G) (cA : ClassId) (sz : Nat) (h : Nat → Nat) (kl : Int32) (ky ch nu be : Nat → Int32) (he : Nat) (en es ev : Nat → Int32) (an ap ao ar al : Int32) (ak : Nat → Int32) (nd so : Int32) (hhe : he ≤ 24) : z_Mi (S := Unit) l yX0_count cX0_count 5 .int ({ frames := 0, cells := 0, slots := 0, locals := 0 } : Room) D cA sz [.ref (h 0), .int nd, .int so] (z_w0 cA h (kl) ky ch nu be (nI he) en es ev (an) (ap) (ao) (ar) (al) ak) (fun r _ => r = nI (z_cnt en es nd so he)) (fun _ => z_w0 cA h (kl) ky ch nu be (nI he) en es ev (an) (ap) (ao) (ar) (al) ak) := by
  refine z_ofi (by decide) (Nat.le_of_ble_eq_true rfl) ?_
  intro p e s m below meth c A Q hx hb hml hown hts hA hret hK hP hD hS ls hl
  have hown : s.vm.findClass RX0 = some m.cls := hown
  have hl : lv_has ls 5 [(0, .ref (h 0)), (1, .int nd), (2, .int so)] := hl
  refine lv_iconst (v := nI 0) hx hb dX0_count_0 (by decide) ?_
  refine lv_istore_n (lv' := [(3, .int (nI 0)), (0, .ref (h 0)), (1, .int nd), (2, .int so)]) hx hb dX0_count_1 rfl hl (by decide) rfl (fun ls hl => ?_)
  refine lv_iconst (v := nI 0) hx hb dX0_count_2 (by decide) ?_
  refine lv_istore (lv' := [(4, .int (nI 0)), (3, .int (nI 0)), (0, .ref (h 0)), (1, .int nd), (2, .int so)]) hx hb dX0_count_3 hl (by decide) rfl (fun ls hl => ?_)
  have LA : ∀ (n : Nat) (i : Nat) (x : Nat), (i ≤ he) → (he < i + n) → (x = z_cnt en es nd so i) → ∀ (H : Heap) (locs : List Loc), va_P D z_cl (z_w0 cA h (kl) ky ch nu be (nI he) en es ev (an) (ap) (ao) (ar) (al) ak) H → va_D A (z_w0 cA h (kl) ky ch nu be (nI he) en es ev (an) (ap) (ao) (ar) (al) ak) → va_S A s.heap H locs → ∀ ls : Array Slot, lv_has ls 5 [(0, .ref (h 0)), (1, .int nd), (2, .int so), (3, .int (nI x)), (4, .int (nI i))] → W p l e ({ frames := 0, cells := 0, slots := 0, locals := 0 } : Room) s m ([.ref (h 0), .int nd, .int so] : List Value).toArray below meth c H locs 0 0 Q (F0 m 5 ls []) := by
    intro n
    induction n with
    | zero =>
      intro i x hi hn ex
      exact absurd hn (by omega)
    | succ n ih_LA =>
      intro i x hi hn ex H locs hP hD hS ls hl
      refine lv_iload hx hb dX0_count_5 (lv_at hl 4 rfl) ?_
      refine lv_aload_n hx hb dX0_count_7 rfl (lv_at hl 0 rfl) ?_
      refine va_get (D := D) (ci := 0) (v := .int (nI he)) (C := RX0) (T := TX0) (N := 15) hx hb hts in_X0 hown hK hP 0 rfl rfl 5 (by decide) (hts _ q36) (fun _ h9 => h9) rfl dX0_count_8 ?_
      refine zn_icmp_ge (tgt := 50) hx hb (a := i) (b := he) (by omega) (by omega) dX0_count_11 (by decide) (fun c_11 => ?_) (fun c_11 => ?_)
      · refine lv_iload_n hx hb dX0_count_50 rfl (lv_at hl 3 rfl) ?_
        exact hret (nI x) () _ _ _ _ dX0_count_51 rfl (by rw [ex, show i = he by omega]) hP hD hS
      · refine lv_iload_n hx hb dX0_count_14 rfl (lv_at hl 3 rfl) ?_
        refine lv_aload_n hx hb dX0_count_15 rfl (lv_at hl 0 rfl) ?_
        refine va_get (D := D) (ci := 0) (v := .ref (h 5)) (C := RX0) (T := TX0) (N := 15) hx hb hts in_X0 hown hK hP 0 rfl rfl 6 (by decide) (hts _ q37) (fun _ h9 => h9) rfl dX0_count_16 ?_
        refine lv_iload hx hb dX0_count_19 (lv_at hl 4 rfl) ?_
        refine zn_ild hx hb hK hP 5 0 rfl rfl (i := i) (by omega) (by decide) dX0_count_21 ?_
        refine lv_iload_n hx hb dX0_count_22 rfl (lv_at hl 1 rfl) ?_
        refine lv_icmp_ne (tgt := 41) (x := en i) (y := nd) hx hb dX0_count_23 (by decide) (fun c_23 => ?_) (fun c_23 => ?_)
        · refine lv_iconst (v := nI 0) hx hb dX0_count_41 (by decide) ?_
          refine zn_iadd hx hb (a := x) (b := 0) dX0_count_42 ?_
          refine lv_istore_n (lv' := [(3, .int (nI (x + 0))), (0, .ref (h 0)), (1, .int nd), (2, .int so), (4, .int (nI i))]) hx hb dX0_count_43 rfl hl (by decide) rfl (fun ls hl => ?_)
          refine lv_iinc (v := nI (i + 1)) (lv' := [(4, .int (nI (i + 1))), (3, .int (nI (x + 0))), (0, .ref (h 0)), (1, .int nd), (2, .int so)]) hx hb dX0_count_44 hl (k := 4) rfl (nI_add i 1) (by decide) rfl (fun ls hl => ?_)
          refine lv_goto (tgt := 5) hx hb dX0_count_47 (by decide) ?_
          exact ih_LA (i + 1) (x + 0) (by omega) (by omega) (ex.trans (z_cnt_n (fun q => c_23 q.1)).symm) _ _ hP hD hS ls (lv_sub hl [2, 3, 4, 1, 0] rfl)
        · refine lv_aload_n hx hb dX0_count_26 rfl (lv_at hl 0 rfl) ?_
          refine va_get (D := D) (ci := 0) (v := .ref (h 6)) (C := RX0) (T := TX0) (N := 15) hx hb hts in_X0 hown hK hP 0 rfl rfl 7 (by decide) (hts _ q38) (fun _ h9 => h9) rfl dX0_count_27 ?_
          refine lv_iload hx hb dX0_count_30 (lv_at hl 4 rfl) ?_
          refine zn_ild hx hb hK hP 6 0 rfl rfl (i := i) (by omega) (by decide) dX0_count_32 ?_
          refine lv_iload_n hx hb dX0_count_33 rfl (lv_at hl 2 rfl) ?_
          refine lv_icmp_ne (tgt := 41) (x := es i) (y := so) hx hb dX0_count_34 (by decide) (fun c_34 => ?_) (fun c_34 => ?_)
          · refine lv_iconst (v := nI 0) hx hb dX0_count_41 (by decide) ?_
            refine zn_iadd hx hb (a := x) (b := 0) dX0_count_42 ?_
            refine lv_istore_n (lv' := [(3, .int (nI (x + 0))), (0, .ref (h 0)), (1, .int nd), (2, .int so), (4, .int (nI i))]) hx hb dX0_count_43 rfl hl (by decide) rfl (fun ls hl => ?_)
            refine lv_iinc (v := nI (i + 1)) (lv' := [(4, .int (nI (i + 1))), (3, .int (nI (x + 0))), (0, .ref (h 0)), (1, .int nd), (2, .int so)]) hx hb dX0_count_44 hl (k := 4) rfl (nI_add i 1) (by decide) rfl (fun ls hl => ?_)
            refine lv_goto (tgt := 5) hx hb dX0_count_47 (by decide) ?_
            exact ih_LA (i + 1) (x + 0) (by omega) (by omega) (ex.trans (z_cnt_n (fun q => c_34 q.2)).symm) _ _ hP hD hS ls (lv_sub hl [2, 3, 4, 1, 0] rfl)
          · refine lv_iconst (v := nI 1) hx hb dX0_count_37 (by decide) ?_
            refine lv_goto (tgt := 42) hx hb dX0_count_38 (by decide) ?_
            refine zn_iadd hx hb (a := x) (b := 1) dX0_count_42 ?_
            refine lv_istore_n (lv' := [(3, .int (nI (x + 1))), (0, .ref (h 0)), (1, .int nd), (2, .int so), (4, .int (nI i))]) hx hb dX0_count_43 rfl hl (by decide) rfl (fun ls hl => ?_)
            refine lv_iinc (v := nI (i + 1)) (lv' := [(4, .int (nI (i + 1))), (3, .int (nI (x + 1))), (0, .ref (h 0)), (1, .int nd), (2, .int so)]) hx hb dX0_count_44 hl (k := 4) rfl (nI_add i 1) (by decide) rfl (fun ls hl => ?_)
            refine lv_goto (tgt := 5) hx hb dX0_count_47 (by decide) ?_
            exact ih_LA (i + 1) (x + 1) (by omega) (by omega) (by rw [z_cnt_y c_23 c_34, ex]) _ _ hP hD hS ls (lv_sub hl [2, 3, 4, 1, 0] rfl)
  exact LA (he + 1) 0 0 (Nat.zero_le _) (by omega) rfl _ _ hP hD hS ls (lv_sub hl [2, 3, 4, 1, 0] rfl)
set_option maxHeartbeats 4000000 in
/-- entryAt(node, sort, value) -/
theorem zc_entryAt (l : Launch) (D : va_G) (cA : ClassId) (sz : Nat) (h : Nat → Nat) (kl : Int32) (ky ch nu be : Nat → Int32) (he : Nat) (en es ev : Nat → Int32) (an ap ao ar al : Int32) (ak : Nat → Int32) (nd so va : Int32) (hhe : he ≤ 24) : z_Mi (S := Unit) l yX0_entryAt cX0_entryAt 5 .int ({ frames := 0, cells := 0, slots := 0, locals := 0 } : Room) D cA sz [.ref (h 0), .int nd, .int so, .int va] (z_w0 cA h (kl) ky ch nu be (nI he) en es ev (an) (ap) (ao) (ar) (al) ak) (fun r _ => (∃ j, z_at en es ev nd so va he = some j ∧ r = nI j) ∨ (z_at en es ev nd so va he = none ∧ r = (-1))) (fun _ => z_w0 cA h (kl) ky ch nu be (nI he) en es ev (an) (ap) (ao) (ar) (al) ak) := by
  refine z_ofi (by decide) (Nat.le_of_ble_eq_true rfl) ?_
  intro p e s m below meth c A Q hx hb hml hown hts hA hret hK hP hD hS ls hl
  have hown : s.vm.findClass RX0 = some m.cls := hown
  have hl : lv_has ls 5 [(0, .ref (h 0)), (1, .int nd), (2, .int so), (3, .int va)] := hl
  refine lv_iconst (v := nI 0) hx hb dX0_entryAt_0 (by decide) ?_
  refine lv_istore (lv' := [(4, .int (nI 0)), (0, .ref (h 0)), (1, .int nd), (2, .int so), (3, .int va)]) hx hb dX0_entryAt_1 hl (by decide) rfl (fun ls hl => ?_)
  have LA : ∀ (n : Nat) (i : Nat), (i ≤ he) → (he < i + n) → (z_at en es ev nd so va i = none) → ∀ (H : Heap) (locs : List Loc), va_P D z_cl (z_w0 cA h (kl) ky ch nu be (nI he) en es ev (an) (ap) (ao) (ar) (al) ak) H → va_D A (z_w0 cA h (kl) ky ch nu be (nI he) en es ev (an) (ap) (ao) (ar) (al) ak) → va_S A s.heap H locs → ∀ ls : Array Slot, lv_has ls 5 [(0, .ref (h 0)), (1, .int nd), (2, .int so), (3, .int va), (4, .int (nI i))] → W p l e ({ frames := 0, cells := 0, slots := 0, locals := 0 } : Room) s m ([.ref (h 0), .int nd, .int so, .int va] : List Value).toArray below meth c H locs 0 0 Q (F0 m 3 ls []) := by
    intro n
    induction n with
    | zero =>
      intro i hi hn e0
      exact absurd hn (by omega)
    | succ n ih_LA =>
      intro i hi hn e0 H locs hP hD hS ls hl
      refine lv_iload hx hb dX0_entryAt_3 (lv_at hl 4 rfl) ?_
      refine lv_aload_n hx hb dX0_entryAt_5 rfl (lv_at hl 0 rfl) ?_
      refine va_get (D := D) (ci := 0) (v := .int (nI he)) (C := RX0) (T := TX0) (N := 15) hx hb hts in_X0 hown hK hP 0 rfl rfl 5 (by decide) (hts _ q36) (fun _ h9 => h9) rfl dX0_entryAt_6 ?_
      refine zn_icmp_ge (tgt := 54) hx hb (a := i) (b := he) (by omega) (by omega) dX0_entryAt_9 (by decide) (fun c_9 => ?_) (fun c_9 => ?_)
      · refine lv_iconst (v := (-1)) hx hb dX0_entryAt_54 (by decide) ?_
        exact hret ((-1)) () _ _ _ _ dX0_entryAt_55 rfl (Or.inr ⟨by rw [show he = i by omega]; exact e0, rfl⟩) hP hD hS
      · refine lv_aload_n hx hb dX0_entryAt_12 rfl (lv_at hl 0 rfl) ?_
        refine va_get (D := D) (ci := 0) (v := .ref (h 5)) (C := RX0) (T := TX0) (N := 15) hx hb hts in_X0 hown hK hP 0 rfl rfl 6 (by decide) (hts _ q37) (fun _ h9 => h9) rfl dX0_entryAt_13 ?_
        refine lv_iload hx hb dX0_entryAt_16 (lv_at hl 4 rfl) ?_
        refine zn_ild hx hb hK hP 5 0 rfl rfl (i := i) (by omega) (by decide) dX0_entryAt_18 ?_
        refine lv_iload_n hx hb dX0_entryAt_19 rfl (lv_at hl 1 rfl) ?_
        refine lv_icmp_ne (tgt := 48) (x := en i) (y := nd) hx hb dX0_entryAt_20 (by decide) (fun c_20 => ?_) (fun c_20 => ?_)
        · refine lv_iinc (v := nI (i + 1)) (lv' := [(4, .int (nI (i + 1))), (0, .ref (h 0)), (1, .int nd), (2, .int so), (3, .int va)]) hx hb dX0_entryAt_48 hl (k := 4) rfl (nI_add i 1) (by decide) rfl (fun ls hl => ?_)
          refine lv_goto (tgt := 3) hx hb dX0_entryAt_51 (by decide) ?_
          exact ih_LA (i + 1) (by omega) (by omega) (z_at_n e0 (fun q => c_20 q.1)) _ _ hP hD hS ls (lv_sub hl [1, 2, 3, 4, 0] rfl)
        · refine lv_aload_n hx hb dX0_entryAt_23 rfl (lv_at hl 0 rfl) ?_
          refine va_get (D := D) (ci := 0) (v := .ref (h 6)) (C := RX0) (T := TX0) (N := 15) hx hb hts in_X0 hown hK hP 0 rfl rfl 7 (by decide) (hts _ q38) (fun _ h9 => h9) rfl dX0_entryAt_24 ?_
          refine lv_iload hx hb dX0_entryAt_27 (lv_at hl 4 rfl) ?_
          refine zn_ild hx hb hK hP 6 0 rfl rfl (i := i) (by omega) (by decide) dX0_entryAt_29 ?_
          refine lv_iload_n hx hb dX0_entryAt_30 rfl (lv_at hl 2 rfl) ?_
          refine lv_icmp_ne (tgt := 48) (x := es i) (y := so) hx hb dX0_entryAt_31 (by decide) (fun c_31 => ?_) (fun c_31 => ?_)
          · refine lv_iinc (v := nI (i + 1)) (lv' := [(4, .int (nI (i + 1))), (0, .ref (h 0)), (1, .int nd), (2, .int so), (3, .int va)]) hx hb dX0_entryAt_48 hl (k := 4) rfl (nI_add i 1) (by decide) rfl (fun ls hl => ?_)
            refine lv_goto (tgt := 3) hx hb dX0_entryAt_51 (by decide) ?_
            exact ih_LA (i + 1) (by omega) (by omega) (z_at_n e0 (fun q => c_31 q.2.1)) _ _ hP hD hS ls (lv_sub hl [1, 2, 3, 4, 0] rfl)
          · refine lv_aload_n hx hb dX0_entryAt_34 rfl (lv_at hl 0 rfl) ?_
            refine va_get (D := D) (ci := 0) (v := .ref (h 7)) (C := RX0) (T := TX0) (N := 15) hx hb hts in_X0 hown hK hP 0 rfl rfl 8 (by decide) (hts _ q39) (fun _ h9 => h9) rfl dX0_entryAt_35 ?_
            refine lv_iload hx hb dX0_entryAt_38 (lv_at hl 4 rfl) ?_
            refine zn_ild hx hb hK hP 7 0 rfl rfl (i := i) (by omega) (by decide) dX0_entryAt_40 ?_
            refine lv_iload_n hx hb dX0_entryAt_41 rfl (lv_at hl 3 rfl) ?_
            refine lv_icmp_ne (tgt := 48) (x := ev i) (y := va) hx hb dX0_entryAt_42 (by decide) (fun c_42 => ?_) (fun c_42 => ?_)
            · refine lv_iinc (v := nI (i + 1)) (lv' := [(4, .int (nI (i + 1))), (0, .ref (h 0)), (1, .int nd), (2, .int so), (3, .int va)]) hx hb dX0_entryAt_48 hl (k := 4) rfl (nI_add i 1) (by decide) rfl (fun ls hl => ?_)
              refine lv_goto (tgt := 3) hx hb dX0_entryAt_51 (by decide) ?_
              exact ih_LA (i + 1) (by omega) (by omega) (z_at_n e0 (fun q => c_42 q.2.2)) _ _ hP hD hS ls (lv_sub hl [1, 2, 3, 4, 0] rfl)
            · refine lv_iload hx hb dX0_entryAt_45 (lv_at hl 4 rfl) ?_
              exact hret (nI i) () _ _ _ _ dX0_entryAt_47 rfl (Or.inl ⟨i, z_at_y e0 c_20 c_31 c_42 c_9, rfl⟩) hP hD hS
  exact LA (he + 1) 0 (Nat.zero_le _) (by omega) rfl _ _ hP hD hS ls (lv_sub hl [1, 2, 3, 4, 0] rfl)
set_option maxHeartbeats 4000000 in
/-- ranked(node, sort, index) -/
theorem zc_ranked (l : Launch) (D : va_G) (cA : ClassId) (sz : Nat) (h : Nat → Nat) (kl : Int32) (ky ch nu be : Nat → Int32) (he : Nat) (en es ev : Nat → Int32) (an ap ao ar al : Int32) (ak : Nat → Int32) (nd so ix : Int32) (hhe : he ≤ 24) : z_Mi (S := Unit) l yX0_ranked cX0_ranked 8 .int ({ frames := 0, cells := 0, slots := 0, locals := 0 } : Room) D cA sz [.ref (h 0), .int nd, .int so, .int ix] (z_w0 cA h (kl) ky ch nu be (nI he) en es ev (an) (ap) (ao) (ar) (al) ak) (fun r _ => r = z_val en es ev nd so ix he) (fun _ => z_w0 cA h (kl) ky ch nu be (nI he) en es ev (an) (ap) (ao) (ar) (al) ak) := by
  refine z_ofi (by decide) (Nat.le_of_ble_eq_true rfl) ?_
  intro p e s m below meth c A Q hx hb hml hown hts hA hret hK hP hD hS ls hl
  have hown : s.vm.findClass RX0 = some m.cls := hown
  have hl : lv_has ls 8 [(0, .ref (h 0)), (1, .int nd), (2, .int so), (3, .int ix)] := hl
  refine lv_iconst (v := nI 0) hx hb dX0_ranked_0 (by decide) ?_
  refine lv_istore (lv' := [(4, .int (nI 0)), (0, .ref (h 0)), (1, .int nd), (2, .int so), (3, .int ix)]) hx hb dX0_ranked_1 hl (by decide) rfl (fun ls hl => ?_)
  have LA : ∀ (n : Nat) (i : Nat), (i ≤ he) → (he < i + n) → (z_rank en es ev nd so ix he i = none) → ∀ (H : Heap) (locs : List Loc), va_P D z_cl (z_w0 cA h (kl) ky ch nu be (nI he) en es ev (an) (ap) (ao) (ar) (al) ak) H → va_D A (z_w0 cA h (kl) ky ch nu be (nI he) en es ev (an) (ap) (ao) (ar) (al) ak) → va_S A s.heap H locs → ∀ ls : Array Slot, lv_has ls 8 [(0, .ref (h 0)), (1, .int nd), (2, .int so), (3, .int ix), (4, .int (nI i))] → W p l e ({ frames := 0, cells := 0, slots := 0, locals := 0 } : Room) s m ([.ref (h 0), .int nd, .int so, .int ix] : List Value).toArray below meth c H locs 0 0 Q (F0 m 3 ls []) := by
    intro n
    induction n with
    | zero =>
      intro i hi hn e0
      exact absurd hn (by omega)
    | succ n ih_LA =>
      intro i hi hn e0 H locs hP hD hS ls hl
      refine lv_iload hx hb dX0_ranked_3 (lv_at hl 4 rfl) ?_
      refine lv_aload_n hx hb dX0_ranked_5 rfl (lv_at hl 0 rfl) ?_
      refine va_get (D := D) (ci := 0) (v := .int (nI he)) (C := RX0) (T := TX0) (N := 15) hx hb hts in_X0 hown hK hP 0 rfl rfl 5 (by decide) (hts _ q36) (fun _ h9 => h9) rfl dX0_ranked_6 ?_
      refine zn_icmp_ge (tgt := 136) hx hb (a := i) (b := he) (by omega) (by omega) dX0_ranked_9 (by decide) (fun c_9 => ?_) (fun c_9 => ?_)
      · refine lv_iconst (v := nI 0) hx hb dX0_ranked_136 (by decide) ?_
        exact hret (nI 0) () _ _ _ _ dX0_ranked_137 rfl (by rw [show i = he by omega] at e0; exact z_rank_0 e0) hP hD hS
      · refine lv_aload_n hx hb dX0_ranked_12 rfl (lv_at hl 0 rfl) ?_
        refine va_get (D := D) (ci := 0) (v := .ref (h 5)) (C := RX0) (T := TX0) (N := 15) hx hb hts in_X0 hown hK hP 0 rfl rfl 6 (by decide) (hts _ q37) (fun _ h9 => h9) rfl dX0_ranked_13 ?_
        refine lv_iload hx hb dX0_ranked_16 (lv_at hl 4 rfl) ?_
        refine zn_ild hx hb hK hP 5 0 rfl rfl (i := i) (by omega) (by decide) dX0_ranked_18 ?_
        refine lv_iload_n hx hb dX0_ranked_19 rfl (lv_at hl 1 rfl) ?_
        refine lv_icmp_ne (tgt := 130) (x := en i) (y := nd) hx hb dX0_ranked_20 (by decide) (fun c_20 => ?_) (fun c_20 => ?_)
        · refine lv_iinc (v := nI (i + 1)) (lv' := [(4, .int (nI (i + 1))), (0, .ref (h 0)), (1, .int nd), (2, .int so), (3, .int ix)]) hx hb dX0_ranked_130 hl (k := 4) rfl (nI_add i 1) (by decide) rfl (fun ls hl => ?_)
          refine lv_goto (tgt := 3) hx hb dX0_ranked_133 (by decide) ?_
          exact ih_LA (i + 1) (by omega) (by omega) (z_rank_n e0 (fun q => c_20 q.1)) _ _ hP hD hS ls (lv_sub hl [1, 2, 3, 4, 0] rfl)
        · refine lv_aload_n hx hb dX0_ranked_23 rfl (lv_at hl 0 rfl) ?_
          refine va_get (D := D) (ci := 0) (v := .ref (h 6)) (C := RX0) (T := TX0) (N := 15) hx hb hts in_X0 hown hK hP 0 rfl rfl 7 (by decide) (hts _ q38) (fun _ h9 => h9) rfl dX0_ranked_24 ?_
          refine lv_iload hx hb dX0_ranked_27 (lv_at hl 4 rfl) ?_
          refine zn_ild hx hb hK hP 6 0 rfl rfl (i := i) (by omega) (by decide) dX0_ranked_29 ?_
          refine lv_iload_n hx hb dX0_ranked_30 rfl (lv_at hl 2 rfl) ?_
          refine lv_icmp_ne (tgt := 130) (x := es i) (y := so) hx hb dX0_ranked_31 (by decide) (fun c_31 => ?_) (fun c_31 => ?_)
          · refine lv_iinc (v := nI (i + 1)) (lv' := [(4, .int (nI (i + 1))), (0, .ref (h 0)), (1, .int nd), (2, .int so), (3, .int ix)]) hx hb dX0_ranked_130 hl (k := 4) rfl (nI_add i 1) (by decide) rfl (fun ls hl => ?_)
            refine lv_goto (tgt := 3) hx hb dX0_ranked_133 (by decide) ?_
            exact ih_LA (i + 1) (by omega) (by omega) (z_rank_n e0 (fun q => c_31 q.2.1)) _ _ hP hD hS ls (lv_sub hl [1, 2, 3, 4, 0] rfl)
          · refine lv_iconst (v := nI 0) hx hb dX0_ranked_34 (by decide) ?_
            refine lv_istore (lv' := [(5, .int (nI 0)), (0, .ref (h 0)), (1, .int nd), (2, .int so), (3, .int ix), (4, .int (nI i))]) hx hb dX0_ranked_35 hl (by decide) rfl (fun ls hl => ?_)
            refine lv_iconst (v := nI 0) hx hb dX0_ranked_37 (by decide) ?_
            refine lv_istore (lv' := [(6, .int (nI 0)), (5, .int (nI 0)), (0, .ref (h 0)), (1, .int nd), (2, .int so), (3, .int ix), (4, .int (nI i))]) hx hb dX0_ranked_38 hl (by decide) rfl (fun ls hl => ?_)
            have LB : ∀ (n : Nat) (f : Nat) (x : Nat), (f ≤ he) → (he < f + n) → (x = z_less en es ev nd so (ev i) f) → ∀ (H : Heap) (locs : List Loc), va_P D z_cl (z_w0 cA h (kl) ky ch nu be (nI he) en es ev (an) (ap) (ao) (ar) (al) ak) H → va_D A (z_w0 cA h (kl) ky ch nu be (nI he) en es ev (an) (ap) (ao) (ar) (al) ak) → va_S A s.heap H locs → ∀ ls : Array Slot, lv_has ls 8 [(0, .ref (h 0)), (1, .int nd), (2, .int so), (3, .int ix), (4, .int (nI i)), (5, .int (nI x)), (6, .int (nI f))] → W p l e ({ frames := 0, cells := 0, slots := 0, locals := 0 } : Room) s m ([.ref (h 0), .int nd, .int so, .int ix] : List Value).toArray below meth c H locs 0 0 Q (F0 m 40 ls []) := by
              intro n
              induction n with
              | zero =>
                intro f x hf hn ex
                exact absurd hn (by omega)
              | succ n ih_LB =>
                intro f x hf hn ex H locs hP hD hS ls hl
                refine lv_iload hx hb dX0_ranked_40 (lv_at hl 6 rfl) ?_
                refine lv_aload_n hx hb dX0_ranked_42 rfl (lv_at hl 0 rfl) ?_
                refine va_get (D := D) (ci := 0) (v := .int (nI he)) (C := RX0) (T := TX0) (N := 15) hx hb hts in_X0 hown hK hP 0 rfl rfl 5 (by decide) (hts _ q36) (fun _ h9 => h9) rfl dX0_ranked_43 ?_
                refine zn_icmp_ge (tgt := 116) hx hb (a := f) (b := he) (by omega) (by omega) dX0_ranked_46 (by decide) (fun c_46 => ?_) (fun c_46 => ?_)
                · have hfe : f = he := by omega
                  rw [hfe] at ex
                  refine lv_iload hx hb dX0_ranked_116 (lv_at hl 5 rfl) ?_
                  refine lv_iload_n hx hb dX0_ranked_118 rfl (lv_at hl 3 rfl) ?_
                  refine lv_icmp_ne (tgt := 130) (x := nI x) (y := ix) hx hb dX0_ranked_119 (by decide) (fun c_119 => ?_) (fun c_119 => ?_)
                  · refine lv_iinc (v := nI (i + 1)) (lv' := [(4, .int (nI (i + 1))), (0, .ref (h 0)), (1, .int nd), (2, .int so), (3, .int ix), (5, .int (nI x)), (6, .int (nI f))]) hx hb dX0_ranked_130 hl (k := 4) rfl (nI_add i 1) (by decide) rfl (fun ls hl => ?_)
                    refine lv_goto (tgt := 3) hx hb dX0_ranked_133 (by decide) ?_
                    exact ih_LA (i + 1) (by omega) (by omega) (z_rank_n e0 (fun q => c_119 (by rw [ex]; exact q.2.2))) _ _ hP hD hS ls (lv_sub hl [1, 2, 3, 4, 0] rfl)
                  · refine lv_aload_n hx hb dX0_ranked_122 rfl (lv_at hl 0 rfl) ?_
                    refine va_get (D := D) (ci := 0) (v := .ref (h 7)) (C := RX0) (T := TX0) (N := 15) hx hb hts in_X0 hown hK hP 0 rfl rfl 8 (by decide) (hts _ q39) (fun _ h9 => h9) rfl dX0_ranked_123 ?_
                    refine lv_iload hx hb dX0_ranked_126 (lv_at hl 4 rfl) ?_
                    refine zn_ild hx hb hK hP 7 0 rfl rfl (i := i) (by omega) (by decide) dX0_ranked_128 ?_
                    exact hret (ev i) () _ _ _ _ dX0_ranked_129 rfl (z_rank_y e0 c_20 c_31 (by rw [← ex]; exact c_119) c_9) hP hD hS
                · refine lv_aload_n hx hb dX0_ranked_49 rfl (lv_at hl 0 rfl) ?_
                  refine va_get (D := D) (ci := 0) (v := .ref (h 5)) (C := RX0) (T := TX0) (N := 15) hx hb hts in_X0 hown hK hP 0 rfl rfl 6 (by decide) (hts _ q37) (fun _ h9 => h9) rfl dX0_ranked_50 ?_
                  refine lv_iload hx hb dX0_ranked_53 (lv_at hl 6 rfl) ?_
                  refine zn_ild hx hb hK hP 5 0 rfl rfl (i := f) (by omega) (by decide) dX0_ranked_55 ?_
                  refine lv_iload_n hx hb dX0_ranked_56 rfl (lv_at hl 1 rfl) ?_
                  refine lv_icmp_ne (tgt := 75) (x := en f) (y := nd) hx hb dX0_ranked_57 (by decide) (fun c_57 => ?_) (fun c_57 => ?_)
                  · refine lv_iconst (v := nI 0) hx hb dX0_ranked_75 (by decide) ?_
                    refine lv_istore (lv' := [(7, .int (nI 0)), (0, .ref (h 0)), (1, .int nd), (2, .int so), (3, .int ix), (4, .int (nI i)), (5, .int (nI x)), (6, .int (nI f))]) hx hb dX0_ranked_76 hl (by decide) rfl (fun ls hl => ?_)
                    refine lv_iload hx hb dX0_ranked_78 (lv_at hl 6 rfl) ?_
                    refine lv_iload hx hb dX0_ranked_80 (lv_at hl 0 rfl) ?_
                    refine zn_if_eq (tgt := 106) hx hb (a := 0) (by decide) dX0_ranked_82 (by decide) (fun c_82 => ?_) (fun c_82 => absurd c_82 (by decide))
                    refine lv_iconst (v := nI 0) hx hb dX0_ranked_106 (by decide) ?_
                    refine zn_iadd hx hb (a := x) (b := 0) dX0_ranked_107 ?_
                    refine lv_istore (lv' := [(5, .int (nI (x + 0))), (7, .int (nI 0)), (0, .ref (h 0)), (1, .int nd), (2, .int so), (3, .int ix), (4, .int (nI i)), (6, .int (nI f))]) hx hb dX0_ranked_108 hl (by decide) rfl (fun ls hl => ?_)
                    refine lv_iinc (v := nI (f + 1)) (lv' := [(6, .int (nI (f + 1))), (5, .int (nI (x + 0))), (7, .int (nI 0)), (0, .ref (h 0)), (1, .int nd), (2, .int so), (3, .int ix), (4, .int (nI i))]) hx hb dX0_ranked_110 hl (k := 7) rfl (nI_add f 1) (by decide) rfl (fun ls hl => ?_)
                    refine lv_goto (tgt := 40) hx hb dX0_ranked_113 (by decide) ?_
                    exact ih_LB (f + 1) (x + 0) (by omega) (by omega) (ex.trans (z_less_n (fun q => c_57 q.1)).symm) _ _ hP hD hS ls (lv_sub hl [3, 4, 5, 6, 7, 1, 0] rfl)
                  · refine lv_aload_n hx hb dX0_ranked_60 rfl (lv_at hl 0 rfl) ?_
                    refine va_get (D := D) (ci := 0) (v := .ref (h 6)) (C := RX0) (T := TX0) (N := 15) hx hb hts in_X0 hown hK hP 0 rfl rfl 7 (by decide) (hts _ q38) (fun _ h9 => h9) rfl dX0_ranked_61 ?_
                    refine lv_iload hx hb dX0_ranked_64 (lv_at hl 6 rfl) ?_
                    refine zn_ild hx hb hK hP 6 0 rfl rfl (i := f) (by omega) (by decide) dX0_ranked_66 ?_
                    refine lv_iload_n hx hb dX0_ranked_67 rfl (lv_at hl 2 rfl) ?_
                    refine lv_icmp_ne (tgt := 75) (x := es f) (y := so) hx hb dX0_ranked_68 (by decide) (fun c_68 => ?_) (fun c_68 => ?_)
                    · refine lv_iconst (v := nI 0) hx hb dX0_ranked_75 (by decide) ?_
                      refine lv_istore (lv' := [(7, .int (nI 0)), (0, .ref (h 0)), (1, .int nd), (2, .int so), (3, .int ix), (4, .int (nI i)), (5, .int (nI x)), (6, .int (nI f))]) hx hb dX0_ranked_76 hl (by decide) rfl (fun ls hl => ?_)
                      refine lv_iload hx hb dX0_ranked_78 (lv_at hl 6 rfl) ?_
                      refine lv_iload hx hb dX0_ranked_80 (lv_at hl 0 rfl) ?_
                      refine zn_if_eq (tgt := 106) hx hb (a := 0) (by decide) dX0_ranked_82 (by decide) (fun c_82 => ?_) (fun c_82 => absurd c_82 (by decide))
                      refine lv_iconst (v := nI 0) hx hb dX0_ranked_106 (by decide) ?_
                      refine zn_iadd hx hb (a := x) (b := 0) dX0_ranked_107 ?_
                      refine lv_istore (lv' := [(5, .int (nI (x + 0))), (7, .int (nI 0)), (0, .ref (h 0)), (1, .int nd), (2, .int so), (3, .int ix), (4, .int (nI i)), (6, .int (nI f))]) hx hb dX0_ranked_108 hl (by decide) rfl (fun ls hl => ?_)
                      refine lv_iinc (v := nI (f + 1)) (lv' := [(6, .int (nI (f + 1))), (5, .int (nI (x + 0))), (7, .int (nI 0)), (0, .ref (h 0)), (1, .int nd), (2, .int so), (3, .int ix), (4, .int (nI i))]) hx hb dX0_ranked_110 hl (k := 7) rfl (nI_add f 1) (by decide) rfl (fun ls hl => ?_)
                      refine lv_goto (tgt := 40) hx hb dX0_ranked_113 (by decide) ?_
                      exact ih_LB (f + 1) (x + 0) (by omega) (by omega) (ex.trans (z_less_n (fun q => c_68 q.2.1)).symm) _ _ hP hD hS ls (lv_sub hl [3, 4, 5, 6, 7, 1, 0] rfl)
                    · refine lv_iconst (v := nI 1) hx hb dX0_ranked_71 (by decide) ?_
                      refine lv_goto (tgt := 76) hx hb dX0_ranked_72 (by decide) ?_
                      refine lv_istore (lv' := [(7, .int (nI 1)), (0, .ref (h 0)), (1, .int nd), (2, .int so), (3, .int ix), (4, .int (nI i)), (5, .int (nI x)), (6, .int (nI f))]) hx hb dX0_ranked_76 hl (by decide) rfl (fun ls hl => ?_)
                      refine lv_iload hx hb dX0_ranked_78 (lv_at hl 6 rfl) ?_
                      refine lv_iload hx hb dX0_ranked_80 (lv_at hl 0 rfl) ?_
                      refine zn_if_eq (tgt := 106) hx hb (a := 1) (by decide) dX0_ranked_82 (by decide) (fun c_82 => absurd c_82 (by decide)) (fun c_82 => ?_)
                      refine lv_aload_n hx hb dX0_ranked_85 rfl (lv_at hl 1 rfl) ?_
                      refine va_get (D := D) (ci := 0) (v := .ref (h 7)) (C := RX0) (T := TX0) (N := 15) hx hb hts in_X0 hown hK hP 0 rfl rfl 8 (by decide) (hts _ q39) (fun _ h9 => h9) rfl dX0_ranked_86 ?_
                      refine lv_iload hx hb dX0_ranked_89 (lv_at hl 7 rfl) ?_
                      refine zn_ild hx hb hK hP 7 0 rfl rfl (i := f) (by omega) (by decide) dX0_ranked_91 ?_
                      refine lv_aload_n hx hb dX0_ranked_92 rfl (lv_at hl 1 rfl) ?_
                      refine va_get (D := D) (ci := 0) (v := .ref (h 7)) (C := RX0) (T := TX0) (N := 15) hx hb hts in_X0 hown hK hP 0 rfl rfl 8 (by decide) (hts _ q39) (fun _ h9 => h9) rfl dX0_ranked_93 ?_
                      refine lv_iload hx hb dX0_ranked_96 (lv_at hl 5 rfl) ?_
                      refine zn_ild hx hb hK hP 7 0 rfl rfl (i := i) (by omega) (by decide) dX0_ranked_98 ?_
                      refine lv_icmp_ge (tgt := 106) (x := ev f) (y := ev i) hx hb dX0_ranked_99 (by decide) (fun c_99 => ?_) (fun c_99 => ?_)
                      · refine lv_iconst (v := nI 0) hx hb dX0_ranked_106 (by decide) ?_
                        refine zn_iadd hx hb (a := x) (b := 0) dX0_ranked_107 ?_
                        refine lv_istore (lv' := [(5, .int (nI (x + 0))), (7, .int (nI 1)), (0, .ref (h 0)), (1, .int nd), (2, .int so), (3, .int ix), (4, .int (nI i)), (6, .int (nI f))]) hx hb dX0_ranked_108 hl (by decide) rfl (fun ls hl => ?_)
                        refine lv_iinc (v := nI (f + 1)) (lv' := [(6, .int (nI (f + 1))), (5, .int (nI (x + 0))), (7, .int (nI 1)), (0, .ref (h 0)), (1, .int nd), (2, .int so), (3, .int ix), (4, .int (nI i))]) hx hb dX0_ranked_110 hl (k := 7) rfl (nI_add f 1) (by decide) rfl (fun ls hl => ?_)
                        refine lv_goto (tgt := 40) hx hb dX0_ranked_113 (by decide) ?_
                        exact ih_LB (f + 1) (x + 0) (by omega) (by omega) (ex.trans (z_less_n (fun q => Int32.not_lt.mpr c_99 q.2.2)).symm) _ _ hP hD hS ls (lv_sub hl [3, 4, 5, 6, 7, 1, 0] rfl)
                      · refine lv_iconst (v := nI 1) hx hb dX0_ranked_102 (by decide) ?_
                        refine lv_goto (tgt := 107) hx hb dX0_ranked_103 (by decide) ?_
                        refine zn_iadd hx hb (a := x) (b := 1) dX0_ranked_107 ?_
                        refine lv_istore (lv' := [(5, .int (nI (x + 1))), (7, .int (nI 1)), (0, .ref (h 0)), (1, .int nd), (2, .int so), (3, .int ix), (4, .int (nI i)), (6, .int (nI f))]) hx hb dX0_ranked_108 hl (by decide) rfl (fun ls hl => ?_)
                        refine lv_iinc (v := nI (f + 1)) (lv' := [(6, .int (nI (f + 1))), (5, .int (nI (x + 1))), (7, .int (nI 1)), (0, .ref (h 0)), (1, .int nd), (2, .int so), (3, .int ix), (4, .int (nI i))]) hx hb dX0_ranked_110 hl (k := 7) rfl (nI_add f 1) (by decide) rfl (fun ls hl => ?_)
                        refine lv_goto (tgt := 40) hx hb dX0_ranked_113 (by decide) ?_
                        exact ih_LB (f + 1) (x + 1) (by omega) (by omega) (by rw [z_less_y c_57 c_68 (Int32.not_le.mp c_99), ex]) _ _ hP hD hS ls (lv_sub hl [3, 4, 5, 6, 7, 1, 0] rfl)
            exact LB (he + 1) 0 0 (Nat.zero_le _) (by omega) rfl _ _ hP hD hS ls (lv_sub hl [2, 3, 4, 5, 6, 1, 0] rfl)
  exact LA (he + 1) 0 (Nat.zero_le _) (by omega) rfl _ _ hP hD hS ls (lv_sub hl [1, 2, 3, 4, 0] rfl)
set_option maxHeartbeats 4000000 in
/-- erase() -/
theorem zc_erase (l : Launch) (D : va_G) (cA : ClassId) (sz : Nat) (h : Nat → Nat) (kl : Int32) (ky ch nu be : Nat → Int32) (he : Nat) (en es ev : Nat → Int32) (an ap ao ar al : Int32) (ak : Nat → Int32) : z_Mv (S := Unit) l yX0_erase cX0_erase 1 ({ frames := 0, cells := 0, slots := 0, locals := 0 } : Room) D cA sz [.ref (h 0)] (z_w0 cA h (kl) ky ch nu be (nI he) en es ev (an) (ap) (ao) (ar) (al) ak) (fun _ => True) (fun _ => z_w0 cA h (nI 0) ky ch nu be (nI he) en es ev (an) (ap) (ao) (ar) (al) ak) := by
  refine z_ofv (by decide) (Nat.le_of_ble_eq_true rfl) ?_
  intro p e s m below meth c A Q hx hb hml hown hts hA hret hK hP hD hS ls hl
  have hown : s.vm.findClass RX0 = some m.cls := hown
  have hl : lv_has ls 1 [(0, .ref (h 0))] := hl
  refine lv_aload_n hx hb dX0_erase_0 rfl (lv_at hl 0 rfl) ?_
  refine lv_iconst (v := nI 0) hx hb dX0_erase_1 (by decide) ?_
  refine va_put (D := D) (ci := 0) (v := .int (nI 0)) (ty := .int) (C := RX0) (T := TX0) (N := 15) hx hb hts in_X0 tyX0 tyX0_ok nmX0 hown hK hP hD hS 0 rfl rfl 0 (by decide) (hts _ q31) (fun _ h9 => h9) rfl (by decide +kernel) rfl rfl (Nat.le_of_ble_eq_true rfl) dX0_erase_2 (fun H locs hP hD hS => ?_)
  have hP : va_P D z_cl (z_w0 cA h (nI 0) ky ch nu be (nI he) en es ev (an) (ap) (ao) (ar) (al) ak) H := hP
  have hD : va_D A (z_w0 cA h (nI 0) ky ch nu be (nI he) en es ev (an) (ap) (ao) (ar) (al) ak) := hD
  exact hret () _ _ _ _ dX0_erase_5 trivial hP hD hS
set_option maxHeartbeats 4000000 in
/-- label(label) -/
theorem zc_label (l : Launch) (D : va_G) (cA : ClassId) (sz : Nat) (h : Nat → Nat) (kl : Nat) (ky : Nat → Nat) (ch nu be : Nat → Int32) (he : Nat) (en es ev : Nat → Int32) (an ap ao ar al : Int32) (ak : Nat → Int32) (pa : Int32) (hkl : kl ≤ 4) : z_Mi (S := Nat × (Nat → Nat)) l yX0_label cX0_label 2 .int ({ frames := 0, cells := 0, slots := 0, locals := 0 } : Room) D cA sz [.ref (h 0), .int pa] (z_w0 cA h (nI kl) (zn_F ky) ch nu be (nI he) en es ev (an) (ap) (ao) (ar) (al) ak) (fun r (u : Nat × (Nat → Nat)) => (kl < 4 ∧ r = nI (kl + 1) ∧ u.1 = kl + 1 ∧ u.2 = zn_u ky kl (z_lo pa)) ∨ (¬ kl < 4 ∧ r = (-1) ∧ u.1 = kl ∧ u.2 = ky)) (fun u => z_w0 cA h (nI u.1) (zn_F u.2) ch nu be (nI he) en es ev (an) (ap) (ao) (ar) (al) ak) := by
  refine z_ofi (by decide) (Nat.le_of_ble_eq_true rfl) ?_
  intro p e s m below meth c A Q hx hb hml hown hts hA hret hK hP hD hS ls hl
  have hown : s.vm.findClass RX0 = some m.cls := hown
  have hl : lv_has ls 2 [(0, .ref (h 0)), (1, .int pa)] := hl
  refine lv_aload_n hx hb dX0_label_0 rfl (lv_at hl 0 rfl) ?_
  refine va_get (D := D) (ci := 0) (v := .int (nI kl)) (C := RX0) (T := TX0) (N := 15) hx hb hts in_X0 hown hK hP 0 rfl rfl 0 (by decide) (hts _ q31) (fun _ h9 => h9) rfl dX0_label_1 ?_
  refine lv_iconst (v := nI 4) hx hb dX0_label_4 (by decide) ?_
  refine zn_icmp_lt (tgt := 10) hx hb (a := kl) (b := 4) (by omega) (by decide) dX0_label_5 (by decide) (fun c_5 => ?_) (fun c_5 => ?_)
  · refine lv_aload_n hx hb dX0_label_10 rfl (lv_at hl 0 rfl) ?_
    refine va_get (D := D) (ci := 0) (v := .ref (h 1)) (C := RX0) (T := TX0) (N := 15) hx hb hts in_X0 hown hK hP 0 rfl rfl 1 (by decide) (hts _ q32) (fun _ h9 => h9) rfl dX0_label_11 ?_
    refine lv_aload_n hx hb dX0_label_14 rfl (lv_at hl 0 rfl) ?_
    refine va_get (D := D) (ci := 0) (v := .int (nI kl)) (C := RX0) (T := TX0) (N := 15) hx hb hts in_X0 hown hK hP 0 rfl rfl 0 (by decide) (hts _ q31) (fun _ h9 => h9) rfl dX0_label_15 ?_
    refine lv_iload_n hx hb dX0_label_18 rfl (lv_at hl 1 rfl) ?_
    refine lv_bipush (v := nI 7) hx hb dX0_label_19 (by decide) ?_
    refine zn_iand7 hx hb dX0_label_21 ?_
    refine zn_ast hx hb hK hP hD hS 1 0 rfl rfl (i := kl) (x := z_lo pa) (by omega) (by decide) dX0_label_22 (fun H locs hP hD hS => ?_)
    have hP : va_P D z_cl (z_w0 cA h (nI kl) (zn_F (zn_u ky kl (z_lo pa))) ch nu be (nI he) en es ev (an) (ap) (ao) (ar) (al) ak) H := hP
    have hD : va_D A (z_w0 cA h (nI kl) (zn_F (zn_u ky kl (z_lo pa))) ch nu be (nI he) en es ev (an) (ap) (ao) (ar) (al) ak) := hD
    refine lv_aload_n hx hb dX0_label_23 rfl (lv_at hl 0 rfl) ?_
    refine lv_dup hx hb dX0_label_24 rfl ?_
    refine va_get (D := D) (ci := 0) (v := .int (nI kl)) (C := RX0) (T := TX0) (N := 15) hx hb hts in_X0 hown hK hP 0 rfl rfl 0 (by decide) (hts _ q31) (fun _ h9 => h9) rfl dX0_label_25 ?_
    refine lv_iconst (v := nI 1) hx hb dX0_label_28 (by decide) ?_
    refine zn_iadd hx hb (a := kl) (b := 1) dX0_label_29 ?_
    refine va_put (D := D) (ci := 0) (v := .int (nI (kl + 1))) (ty := .int) (C := RX0) (T := TX0) (N := 15) hx hb hts in_X0 tyX0 tyX0_ok nmX0 hown hK hP hD hS 0 rfl rfl 0 (by decide) (hts _ q31) (fun _ h9 => h9) rfl (by decide +kernel) rfl rfl (Nat.le_of_ble_eq_true rfl) dX0_label_30 (fun H locs hP hD hS => ?_)
    have hP : va_P D z_cl (z_w0 cA h (nI (kl + 1)) (zn_F (zn_u ky kl (z_lo pa))) ch nu be (nI he) en es ev (an) (ap) (ao) (ar) (al) ak) H := hP
    have hD : va_D A (z_w0 cA h (nI (kl + 1)) (zn_F (zn_u ky kl (z_lo pa))) ch nu be (nI he) en es ev (an) (ap) (ao) (ar) (al) ak) := hD
    refine lv_aload_n hx hb dX0_label_33 rfl (lv_at hl 0 rfl) ?_
    refine va_get (D := D) (ci := 0) (v := .int (nI (kl + 1))) (C := RX0) (T := TX0) (N := 15) hx hb hts in_X0 hown hK hP 0 rfl rfl 0 (by decide) (hts _ q31) (fun _ h9 => h9) rfl dX0_label_34 ?_
    exact hret (nI (kl + 1)) (kl + 1, zn_u ky kl (z_lo pa)) _ _ _ _ dX0_label_37 rfl (Or.inl ⟨c_5, rfl, rfl, rfl⟩) hP hD hS
  · refine lv_iconst (v := (-1)) hx hb dX0_label_8 (by decide) ?_
    exact hret ((-1)) (kl, ky) _ _ _ _ dX0_label_9 rfl (Or.inr ⟨by omega, rfl, rfl, rfl⟩) hP hD hS
set_option maxHeartbeats 4000000 in
/-- back() -/
theorem zc_back (l : Launch) (D : va_G) (cA : ClassId) (sz : Nat) (h : Nat → Nat) (kl : Nat) (ky : Nat → Nat) (ch nu be : Nat → Int32) (he : Nat) (en es ev : Nat → Int32) (an ap ao ar al : Int32) (ak : Nat → Int32) (hkl : kl ≤ 4) : z_Mi (S := Nat) l yX0_back cX0_back 1 .int ({ frames := 0, cells := 0, slots := 0, locals := 0 } : Room) D cA sz [.ref (h 0)] (z_w0 cA h (nI kl) (zn_F ky) ch nu be (nI he) en es ev (an) (ap) (ao) (ar) (al) ak) (fun r (u : Nat) => (kl = 0 ∧ r = (-1) ∧ u = kl) ∨ (0 < kl ∧ r = nI (ky (kl - 1)) ∧ u = kl - 1)) (fun u => z_w0 cA h (nI u) (zn_F ky) ch nu be (nI he) en es ev (an) (ap) (ao) (ar) (al) ak) := by
  refine z_ofi (by decide) (Nat.le_of_ble_eq_true rfl) ?_
  intro p e s m below meth c A Q hx hb hml hown hts hA hret hK hP hD hS ls hl
  have hown : s.vm.findClass RX0 = some m.cls := hown
  have hl : lv_has ls 1 [(0, .ref (h 0))] := hl
  refine lv_aload_n hx hb dX0_back_0 rfl (lv_at hl 0 rfl) ?_
  refine va_get (D := D) (ci := 0) (v := .int (nI kl)) (C := RX0) (T := TX0) (N := 15) hx hb hts in_X0 hown hK hP 0 rfl rfl 0 (by decide) (hts _ q31) (fun _ h9 => h9) rfl dX0_back_1 ?_
  refine zn_if_ne (tgt := 9) hx hb (a := kl) (by omega) dX0_back_4 (by decide) (fun c_4 => ?_) (fun c_4 => ?_)
  · refine lv_aload_n hx hb dX0_back_9 rfl (lv_at hl 0 rfl) ?_
    refine lv_dup hx hb dX0_back_10 rfl ?_
    refine va_get (D := D) (ci := 0) (v := .int (nI kl)) (C := RX0) (T := TX0) (N := 15) hx hb hts in_X0 hown hK hP 0 rfl rfl 0 (by decide) (hts _ q31) (fun _ h9 => h9) rfl dX0_back_11 ?_
    refine lv_iconst (v := nI 1) hx hb dX0_back_14 (by decide) ?_
    refine zn_isub hx hb (a := kl) (b := 1) (by omega) dX0_back_15 ?_
    refine va_put (D := D) (ci := 0) (v := .int (nI (kl - 1))) (ty := .int) (C := RX0) (T := TX0) (N := 15) hx hb hts in_X0 tyX0 tyX0_ok nmX0 hown hK hP hD hS 0 rfl rfl 0 (by decide) (hts _ q31) (fun _ h9 => h9) rfl (by decide +kernel) rfl rfl (Nat.le_of_ble_eq_true rfl) dX0_back_16 (fun H locs hP hD hS => ?_)
    have hP : va_P D z_cl (z_w0 cA h (nI (kl - 1)) (zn_F ky) ch nu be (nI he) en es ev (an) (ap) (ao) (ar) (al) ak) H := hP
    have hD : va_D A (z_w0 cA h (nI (kl - 1)) (zn_F ky) ch nu be (nI he) en es ev (an) (ap) (ao) (ar) (al) ak) := hD
    refine lv_aload_n hx hb dX0_back_19 rfl (lv_at hl 0 rfl) ?_
    refine va_get (D := D) (ci := 0) (v := .ref (h 1)) (C := RX0) (T := TX0) (N := 15) hx hb hts in_X0 hown hK hP 0 rfl rfl 1 (by decide) (hts _ q32) (fun _ h9 => h9) rfl dX0_back_20 ?_
    refine lv_aload_n hx hb dX0_back_23 rfl (lv_at hl 0 rfl) ?_
    refine va_get (D := D) (ci := 0) (v := .int (nI (kl - 1))) (C := RX0) (T := TX0) (N := 15) hx hb hts in_X0 hown hK hP 0 rfl rfl 0 (by decide) (hts _ q31) (fun _ h9 => h9) rfl dX0_back_24 ?_
    refine zn_ald hx hb hK hP 1 0 rfl rfl (i := kl - 1) (by omega) (by decide) dX0_back_27 ?_
    exact hret (nI (ky (kl - 1))) (kl - 1) _ _ _ _ dX0_back_28 rfl (Or.inr ⟨by omega, rfl, rfl⟩) hP hD hS
  · refine lv_iconst (v := (-1)) hx hb dX0_back_7 (by decide) ?_
    exact hret ((-1)) kl _ _ _ _ dX0_back_8 rfl (Or.inl ⟨c_4, rfl, rfl⟩) hP hD hS
set_option maxHeartbeats 4000000 in
/-- number() -/
theorem zc_number (l : Launch) (D : va_G) (cA : ClassId) (sz : Nat) (h : Nat → Nat) (kl : Nat) (ky : Nat → Nat) (ch nu be : Nat → Int32) (he : Nat) (en es ev : Nat → Int32) (an ap ao ar al : Int32) (ak : Nat → Int32) (hkl : kl ≤ 4) : z_Mi (S := Unit) l yX0_number cX0_number 3 .int ({ frames := 0, cells := 0, slots := 0, locals := 0 } : Room) D cA sz [.ref (h 0)] (z_w0 cA h (nI kl) (zn_F ky) ch nu be (nI he) en es ev (an) (ap) (ao) (ar) (al) ak) (fun r _ => r = nI (z_P ky kl)) (fun _ => z_w0 cA h (nI kl) (zn_F ky) ch nu be (nI he) en es ev (an) (ap) (ao) (ar) (al) ak) := by
  refine z_ofi (by decide) (Nat.le_of_ble_eq_true rfl) ?_
  intro p e s m below meth c A Q hx hb hml hown hts hA hret hK hP hD hS ls hl
  have hown : s.vm.findClass RX0 = some m.cls := hown
  have hl : lv_has ls 3 [(0, .ref (h 0))] := hl
  refine lv_iconst (v := nI 0) hx hb dX0_number_0 (by decide) ?_
  refine lv_istore_n (lv' := [(1, .int (nI 0)), (0, .ref (h 0))]) hx hb dX0_number_1 rfl hl (by decide) rfl (fun ls hl => ?_)
  refine lv_iconst (v := nI 0) hx hb dX0_number_2 (by decide) ?_
  refine lv_istore_n (lv' := [(2, .int (nI 0)), (1, .int (nI 0)), (0, .ref (h 0))]) hx hb dX0_number_3 rfl hl (by decide) rfl (fun ls hl => ?_)
  have LA : ∀ (n : Nat) (i : Nat) (x : Nat), (i ≤ kl) → (kl < i + n) → (x = z_P ky i) → ∀ (H : Heap) (locs : List Loc), va_P D z_cl (z_w0 cA h (nI kl) (zn_F ky) ch nu be (nI he) en es ev (an) (ap) (ao) (ar) (al) ak) H → va_D A (z_w0 cA h (nI kl) (zn_F ky) ch nu be (nI he) en es ev (an) (ap) (ao) (ar) (al) ak) → va_S A s.heap H locs → ∀ ls : Array Slot, lv_has ls 3 [(0, .ref (h 0)), (1, .int (nI x)), (2, .int (nI i))] → W p l e ({ frames := 0, cells := 0, slots := 0, locals := 0 } : Room) s m ([.ref (h 0)] : List Value).toArray below meth c H locs 0 0 Q (F0 m 4 ls []) := by
    intro n
    induction n with
    | zero =>
      intro i x hi hn ex
      exact absurd hn (by omega)
    | succ n ih_LA =>
      intro i x hi hn ex H locs hP hD hS ls hl
      refine lv_iload_n hx hb dX0_number_4 rfl (lv_at hl 2 rfl) ?_
      refine lv_aload_n hx hb dX0_number_5 rfl (lv_at hl 0 rfl) ?_
      refine va_get (D := D) (ci := 0) (v := .int (nI kl)) (C := RX0) (T := TX0) (N := 15) hx hb hts in_X0 hown hK hP 0 rfl rfl 0 (by decide) (hts _ q31) (fun _ h9 => h9) rfl dX0_number_6 ?_
      refine zn_icmp_ge (tgt := 32) hx hb (a := i) (b := kl) (by omega) (by omega) dX0_number_9 (by decide) (fun c_9 => ?_) (fun c_9 => ?_)
      · refine lv_iload_n hx hb dX0_number_32 rfl (lv_at hl 1 rfl) ?_
        exact hret (nI x) () _ _ _ _ dX0_number_33 rfl (by rw [ex, show i = kl by omega]) hP hD hS
      · refine lv_bipush (v := nI 9) hx hb dX0_number_12 (by decide) ?_
        refine lv_iload_n hx hb dX0_number_14 rfl (lv_at hl 1 rfl) ?_
        refine zn_imul hx hb (a := 9) (b := x) dX0_number_15 ?_
        refine lv_aload_n hx hb dX0_number_16 rfl (lv_at hl 0 rfl) ?_
        refine va_get (D := D) (ci := 0) (v := .ref (h 1)) (C := RX0) (T := TX0) (N := 15) hx hb hts in_X0 hown hK hP 0 rfl rfl 1 (by decide) (hts _ q32) (fun _ h9 => h9) rfl dX0_number_17 ?_
        refine lv_iload_n hx hb dX0_number_20 rfl (lv_at hl 2 rfl) ?_
        refine zn_ald hx hb hK hP 1 0 rfl rfl (i := i) (by omega) (by decide) dX0_number_21 ?_
        refine zn_iadd hx hb (a := 9 * x) (b := ky i) dX0_number_22 ?_
        refine lv_iconst (v := nI 1) hx hb dX0_number_23 (by decide) ?_
        refine zn_iadd hx hb (a := (9 * x) + (ky i)) (b := 1) dX0_number_24 ?_
        refine lv_istore_n (lv' := [(1, .int (nI (((9 * x) + (ky i)) + 1))), (0, .ref (h 0)), (2, .int (nI i))]) hx hb dX0_number_25 rfl hl (by decide) rfl (fun ls hl => ?_)
        refine lv_iinc (v := nI (i + 1)) (lv' := [(2, .int (nI (i + 1))), (1, .int (nI (((9 * x) + (ky i)) + 1))), (0, .ref (h 0))]) hx hb dX0_number_26 hl (k := 2) rfl (nI_add i 1) (by decide) rfl (fun ls hl => ?_)
        refine lv_goto (tgt := 4) hx hb dX0_number_29 (by decide) ?_
        exact ih_LA (i + 1) (((9 * x) + (ky i)) + 1) (by omega) (by omega) (by rw [ex]; rfl) _ _ hP hD hS ls (lv_sub hl [2, 1, 0] rfl)
  exact LA (kl + 1) 0 0 (Nat.zero_le _) (by omega) rfl _ _ hP hD hS ls (lv_sub hl [2, 1, 0] rfl)
set_option maxHeartbeats 4000000 in
/-- askedNumber() -/
theorem zc_askedNumber (l : Launch) (D : va_G) (cA : ClassId) (sz : Nat) (h : Nat → Nat) (kl : Int32) (ky ch nu be : Nat → Int32) (he : Nat) (en es ev : Nat → Int32) (an ap ao ar : Int32) (al : Nat) (ak : Nat → Nat) (hal : al ≤ 4) : z_Mi (S := Unit) l yX0_askedNumber cX0_askedNumber 3 .int ({ frames := 0, cells := 0, slots := 0, locals := 0 } : Room) D cA sz [.ref (h 0)] (z_w0 cA h (kl) ky ch nu be (nI he) en es ev (an) (ap) (ao) (ar) (nI al) (zn_F ak)) (fun r _ => r = nI (z_P ak al)) (fun _ => z_w0 cA h (kl) ky ch nu be (nI he) en es ev (an) (ap) (ao) (ar) (nI al) (zn_F ak)) := by
  refine z_ofi (by decide) (Nat.le_of_ble_eq_true rfl) ?_
  intro p e s m below meth c A Q hx hb hml hown hts hA hret hK hP hD hS ls hl
  have hown : s.vm.findClass RX0 = some m.cls := hown
  have hl : lv_has ls 3 [(0, .ref (h 0))] := hl
  refine lv_iconst (v := nI 0) hx hb dX0_askedNumber_0 (by decide) ?_
  refine lv_istore_n (lv' := [(1, .int (nI 0)), (0, .ref (h 0))]) hx hb dX0_askedNumber_1 rfl hl (by decide) rfl (fun ls hl => ?_)
  refine lv_iconst (v := nI 0) hx hb dX0_askedNumber_2 (by decide) ?_
  refine lv_istore_n (lv' := [(2, .int (nI 0)), (1, .int (nI 0)), (0, .ref (h 0))]) hx hb dX0_askedNumber_3 rfl hl (by decide) rfl (fun ls hl => ?_)
  have LA : ∀ (n : Nat) (i : Nat) (x : Nat), (i ≤ al) → (al < i + n) → (x = z_P ak i) → ∀ (H : Heap) (locs : List Loc), va_P D z_cl (z_w0 cA h (kl) ky ch nu be (nI he) en es ev (an) (ap) (ao) (ar) (nI al) (zn_F ak)) H → va_D A (z_w0 cA h (kl) ky ch nu be (nI he) en es ev (an) (ap) (ao) (ar) (nI al) (zn_F ak)) → va_S A s.heap H locs → ∀ ls : Array Slot, lv_has ls 3 [(0, .ref (h 0)), (1, .int (nI x)), (2, .int (nI i))] → W p l e ({ frames := 0, cells := 0, slots := 0, locals := 0 } : Room) s m ([.ref (h 0)] : List Value).toArray below meth c H locs 0 0 Q (F0 m 4 ls []) := by
    intro n
    induction n with
    | zero =>
      intro i x hi hn ex
      exact absurd hn (by omega)
    | succ n ih_LA =>
      intro i x hi hn ex H locs hP hD hS ls hl
      refine lv_iload_n hx hb dX0_askedNumber_4 rfl (lv_at hl 2 rfl) ?_
      refine lv_aload_n hx hb dX0_askedNumber_5 rfl (lv_at hl 0 rfl) ?_
      refine va_get (D := D) (ci := 0) (v := .int (nI al)) (C := RX0) (T := TX0) (N := 15) hx hb hts in_X0 hown hK hP 0 rfl rfl 13 (by decide) (hts _ q44) (fun _ h9 => h9) rfl dX0_askedNumber_6 ?_
      refine zn_icmp_ge (tgt := 32) hx hb (a := i) (b := al) (by omega) (by omega) dX0_askedNumber_9 (by decide) (fun c_9 => ?_) (fun c_9 => ?_)
      · refine lv_iload_n hx hb dX0_askedNumber_32 rfl (lv_at hl 1 rfl) ?_
        exact hret (nI x) () _ _ _ _ dX0_askedNumber_33 rfl (by rw [ex, show i = al by omega]) hP hD hS
      · refine lv_bipush (v := nI 9) hx hb dX0_askedNumber_12 (by decide) ?_
        refine lv_iload_n hx hb dX0_askedNumber_14 rfl (lv_at hl 1 rfl) ?_
        refine zn_imul hx hb (a := 9) (b := x) dX0_askedNumber_15 ?_
        refine lv_aload_n hx hb dX0_askedNumber_16 rfl (lv_at hl 0 rfl) ?_
        refine va_get (D := D) (ci := 0) (v := .ref (h 8)) (C := RX0) (T := TX0) (N := 15) hx hb hts in_X0 hown hK hP 0 rfl rfl 14 (by decide) (hts _ q45) (fun _ h9 => h9) rfl dX0_askedNumber_17 ?_
        refine lv_iload_n hx hb dX0_askedNumber_20 rfl (lv_at hl 2 rfl) ?_
        refine zn_ald hx hb hK hP 8 0 rfl rfl (i := i) (by omega) (by decide) dX0_askedNumber_21 ?_
        refine zn_iadd hx hb (a := 9 * x) (b := ak i) dX0_askedNumber_22 ?_
        refine lv_iconst (v := nI 1) hx hb dX0_askedNumber_23 (by decide) ?_
        refine zn_iadd hx hb (a := (9 * x) + (ak i)) (b := 1) dX0_askedNumber_24 ?_
        refine lv_istore_n (lv' := [(1, .int (nI (((9 * x) + (ak i)) + 1))), (0, .ref (h 0)), (2, .int (nI i))]) hx hb dX0_askedNumber_25 rfl hl (by decide) rfl (fun ls hl => ?_)
        refine lv_iinc (v := nI (i + 1)) (lv' := [(2, .int (nI (i + 1))), (1, .int (nI (((9 * x) + (ak i)) + 1))), (0, .ref (h 0))]) hx hb dX0_askedNumber_26 hl (k := 2) rfl (nI_add i 1) (by decide) rfl (fun ls hl => ?_)
        refine lv_goto (tgt := 4) hx hb dX0_askedNumber_29 (by decide) ?_
        exact ih_LA (i + 1) (((9 * x) + (ak i)) + 1) (by omega) (by omega) (by rw [ex]; rfl) _ _ hP hD hS ls (lv_sub hl [2, 1, 0] rfl)
  exact LA (al + 1) 0 0 (Nat.zero_le _) (by omega) rfl _ _ hP hD hS ls (lv_sub hl [2, 1, 0] rfl)
set_option maxHeartbeats 4000000 in
/-- settle(result, node) -/
theorem zc_settle (l : Launch) (D : va_G) (cA : ClassId) (sz : Nat) (h : Nat → Nat) (kl : Int32) (ky ch : Nat → Int32) (nu : Nat → Nat) (be : Nat → Int32) (he : Nat) (en es ev : Nat → Int32) (an ap ao ar al : Int32) (ak : Nat → Int32) (rs : Int32) (nd : Nat) (hnd : nd < 100) : z_Mv (S := Unit) l yX0_settle cX0_settle 3 ({ frames := 0, cells := 0, slots := 0, locals := 0 } : Room) D cA sz [.ref (h 0), .int rs, .int (nI nd)] (z_w0 cA h (kl) ky ch (zn_F nu) be (nI he) en es ev (an) (ap) (ao) (ar) (al) ak) (fun _ => True) (fun _ => z_w0 cA h (kl) ky ch (zn_F nu) be (nI he) en es ev (rs) (nI (nu nd)) (nI nd) (ar) (al) ak) := by
  refine z_ofv (by decide) (Nat.le_of_ble_eq_true rfl) ?_
  intro p e s m below meth c A Q hx hb hml hown hts hA hret hK hP hD hS ls hl
  have hown : s.vm.findClass RX0 = some m.cls := hown
  have hl : lv_has ls 3 [(0, .ref (h 0)), (1, .int rs), (2, .int (nI nd))] := hl
  refine lv_aload_n hx hb dX0_settle_0 rfl (lv_at hl 0 rfl) ?_
  refine lv_iload_n hx hb dX0_settle_1 rfl (lv_at hl 1 rfl) ?_
  refine va_put (D := D) (ci := 0) (v := .int rs) (ty := .int) (C := RX0) (T := TX0) (N := 15) hx hb hts in_X0 tyX0 tyX0_ok nmX0 hown hK hP hD hS 0 rfl rfl 9 (by decide) (hts _ q40) (fun _ h9 => h9) rfl (by decide +kernel) rfl rfl (Nat.le_of_ble_eq_true rfl) dX0_settle_2 (fun H locs hP hD hS => ?_)
  have hP : va_P D z_cl (z_w0 cA h (kl) ky ch (zn_F nu) be (nI he) en es ev (rs) (ap) (ao) (ar) (al) ak) H := hP
  have hD : va_D A (z_w0 cA h (kl) ky ch (zn_F nu) be (nI he) en es ev (rs) (ap) (ao) (ar) (al) ak) := hD
  refine lv_aload_n hx hb dX0_settle_5 rfl (lv_at hl 0 rfl) ?_
  refine lv_iload_n hx hb dX0_settle_6 rfl (lv_at hl 2 rfl) ?_
  refine va_put (D := D) (ci := 0) (v := .int (nI nd)) (ty := .int) (C := RX0) (T := TX0) (N := 15) hx hb hts in_X0 tyX0 tyX0_ok nmX0 hown hK hP hD hS 0 rfl rfl 11 (by decide) (hts _ q42) (fun _ h9 => h9) rfl (by decide +kernel) rfl rfl (Nat.le_of_ble_eq_true rfl) dX0_settle_7 (fun H locs hP hD hS => ?_)
  have hP : va_P D z_cl (z_w0 cA h (kl) ky ch (zn_F nu) be (nI he) en es ev (rs) (ap) (nI nd) (ar) (al) ak) H := hP
  have hD : va_D A (z_w0 cA h (kl) ky ch (zn_F nu) be (nI he) en es ev (rs) (ap) (nI nd) (ar) (al) ak) := hD
  refine lv_aload_n hx hb dX0_settle_10 rfl (lv_at hl 0 rfl) ?_
  refine lv_aload_n hx hb dX0_settle_11 rfl (lv_at hl 0 rfl) ?_
  refine va_get (D := D) (ci := 0) (v := .ref (h 3)) (C := RX0) (T := TX0) (N := 15) hx hb hts in_X0 hown hK hP 0 rfl rfl 3 (by decide) (hts _ q34) (fun _ h9 => h9) rfl dX0_settle_12 ?_
  refine lv_iload_n hx hb dX0_settle_15 rfl (lv_at hl 2 rfl) ?_
  refine zn_ald hx hb hK hP 3 0 rfl rfl (i := nd) (by omega) (by decide) dX0_settle_16 ?_
  refine va_put (D := D) (ci := 0) (v := .int (nI (nu nd))) (ty := .int) (C := RX0) (T := TX0) (N := 15) hx hb hts in_X0 tyX0 tyX0_ok nmX0 hown hK hP hD hS 0 rfl rfl 10 (by decide) (hts _ q41) (fun _ h9 => h9) rfl (by decide +kernel) rfl rfl (Nat.le_of_ble_eq_true rfl) dX0_settle_17 (fun H locs hP hD hS => ?_)
  have hP : va_P D z_cl (z_w0 cA h (kl) ky ch (zn_F nu) be (nI he) en es ev (rs) (nI (nu nd)) (nI nd) (ar) (al) ak) H := hP
  have hD : va_D A (z_w0 cA h (kl) ky ch (zn_F nu) be (nI he) en es ev (rs) (nI (nu nd)) (nI nd) (ar) (al) ak) := hD
  exact hret () _ _ _ _ dX0_settle_20 trivial hP hD hS
set_option maxHeartbeats 4000000 in
/-- findNode() -/
theorem zc_findNode (l : Launch) (D : va_G) (cA : ClassId) (sz : Nat) (h : Nat → Nat) (kl : Nat) (ky ch : Nat → Nat) (nu be : Nat → Int32) (he : Nat) (en es ev : Nat → Int32) (an ap ao ar al : Int32) (ak : Nat → Int32) (hkl : kl ≤ 4) (hky : ∀ j, ky j < 8) (hch : ∀ j, ch j < 100) : z_Mi (S := Unit) l yX0_findNode cX0_findNode 3 .int ({ frames := 0, cells := 0, slots := 0, locals := 0 } : Room) D cA sz [.ref (h 0)] (z_w0 cA h (nI kl) (zn_F ky) (zn_F ch) nu be (nI he) en es ev (an) (ap) (ao) (ar) (al) ak) (fun r _ => (∃ nd, z_fn ky ch kl = some nd ∧ r = nI nd) ∨ (z_fn ky ch kl = none ∧ r = (-1))) (fun _ => z_w0 cA h (nI kl) (zn_F ky) (zn_F ch) nu be (nI he) en es ev (an) (ap) (ao) (ar) (al) ak) := by
  refine z_ofi (by decide) (Nat.le_of_ble_eq_true rfl) ?_
  intro p e s m below meth c A Q hx hb hml hown hts hA hret hK hP hD hS ls hl
  have hown : s.vm.findClass RX0 = some m.cls := hown
  have hl : lv_has ls 3 [(0, .ref (h 0))] := hl
  refine lv_iconst (v := nI 0) hx hb dX0_findNode_0 (by decide) ?_
  refine lv_istore_n (lv' := [(1, .int (nI 0)), (0, .ref (h 0))]) hx hb dX0_findNode_1 rfl hl (by decide) rfl (fun ls hl => ?_)
  refine lv_iconst (v := nI 0) hx hb dX0_findNode_2 (by decide) ?_
  refine lv_istore_n (lv' := [(2, .int (nI 0)), (1, .int (nI 0)), (0, .ref (h 0))]) hx hb dX0_findNode_3 rfl hl (by decide) rfl (fun ls hl => ?_)
  have LA : ∀ (n : Nat) (i : Nat) (nd : Nat), (i ≤ kl) → (kl < i + n) → (nd < 100) → (z_fn ky ch i = some nd) → ∀ (H : Heap) (locs : List Loc), va_P D z_cl (z_w0 cA h (nI kl) (zn_F ky) (zn_F ch) nu be (nI he) en es ev (an) (ap) (ao) (ar) (al) ak) H → va_D A (z_w0 cA h (nI kl) (zn_F ky) (zn_F ch) nu be (nI he) en es ev (an) (ap) (ao) (ar) (al) ak) → va_S A s.heap H locs → ∀ ls : Array Slot, lv_has ls 3 [(0, .ref (h 0)), (1, .int (nI nd)), (2, .int (nI i))] → W p l e ({ frames := 0, cells := 0, slots := 0, locals := 0 } : Room) s m ([.ref (h 0)] : List Value).toArray below meth c H locs 0 0 Q (F0 m 4 ls []) := by
    intro n
    induction n with
    | zero =>
      intro i nd hi hn hnd e0
      exact absurd hn (by omega)
    | succ n ih_LA =>
      intro i nd hi hn hnd e0 H locs hP hD hS ls hl
      refine lv_iload_n hx hb dX0_findNode_4 rfl (lv_at hl 2 rfl) ?_
      refine lv_aload_n hx hb dX0_findNode_5 rfl (lv_at hl 0 rfl) ?_
      refine va_get (D := D) (ci := 0) (v := .int (nI kl)) (C := RX0) (T := TX0) (N := 15) hx hb hts in_X0 hown hK hP 0 rfl rfl 0 (by decide) (hts _ q31) (fun _ h9 => h9) rfl dX0_findNode_6 ?_
      refine zn_icmp_ge (tgt := 41) hx hb (a := i) (b := kl) (by omega) (by omega) dX0_findNode_9 (by decide) (fun c_9 => ?_) (fun c_9 => ?_)
      · refine lv_iload_n hx hb dX0_findNode_41 rfl (lv_at hl 1 rfl) ?_
        exact hret (nI nd) () _ _ _ _ dX0_findNode_42 rfl (Or.inl ⟨nd, by rw [show kl = i by omega]; exact e0, rfl⟩) hP hD hS
      · refine lv_aload_n hx hb dX0_findNode_12 rfl (lv_at hl 0 rfl) ?_
        refine va_get (D := D) (ci := 0) (v := .ref (h 2)) (C := RX0) (T := TX0) (N := 15) hx hb hts in_X0 hown hK hP 0 rfl rfl 2 (by decide) (hts _ q33) (fun _ h9 => h9) rfl dX0_findNode_13 ?_
        refine lv_bipush (v := nI 8) hx hb dX0_findNode_16 (by decide) ?_
        refine lv_iload_n hx hb dX0_findNode_18 rfl (lv_at hl 1 rfl) ?_
        refine zn_imul hx hb (a := 8) (b := nd) dX0_findNode_19 ?_
        refine lv_aload_n hx hb dX0_findNode_20 rfl (lv_at hl 0 rfl) ?_
        refine va_get (D := D) (ci := 0) (v := .ref (h 1)) (C := RX0) (T := TX0) (N := 15) hx hb hts in_X0 hown hK hP 0 rfl rfl 1 (by decide) (hts _ q32) (fun _ h9 => h9) rfl dX0_findNode_21 ?_
        refine lv_iload_n hx hb dX0_findNode_24 rfl (lv_at hl 2 rfl) ?_
        refine zn_ald hx hb hK hP 1 0 rfl rfl (i := i) (by omega) (by decide) dX0_findNode_25 ?_
        refine zn_iadd hx hb (a := 8 * nd) (b := ky i) dX0_findNode_26 ?_
        refine zn_ald hx hb hK hP 2 0 rfl rfl (i := (8 * nd) + (ky i)) (by have := hky i; omega) (by decide) dX0_findNode_27 ?_
        refine lv_istore_n (lv' := [(1, .int (nI (ch ((8 * nd) + (ky i))))), (0, .ref (h 0)), (2, .int (nI i))]) hx hb dX0_findNode_28 rfl hl (by decide) rfl (fun ls hl => ?_)
        refine lv_iload_n hx hb dX0_findNode_29 rfl (lv_at hl 0 rfl) ?_
        refine zn_if_ne (tgt := 35) hx hb (a := ch ((8 * nd) + (ky i))) (by have := hch (8 * nd + ky i); omega) dX0_findNode_30 (by decide) (fun c_30 => ?_) (fun c_30 => ?_)
        · refine lv_iinc (v := nI (i + 1)) (lv' := [(2, .int (nI (i + 1))), (1, .int (nI (ch ((8 * nd) + (ky i))))), (0, .ref (h 0))]) hx hb dX0_findNode_35 hl (k := 2) rfl (nI_add i 1) (by decide) rfl (fun ls hl => ?_)
          refine lv_goto (tgt := 4) hx hb dX0_findNode_38 (by decide) ?_
          exact ih_LA (i + 1) (ch ((8 * nd) + (ky i))) (by omega) (by omega) (hch _) (z_fn_s e0 c_30) _ _ hP hD hS ls (lv_sub hl [2, 1, 0] rfl)
        · refine lv_iconst (v := (-1)) hx hb dX0_findNode_33 (by decide) ?_
          exact hret ((-1)) () _ _ _ _ dX0_findNode_34 rfl (Or.inr ⟨z_fn_up (z_fn_n e0 c_30) (by omega), rfl⟩) hP hD hS
  exact LA (kl + 1) 0 0 (Nat.zero_le _) (by omega) (by decide) rfl _ _ hP hD hS ls (lv_sub hl [2, 1, 0] rfl)
set_option maxHeartbeats 4000000 in
/-- freeNode() -/
theorem zc_freeNode (l : Launch) (D : va_G) (cA : ClassId) (sz : Nat) (h : Nat → Nat) (kl : Int32) (ky ch nu : Nat → Int32) (be : Nat → Nat) (he : Nat) (en es ev : Nat → Int32) (an ap ao ar al : Int32) (ak : Nat → Int32) (hsb : z_sb be < 99) : z_Mi (S := Unit) l yX0_freeNode cX0_freeNode 2 .int ({ frames := 0, cells := 0, slots := 0, locals := 0 } : Room) D cA sz [.ref (h 0)] (z_w0 cA h (kl) ky ch nu (zn_F be) (nI he) en es ev (an) (ap) (ao) (ar) (al) ak) (fun r _ => ∃ x, r = nI x ∧ 0 < x ∧ x < 100 ∧ be x = 0) (fun _ => z_w0 cA h (kl) ky ch nu (zn_F be) (nI he) en es ev (an) (ap) (ao) (ar) (al) ak) := by
  refine z_ofi (by decide) (Nat.le_of_ble_eq_true rfl) ?_
  intro p e s m below meth c A Q hx hb hml hown hts hA hret hK hP hD hS ls hl
  have hown : s.vm.findClass RX0 = some m.cls := hown
  have hl : lv_has ls 2 [(0, .ref (h 0))] := hl
  refine lv_iconst (v := nI 1) hx hb dX0_freeNode_0 (by decide) ?_
  refine lv_istore_n (lv' := [(1, .int (nI 1)), (0, .ref (h 0))]) hx hb dX0_freeNode_1 rfl hl (by decide) rfl (fun ls hl => ?_)
  have LA : ∀ (n : Nat) (i : Nat), (1 ≤ i) → (i ≤ 100) → (100 < i + n) → (∀ j, 1 ≤ j → j < i → be j ≠ 0) → ∀ (H : Heap) (locs : List Loc), va_P D z_cl (z_w0 cA h (kl) ky ch nu (zn_F be) (nI he) en es ev (an) (ap) (ao) (ar) (al) ak) H → va_D A (z_w0 cA h (kl) ky ch nu (zn_F be) (nI he) en es ev (an) (ap) (ao) (ar) (al) ak) → va_S A s.heap H locs → ∀ ls : Array Slot, lv_has ls 2 [(0, .ref (h 0)), (1, .int (nI i))] → W p l e ({ frames := 0, cells := 0, slots := 0, locals := 0 } : Room) s m ([.ref (h 0)] : List Value).toArray below meth c H locs 0 0 Q (F0 m 2 ls []) := by
    intro n
    induction n with
    | zero =>
      intro i h1 hi hn hall
      exact absurd hn (by omega)
    | succ n ih_LA =>
      intro i h1 hi hn hall H locs hP hD hS ls hl
      refine lv_iload_n hx hb dX0_freeNode_2 rfl (lv_at hl 1 rfl) ?_
      refine lv_bipush (v := nI 100) hx hb dX0_freeNode_3 (by decide) ?_
      refine zn_icmp_ge (tgt := 25) hx hb (a := i) (b := 100) (by omega) (by decide) dX0_freeNode_5 (by decide) (fun c_5 => ?_) (fun c_5 => ?_)
      · exact absurd (z_sb_all (fun j h1 h2 => hall j h1 (by omega))) (by omega)
      · refine lv_aload_n hx hb dX0_freeNode_8 rfl (lv_at hl 0 rfl) ?_
        refine va_get (D := D) (ci := 0) (v := .ref (h 4)) (C := RX0) (T := TX0) (N := 15) hx hb hts in_X0 hown hK hP 0 rfl rfl 4 (by decide) (hts _ q35) (fun _ h9 => h9) rfl dX0_freeNode_9 ?_
        refine lv_iload_n hx hb dX0_freeNode_12 rfl (lv_at hl 1 rfl) ?_
        refine zn_ald hx hb hK hP 4 0 rfl rfl (i := i) (by omega) (by decide) dX0_freeNode_13 ?_
        refine zn_if_ne (tgt := 19) hx hb (a := be i) (by have := z_sb_one be h1 c_5; omega) dX0_freeNode_14 (by decide) (fun c_14 => ?_) (fun c_14 => ?_)
        · refine lv_iinc (v := nI (i + 1)) (lv' := [(1, .int (nI (i + 1))), (0, .ref (h 0))]) hx hb dX0_freeNode_19 hl (k := 1) rfl (nI_add i 1) (by decide) rfl (fun ls hl => ?_)
          refine lv_goto (tgt := 2) hx hb dX0_freeNode_22 (by decide) ?_
          exact ih_LA (i + 1) (by omega) (by omega) (by omega) (fun j h1 h2 => by rcases Nat.lt_or_ge j i with q | q; exact hall j h1 q; rw [show j = i by omega]; exact c_14) _ _ hP hD hS ls (lv_sub hl [1, 0] rfl)
        · refine lv_iload_n hx hb dX0_freeNode_17 rfl (lv_at hl 1 rfl) ?_
          exact hret (nI i) () _ _ _ _ dX0_freeNode_18 rfl ⟨i, rfl, h1, c_5, c_14⟩ hP hD hS
  exact LA 101 1 (by omega) (by omega) (by omega) (fun j h1 h2 => absurd h1 (by omega)) _ _ hP hD hS ls (lv_sub hl [1, 0] rfl)
set_option maxHeartbeats 4000000 in
/-- isNumber(n) -/
theorem zc_isNumber (l : Launch) (D : va_G) (cA : ClassId) (sz : Nat) (w0 : va_W) (va : Int32) : z_Mi (S := Unit) l yX0_isNumber cX0_isNumber 3 .boolean ({ frames := 0, cells := 0, slots := 0, locals := 0 } : Room) D cA sz [.int va] (w0) (fun r _ => (r = nI 1 ∧ z_isn va) ∨ (r = nI 0 ∧ ¬ z_isn va)) (fun _ => w0) := by
  refine z_ofi (by decide) (Nat.le_of_ble_eq_true rfl) ?_
  intro p e s m below meth c A Q hx hb hml hown hts hA hret hK hP hD hS ls hl
  have hown : s.vm.findClass RX0 = some m.cls := hown
  have hl : lv_has ls 3 [(0, .int va)] := hl
  refine lv_iload_n hx hb dX0_isNumber_0 rfl (lv_at hl 0 rfl) ?_
  refine lv_if_lt (tgt := 11) (x := va) hx hb dX0_isNumber_1 (by decide) (fun c_1 => ?_) (fun c_1 => ?_)
  · refine lv_iconst (v := nI 0) hx hb dX0_isNumber_11 (by decide) ?_
    exact hret (nI 0) () _ _ _ _ dX0_isNumber_12 rfl (Or.inr ⟨rfl, z_isn_out (Or.inl c_1)⟩) hP hD hS
  · refine lv_iload_n hx hb dX0_isNumber_4 rfl (lv_at hl 0 rfl) ?_
    refine lv_sipush (v := nI 6560) hx hb dX0_isNumber_5 (by decide) ?_
    refine lv_icmp_le (tgt := 13) (x := va) (y := nI 6560) hx hb dX0_isNumber_8 (by decide) (fun c_8 => ?_) (fun c_8 => ?_)
    · obtain ⟨k, hk, rfl⟩ := nI_of2 (n := 6560) (by decide) c_1 c_8
      refine lv_iload_n hx hb dX0_isNumber_13 rfl (lv_at hl 0 rfl) ?_
      refine lv_istore_n (lv' := [(1, .int (nI k)), (0, .int (nI k))]) hx hb dX0_isNumber_14 rfl hl (by decide) rfl (fun ls hl => ?_)
      refine lv_iconst (v := nI 0) hx hb dX0_isNumber_15 (by decide) ?_
      refine lv_istore_n (lv' := [(2, .int (nI 0)), (1, .int (nI k)), (0, .int (nI k))]) hx hb dX0_isNumber_16 rfl hl (by decide) rfl (fun ls hl => ?_)
      have LA : ∀ (n : Nat) (j : Nat) (x : Nat), (j ≤ 4) → (4 < j + n) → (x ≤ 6560) → (x = z_sh k j) → (∀ i, i < j → z_ok (z_sh k i)) → ∀ (H : Heap) (locs : List Loc), va_P D z_cl (w0) H → va_D A (w0) → va_S A s.heap H locs → ∀ ls : Array Slot, lv_has ls 3 [(0, .int (nI k)), (1, .int (nI x)), (2, .int (nI j))] → W p l e ({ frames := 0, cells := 0, slots := 0, locals := 0 } : Room) s m ([.int (nI k)] : List Value).toArray below meth c H locs 0 0 Q (F0 m 17 ls []) := by
        intro n
        induction n with
        | zero =>
          intro j x hj hn hx9 ex hall
          exact absurd hn (by omega)
        | succ n ih_LA =>
          intro j x hj hn hx9 ex hall H locs hP hD hS ls hl
          refine lv_iload_n hx hb dX0_isNumber_17 rfl (lv_at hl 2 rfl) ?_
          refine lv_iconst (v := nI 4) hx hb dX0_isNumber_18 (by decide) ?_
          refine zn_icmp_ge (tgt := 46) hx hb (a := j) (b := 4) (by omega) (by decide) dX0_isNumber_19 (by decide) (fun c_19 => ?_) (fun c_19 => ?_)
          · refine lv_iconst (v := nI 1) hx hb dX0_isNumber_46 (by decide) ?_
            exact hret (nI 1) () _ _ _ _ dX0_isNumber_47 rfl (Or.inl ⟨rfl, k, rfl, hk, fun i h => hall i (by omega)⟩) hP hD hS
          · refine lv_iload_n hx hb dX0_isNumber_22 rfl (lv_at hl 1 rfl) ?_
            refine zn_if_le (tgt := 35) hx hb (a := x) (by omega) dX0_isNumber_23 (by decide) (fun c_23 => ?_) (fun c_23 => ?_)
            · refine lv_iload_n hx hb dX0_isNumber_35 rfl (lv_at hl 1 rfl) ?_
              refine lv_bipush (v := nI 9) hx hb dX0_isNumber_36 (by decide) ?_
              refine zn_idiv hx hb (a := x) (b := 9) (by omega) (by decide) (by decide) dX0_isNumber_38 ?_
              refine lv_istore_n (lv' := [(1, .int (nI (x / 9))), (0, .int (nI k)), (2, .int (nI j))]) hx hb dX0_isNumber_39 rfl hl (by decide) rfl (fun ls hl => ?_)
              refine lv_iinc (v := nI (j + 1)) (lv' := [(2, .int (nI (j + 1))), (1, .int (nI (x / 9))), (0, .int (nI k))]) hx hb dX0_isNumber_40 hl (k := 2) rfl (nI_add j 1) (by decide) rfl (fun ls hl => ?_)
              refine lv_goto (tgt := 17) hx hb dX0_isNumber_43 (by decide) ?_
              exact ih_LA (j + 1) (x / 9) (by omega) (by omega) (by omega) (by rw [ex]; rfl) (z_ok_s hall (by rw [← ex]; exact Or.inl c_23)) _ _ hP hD hS ls (lv_sub hl [2, 1, 0] rfl)
            · refine lv_iload_n hx hb dX0_isNumber_26 rfl (lv_at hl 1 rfl) ?_
              refine lv_bipush (v := nI 9) hx hb dX0_isNumber_27 (by decide) ?_
              refine zn_irem hx hb (a := x) (b := 9) (by omega) (by decide) (by decide) dX0_isNumber_29 ?_
              refine zn_if_ne (tgt := 35) hx hb (a := x % 9) (by omega) dX0_isNumber_30 (by decide) (fun c_30 => ?_) (fun c_30 => ?_)
              · refine lv_iload_n hx hb dX0_isNumber_35 rfl (lv_at hl 1 rfl) ?_
                refine lv_bipush (v := nI 9) hx hb dX0_isNumber_36 (by decide) ?_
                refine zn_idiv hx hb (a := x) (b := 9) (by omega) (by decide) (by decide) dX0_isNumber_38 ?_
                refine lv_istore_n (lv' := [(1, .int (nI (x / 9))), (0, .int (nI k)), (2, .int (nI j))]) hx hb dX0_isNumber_39 rfl hl (by decide) rfl (fun ls hl => ?_)
                refine lv_iinc (v := nI (j + 1)) (lv' := [(2, .int (nI (j + 1))), (1, .int (nI (x / 9))), (0, .int (nI k))]) hx hb dX0_isNumber_40 hl (k := 2) rfl (nI_add j 1) (by decide) rfl (fun ls hl => ?_)
                refine lv_goto (tgt := 17) hx hb dX0_isNumber_43 (by decide) ?_
                exact ih_LA (j + 1) (x / 9) (by omega) (by omega) (by omega) (by rw [ex]; rfl) (z_ok_s hall (by rw [← ex]; exact Or.inr c_30)) _ _ hP hD hS ls (lv_sub hl [2, 1, 0] rfl)
              · refine lv_iconst (v := nI 0) hx hb dX0_isNumber_33 (by decide) ?_
                exact hret (nI 0) () _ _ _ _ dX0_isNumber_34 rfl (Or.inr ⟨rfl, z_isn_bad hk (show j < 4 by omega) (by rw [← ex]; exact c_23) (by rw [← ex]; exact c_30)⟩) hP hD hS
      exact LA 5 0 k (by omega) (by omega) hk rfl (fun i h => absurd h (by omega)) _ _ hP hD hS ls (lv_sub hl [2, 1, 0] rfl)
    · refine lv_iconst (v := nI 0) hx hb dX0_isNumber_11 (by decide) ?_
      exact hret (nI 0) () _ _ _ _ dX0_isNumber_12 rfl (Or.inr ⟨rfl, z_isn_out (Or.inr c_8)⟩) hP hD hS
end
section
/-! ZoneLookupModel: its small methods and those over its entries -/
set_option maxRecDepth 100000
set_option maxHeartbeats 4000000 in
/-- count(name, sort) -/
theorem zd_count (l : Launch) (D : va_G) (cA : ClassId) (sz : Nat) (h : Nat → Nat) (he : Nat) (nm es ev : Nat → Int32) (ke la pl ro : Int32) (nd so : Int32) (hhe : he ≤ 24) : z_Mi (S := Unit) l yX1_count cX1_count 5 .int ({ frames := 0, cells := 0, slots := 0, locals := 0 } : Room) D cA sz [.ref (h 0), .int nd, .int so] (z_w1 cA h (nI he) nm es ev (ke) (la) (pl) (ro)) (fun r _ => r = nI (z_cnt nm es nd so he)) (fun _ => z_w1 cA h (nI he) nm es ev (ke) (la) (pl) (ro)) := by
  refine z_ofi (by decide) (Nat.le_of_ble_eq_true rfl) ?_
  intro p e s m below meth c A Q hx hb hml hown hts hA hret hK hP hD hS ls hl
  have hown : s.vm.findClass RX1 = some m.cls := hown
  have hl : lv_has ls 5 [(0, .ref (h 0)), (1, .int nd), (2, .int so)] := hl
  refine lv_iconst (v := nI 0) hx hb dX1_count_0 (by decide) ?_
  refine lv_istore_n (lv' := [(3, .int (nI 0)), (0, .ref (h 0)), (1, .int nd), (2, .int so)]) hx hb dX1_count_1 rfl hl (by decide) rfl (fun ls hl => ?_)
  refine lv_iconst (v := nI 0) hx hb dX1_count_2 (by decide) ?_
  refine lv_istore (lv' := [(4, .int (nI 0)), (3, .int (nI 0)), (0, .ref (h 0)), (1, .int nd), (2, .int so)]) hx hb dX1_count_3 hl (by decide) rfl (fun ls hl => ?_)
  have LA : ∀ (n : Nat) (i : Nat) (x : Nat), (i ≤ he) → (he < i + n) → (x = z_cnt nm es nd so i) → ∀ (H : Heap) (locs : List Loc), va_P D z_cl (z_w1 cA h (nI he) nm es ev (ke) (la) (pl) (ro)) H → va_D A (z_w1 cA h (nI he) nm es ev (ke) (la) (pl) (ro)) → va_S A s.heap H locs → ∀ ls : Array Slot, lv_has ls 5 [(0, .ref (h 0)), (1, .int nd), (2, .int so), (3, .int (nI x)), (4, .int (nI i))] → W p l e ({ frames := 0, cells := 0, slots := 0, locals := 0 } : Room) s m ([.ref (h 0), .int nd, .int so] : List Value).toArray below meth c H locs 0 0 Q (F0 m 5 ls []) := by
    intro n
    induction n with
    | zero =>
      intro i x hi hn ex
      exact absurd hn (by omega)
    | succ n ih_LA =>
      intro i x hi hn ex H locs hP hD hS ls hl
      refine lv_iload hx hb dX1_count_5 (lv_at hl 4 rfl) ?_
      refine lv_aload_n hx hb dX1_count_7 rfl (lv_at hl 0 rfl) ?_
      refine va_get (D := D) (ci := 1) (v := .int (nI he)) (C := RX1) (T := TX1) (N := 8) hx hb hts in_X1 hown hK hP 0 rfl rfl 0 (by decide) (hts _ q183) (fun _ h9 => h9) rfl dX1_count_8 ?_
      refine zn_icmp_ge (tgt := 45) hx hb (a := i) (b := he) (by omega) (by omega) dX1_count_11 (by decide) (fun c_11 => ?_) (fun c_11 => ?_)
      · refine lv_iload_n hx hb dX1_count_45 rfl (lv_at hl 3 rfl) ?_
        exact hret (nI x) () _ _ _ _ dX1_count_46 rfl (by rw [ex, show i = he by omega]) hP hD hS
      · refine lv_aload_n hx hb dX1_count_14 rfl (lv_at hl 0 rfl) ?_
        refine va_get (D := D) (ci := 1) (v := .ref (h 1)) (C := RX1) (T := TX1) (N := 8) hx hb hts in_X1 hown hK hP 0 rfl rfl 1 (by decide) (hts _ q184) (fun _ h9 => h9) rfl dX1_count_15 ?_
        refine lv_iload hx hb dX1_count_18 (lv_at hl 4 rfl) ?_
        refine zn_ild hx hb hK hP 1 0 rfl rfl (i := i) (by omega) (by decide) dX1_count_20 ?_
        refine lv_iload_n hx hb dX1_count_21 rfl (lv_at hl 1 rfl) ?_
        refine lv_icmp_ne (tgt := 39) (x := nm i) (y := nd) hx hb dX1_count_22 (by decide) (fun c_22 => ?_) (fun c_22 => ?_)
        · refine lv_iinc (v := nI (i + 1)) (lv' := [(4, .int (nI (i + 1))), (0, .ref (h 0)), (1, .int nd), (2, .int so), (3, .int (nI x))]) hx hb dX1_count_39 hl (k := 4) rfl (nI_add i 1) (by decide) rfl (fun ls hl => ?_)
          refine lv_goto (tgt := 5) hx hb dX1_count_42 (by decide) ?_
          exact ih_LA (i + 1) x (by omega) (by omega) (ex.trans (z_cnt_n (fun q => c_22 q.1)).symm) _ _ hP hD hS ls (lv_sub hl [1, 2, 3, 4, 0] rfl)
        · refine lv_aload_n hx hb dX1_count_25 rfl (lv_at hl 0 rfl) ?_
          refine va_get (D := D) (ci := 1) (v := .ref (h 2)) (C := RX1) (T := TX1) (N := 8) hx hb hts in_X1 hown hK hP 0 rfl rfl 2 (by decide) (hts _ q185) (fun _ h9 => h9) rfl dX1_count_26 ?_
          refine lv_iload hx hb dX1_count_29 (lv_at hl 4 rfl) ?_
          refine zn_ild hx hb hK hP 2 0 rfl rfl (i := i) (by omega) (by decide) dX1_count_31 ?_
          refine lv_iload_n hx hb dX1_count_32 rfl (lv_at hl 2 rfl) ?_
          refine lv_icmp_ne (tgt := 39) (x := es i) (y := so) hx hb dX1_count_33 (by decide) (fun c_33 => ?_) (fun c_33 => ?_)
          · refine lv_iinc (v := nI (i + 1)) (lv' := [(4, .int (nI (i + 1))), (0, .ref (h 0)), (1, .int nd), (2, .int so), (3, .int (nI x))]) hx hb dX1_count_39 hl (k := 4) rfl (nI_add i 1) (by decide) rfl (fun ls hl => ?_)
            refine lv_goto (tgt := 5) hx hb dX1_count_42 (by decide) ?_
            exact ih_LA (i + 1) x (by omega) (by omega) (ex.trans (z_cnt_n (fun q => c_33 q.2)).symm) _ _ hP hD hS ls (lv_sub hl [1, 2, 3, 4, 0] rfl)
          · refine lv_iinc (v := nI (x + 1)) (lv' := [(3, .int (nI (x + 1))), (0, .ref (h 0)), (1, .int nd), (2, .int so), (4, .int (nI i))]) hx hb dX1_count_36 hl (k := 3) rfl (nI_add x 1) (by decide) rfl (fun ls hl => ?_)
            refine lv_iinc (v := nI (i + 1)) (lv' := [(4, .int (nI (i + 1))), (3, .int (nI (x + 1))), (0, .ref (h 0)), (1, .int nd), (2, .int so)]) hx hb dX1_count_39 hl (k := 4) rfl (nI_add i 1) (by decide) rfl (fun ls hl => ?_)
            refine lv_goto (tgt := 5) hx hb dX1_count_42 (by decide) ?_
            exact ih_LA (i + 1) (x + 1) (by omega) (by omega) (by rw [z_cnt_y c_22 c_33, ex]) _ _ hP hD hS ls (lv_sub hl [2, 3, 4, 1, 0] rfl)
  exact LA (he + 1) 0 0 (Nat.zero_le _) (by omega) rfl _ _ hP hD hS ls (lv_sub hl [2, 3, 4, 1, 0] rfl)
set_option maxHeartbeats 4000000 in
/-- find(name, sort, value) -/
theorem zd_find (l : Launch) (D : va_G) (cA : ClassId) (sz : Nat) (h : Nat → Nat) (he : Nat) (nm es ev : Nat → Int32) (ke la pl ro : Int32) (nd so va : Int32) (hhe : he ≤ 24) : z_Mi (S := Unit) l yX1_find cX1_find 5 .int ({ frames := 0, cells := 0, slots := 0, locals := 0 } : Room) D cA sz [.ref (h 0), .int nd, .int so, .int va] (z_w1 cA h (nI he) nm es ev (ke) (la) (pl) (ro)) (fun r _ => (∃ j, z_at nm es ev nd so va he = some j ∧ r = nI j) ∨ (z_at nm es ev nd so va he = none ∧ r = (-1))) (fun _ => z_w1 cA h (nI he) nm es ev (ke) (la) (pl) (ro)) := by
  refine z_ofi (by decide) (Nat.le_of_ble_eq_true rfl) ?_
  intro p e s m below meth c A Q hx hb hml hown hts hA hret hK hP hD hS ls hl
  have hown : s.vm.findClass RX1 = some m.cls := hown
  have hl : lv_has ls 5 [(0, .ref (h 0)), (1, .int nd), (2, .int so), (3, .int va)] := hl
  refine lv_iconst (v := nI 0) hx hb dX1_find_0 (by decide) ?_
  refine lv_istore (lv' := [(4, .int (nI 0)), (0, .ref (h 0)), (1, .int nd), (2, .int so), (3, .int va)]) hx hb dX1_find_1 hl (by decide) rfl (fun ls hl => ?_)
  have LA : ∀ (n : Nat) (i : Nat), (i ≤ he) → (he < i + n) → (z_at nm es ev nd so va i = none) → ∀ (H : Heap) (locs : List Loc), va_P D z_cl (z_w1 cA h (nI he) nm es ev (ke) (la) (pl) (ro)) H → va_D A (z_w1 cA h (nI he) nm es ev (ke) (la) (pl) (ro)) → va_S A s.heap H locs → ∀ ls : Array Slot, lv_has ls 5 [(0, .ref (h 0)), (1, .int nd), (2, .int so), (3, .int va), (4, .int (nI i))] → W p l e ({ frames := 0, cells := 0, slots := 0, locals := 0 } : Room) s m ([.ref (h 0), .int nd, .int so, .int va] : List Value).toArray below meth c H locs 0 0 Q (F0 m 3 ls []) := by
    intro n
    induction n with
    | zero =>
      intro i hi hn e0
      exact absurd hn (by omega)
    | succ n ih_LA =>
      intro i hi hn e0 H locs hP hD hS ls hl
      refine lv_iload hx hb dX1_find_3 (lv_at hl 4 rfl) ?_
      refine lv_aload_n hx hb dX1_find_5 rfl (lv_at hl 0 rfl) ?_
      refine va_get (D := D) (ci := 1) (v := .int (nI he)) (C := RX1) (T := TX1) (N := 8) hx hb hts in_X1 hown hK hP 0 rfl rfl 0 (by decide) (hts _ q183) (fun _ h9 => h9) rfl dX1_find_6 ?_
      refine zn_icmp_ge (tgt := 54) hx hb (a := i) (b := he) (by omega) (by omega) dX1_find_9 (by decide) (fun c_9 => ?_) (fun c_9 => ?_)
      · refine lv_iconst (v := (-1)) hx hb dX1_find_54 (by decide) ?_
        exact hret ((-1)) () _ _ _ _ dX1_find_55 rfl (Or.inr ⟨by rw [show he = i by omega]; exact e0, rfl⟩) hP hD hS
      · refine lv_aload_n hx hb dX1_find_12 rfl (lv_at hl 0 rfl) ?_
        refine va_get (D := D) (ci := 1) (v := .ref (h 1)) (C := RX1) (T := TX1) (N := 8) hx hb hts in_X1 hown hK hP 0 rfl rfl 1 (by decide) (hts _ q184) (fun _ h9 => h9) rfl dX1_find_13 ?_
        refine lv_iload hx hb dX1_find_16 (lv_at hl 4 rfl) ?_
        refine zn_ild hx hb hK hP 1 0 rfl rfl (i := i) (by omega) (by decide) dX1_find_18 ?_
        refine lv_iload_n hx hb dX1_find_19 rfl (lv_at hl 1 rfl) ?_
        refine lv_icmp_ne (tgt := 48) (x := nm i) (y := nd) hx hb dX1_find_20 (by decide) (fun c_20 => ?_) (fun c_20 => ?_)
        · refine lv_iinc (v := nI (i + 1)) (lv' := [(4, .int (nI (i + 1))), (0, .ref (h 0)), (1, .int nd), (2, .int so), (3, .int va)]) hx hb dX1_find_48 hl (k := 4) rfl (nI_add i 1) (by decide) rfl (fun ls hl => ?_)
          refine lv_goto (tgt := 3) hx hb dX1_find_51 (by decide) ?_
          exact ih_LA (i + 1) (by omega) (by omega) (z_at_n e0 (fun q => c_20 q.1)) _ _ hP hD hS ls (lv_sub hl [1, 2, 3, 4, 0] rfl)
        · refine lv_aload_n hx hb dX1_find_23 rfl (lv_at hl 0 rfl) ?_
          refine va_get (D := D) (ci := 1) (v := .ref (h 2)) (C := RX1) (T := TX1) (N := 8) hx hb hts in_X1 hown hK hP 0 rfl rfl 2 (by decide) (hts _ q185) (fun _ h9 => h9) rfl dX1_find_24 ?_
          refine lv_iload hx hb dX1_find_27 (lv_at hl 4 rfl) ?_
          refine zn_ild hx hb hK hP 2 0 rfl rfl (i := i) (by omega) (by decide) dX1_find_29 ?_
          refine lv_iload_n hx hb dX1_find_30 rfl (lv_at hl 2 rfl) ?_
          refine lv_icmp_ne (tgt := 48) (x := es i) (y := so) hx hb dX1_find_31 (by decide) (fun c_31 => ?_) (fun c_31 => ?_)
          · refine lv_iinc (v := nI (i + 1)) (lv' := [(4, .int (nI (i + 1))), (0, .ref (h 0)), (1, .int nd), (2, .int so), (3, .int va)]) hx hb dX1_find_48 hl (k := 4) rfl (nI_add i 1) (by decide) rfl (fun ls hl => ?_)
            refine lv_goto (tgt := 3) hx hb dX1_find_51 (by decide) ?_
            exact ih_LA (i + 1) (by omega) (by omega) (z_at_n e0 (fun q => c_31 q.2.1)) _ _ hP hD hS ls (lv_sub hl [1, 2, 3, 4, 0] rfl)
          · refine lv_aload_n hx hb dX1_find_34 rfl (lv_at hl 0 rfl) ?_
            refine va_get (D := D) (ci := 1) (v := .ref (h 3)) (C := RX1) (T := TX1) (N := 8) hx hb hts in_X1 hown hK hP 0 rfl rfl 3 (by decide) (hts _ q186) (fun _ h9 => h9) rfl dX1_find_35 ?_
            refine lv_iload hx hb dX1_find_38 (lv_at hl 4 rfl) ?_
            refine zn_ild hx hb hK hP 3 0 rfl rfl (i := i) (by omega) (by decide) dX1_find_40 ?_
            refine lv_iload_n hx hb dX1_find_41 rfl (lv_at hl 3 rfl) ?_
            refine lv_icmp_ne (tgt := 48) (x := ev i) (y := va) hx hb dX1_find_42 (by decide) (fun c_42 => ?_) (fun c_42 => ?_)
            · refine lv_iinc (v := nI (i + 1)) (lv' := [(4, .int (nI (i + 1))), (0, .ref (h 0)), (1, .int nd), (2, .int so), (3, .int va)]) hx hb dX1_find_48 hl (k := 4) rfl (nI_add i 1) (by decide) rfl (fun ls hl => ?_)
              refine lv_goto (tgt := 3) hx hb dX1_find_51 (by decide) ?_
              exact ih_LA (i + 1) (by omega) (by omega) (z_at_n e0 (fun q => c_42 q.2.2)) _ _ hP hD hS ls (lv_sub hl [1, 2, 3, 4, 0] rfl)
            · refine lv_iload hx hb dX1_find_45 (lv_at hl 4 rfl) ?_
              exact hret (nI i) () _ _ _ _ dX1_find_47 rfl (Or.inl ⟨i, z_at_y e0 c_20 c_31 c_42 c_9, rfl⟩) hP hD hS
  exact LA (he + 1) 0 (Nat.zero_le _) (by omega) rfl _ _ hP hD hS ls (lv_sub hl [1, 2, 3, 4, 0] rfl)
set_option maxHeartbeats 4000000 in
/-- valueOf(name, sort, index) -/
theorem zd_valueOf (l : Launch) (D : va_G) (cA : ClassId) (sz : Nat) (h : Nat → Nat) (he : Nat) (nm es ev : Nat → Int32) (ke la pl ro : Int32) (nd so ix : Int32) (hhe : he ≤ 24) : z_Mi (S := Unit) l yX1_valueOf cX1_valueOf 7 .int ({ frames := 0, cells := 0, slots := 0, locals := 0 } : Room) D cA sz [.ref (h 0), .int nd, .int so, .int ix] (z_w1 cA h (nI he) nm es ev (ke) (la) (pl) (ro)) (fun r _ => r = z_val nm es ev nd so ix he) (fun _ => z_w1 cA h (nI he) nm es ev (ke) (la) (pl) (ro)) := by
  refine z_ofi (by decide) (Nat.le_of_ble_eq_true rfl) ?_
  intro p e s m below meth c A Q hx hb hml hown hts hA hret hK hP hD hS ls hl
  have hown : s.vm.findClass RX1 = some m.cls := hown
  have hl : lv_has ls 7 [(0, .ref (h 0)), (1, .int nd), (2, .int so), (3, .int ix)] := hl
  refine lv_iconst (v := nI 0) hx hb dX1_valueOf_0 (by decide) ?_
  refine lv_istore (lv' := [(4, .int (nI 0)), (0, .ref (h 0)), (1, .int nd), (2, .int so), (3, .int ix)]) hx hb dX1_valueOf_1 hl (by decide) rfl (fun ls hl => ?_)
  have LA : ∀ (n : Nat) (i : Nat), (i ≤ he) → (he < i + n) → (z_rank nm es ev nd so ix he i = none) → ∀ (H : Heap) (locs : List Loc), va_P D z_cl (z_w1 cA h (nI he) nm es ev (ke) (la) (pl) (ro)) H → va_D A (z_w1 cA h (nI he) nm es ev (ke) (la) (pl) (ro)) → va_S A s.heap H locs → ∀ ls : Array Slot, lv_has ls 7 [(0, .ref (h 0)), (1, .int nd), (2, .int so), (3, .int ix), (4, .int (nI i))] → W p l e ({ frames := 0, cells := 0, slots := 0, locals := 0 } : Room) s m ([.ref (h 0), .int nd, .int so, .int ix] : List Value).toArray below meth c H locs 0 0 Q (F0 m 3 ls []) := by
    intro n
    induction n with
    | zero =>
      intro i hi hn e0
      exact absurd hn (by omega)
    | succ n ih_LA =>
      intro i hi hn e0 H locs hP hD hS ls hl
      refine lv_iload hx hb dX1_valueOf_3 (lv_at hl 4 rfl) ?_
      refine lv_aload_n hx hb dX1_valueOf_5 rfl (lv_at hl 0 rfl) ?_
      refine va_get (D := D) (ci := 1) (v := .int (nI he)) (C := RX1) (T := TX1) (N := 8) hx hb hts in_X1 hown hK hP 0 rfl rfl 0 (by decide) (hts _ q183) (fun _ h9 => h9) rfl dX1_valueOf_6 ?_
      refine zn_icmp_ge (tgt := 117) hx hb (a := i) (b := he) (by omega) (by omega) dX1_valueOf_9 (by decide) (fun c_9 => ?_) (fun c_9 => ?_)
      · refine lv_iconst (v := nI 0) hx hb dX1_valueOf_117 (by decide) ?_
        exact hret (nI 0) () _ _ _ _ dX1_valueOf_118 rfl (by rw [show i = he by omega] at e0; exact z_rank_0 e0) hP hD hS
      · refine lv_aload_n hx hb dX1_valueOf_12 rfl (lv_at hl 0 rfl) ?_
        refine va_get (D := D) (ci := 1) (v := .ref (h 1)) (C := RX1) (T := TX1) (N := 8) hx hb hts in_X1 hown hK hP 0 rfl rfl 1 (by decide) (hts _ q184) (fun _ h9 => h9) rfl dX1_valueOf_13 ?_
        refine lv_iload hx hb dX1_valueOf_16 (lv_at hl 4 rfl) ?_
        refine zn_ild hx hb hK hP 1 0 rfl rfl (i := i) (by omega) (by decide) dX1_valueOf_18 ?_
        refine lv_iload_n hx hb dX1_valueOf_19 rfl (lv_at hl 1 rfl) ?_
        refine lv_icmp_ne (tgt := 111) (x := nm i) (y := nd) hx hb dX1_valueOf_20 (by decide) (fun c_20 => ?_) (fun c_20 => ?_)
        · refine lv_iinc (v := nI (i + 1)) (lv' := [(4, .int (nI (i + 1))), (0, .ref (h 0)), (1, .int nd), (2, .int so), (3, .int ix)]) hx hb dX1_valueOf_111 hl (k := 4) rfl (nI_add i 1) (by decide) rfl (fun ls hl => ?_)
          refine lv_goto (tgt := 3) hx hb dX1_valueOf_114 (by decide) ?_
          exact ih_LA (i + 1) (by omega) (by omega) (z_rank_n e0 (fun q => c_20 q.1)) _ _ hP hD hS ls (lv_sub hl [1, 2, 3, 4, 0] rfl)
        · refine lv_aload_n hx hb dX1_valueOf_23 rfl (lv_at hl 0 rfl) ?_
          refine va_get (D := D) (ci := 1) (v := .ref (h 2)) (C := RX1) (T := TX1) (N := 8) hx hb hts in_X1 hown hK hP 0 rfl rfl 2 (by decide) (hts _ q185) (fun _ h9 => h9) rfl dX1_valueOf_24 ?_
          refine lv_iload hx hb dX1_valueOf_27 (lv_at hl 4 rfl) ?_
          refine zn_ild hx hb hK hP 2 0 rfl rfl (i := i) (by omega) (by decide) dX1_valueOf_29 ?_
          refine lv_iload_n hx hb dX1_valueOf_30 rfl (lv_at hl 2 rfl) ?_
          refine lv_icmp_ne (tgt := 111) (x := es i) (y := so) hx hb dX1_valueOf_31 (by decide) (fun c_31 => ?_) (fun c_31 => ?_)
          · refine lv_iinc (v := nI (i + 1)) (lv' := [(4, .int (nI (i + 1))), (0, .ref (h 0)), (1, .int nd), (2, .int so), (3, .int ix)]) hx hb dX1_valueOf_111 hl (k := 4) rfl (nI_add i 1) (by decide) rfl (fun ls hl => ?_)
            refine lv_goto (tgt := 3) hx hb dX1_valueOf_114 (by decide) ?_
            exact ih_LA (i + 1) (by omega) (by omega) (z_rank_n e0 (fun q => c_31 q.2.1)) _ _ hP hD hS ls (lv_sub hl [1, 2, 3, 4, 0] rfl)
          · refine lv_iconst (v := nI 0) hx hb dX1_valueOf_34 (by decide) ?_
            refine lv_istore (lv' := [(5, .int (nI 0)), (0, .ref (h 0)), (1, .int nd), (2, .int so), (3, .int ix), (4, .int (nI i))]) hx hb dX1_valueOf_35 hl (by decide) rfl (fun ls hl => ?_)
            refine lv_iconst (v := nI 0) hx hb dX1_valueOf_37 (by decide) ?_
            refine lv_istore (lv' := [(6, .int (nI 0)), (5, .int (nI 0)), (0, .ref (h 0)), (1, .int nd), (2, .int so), (3, .int ix), (4, .int (nI i))]) hx hb dX1_valueOf_38 hl (by decide) rfl (fun ls hl => ?_)
            have LB : ∀ (n : Nat) (f : Nat) (x : Nat), (f ≤ he) → (he < f + n) → (x = z_less nm es ev nd so (ev i) f) → ∀ (H : Heap) (locs : List Loc), va_P D z_cl (z_w1 cA h (nI he) nm es ev (ke) (la) (pl) (ro)) H → va_D A (z_w1 cA h (nI he) nm es ev (ke) (la) (pl) (ro)) → va_S A s.heap H locs → ∀ ls : Array Slot, lv_has ls 7 [(0, .ref (h 0)), (1, .int nd), (2, .int so), (3, .int ix), (4, .int (nI i)), (5, .int (nI x)), (6, .int (nI f))] → W p l e ({ frames := 0, cells := 0, slots := 0, locals := 0 } : Room) s m ([.ref (h 0), .int nd, .int so, .int ix] : List Value).toArray below meth c H locs 0 0 Q (F0 m 40 ls []) := by
              intro n
              induction n with
              | zero =>
                intro f x hf hn ex
                exact absurd hn (by omega)
              | succ n ih_LB =>
                intro f x hf hn ex H locs hP hD hS ls hl
                refine lv_iload hx hb dX1_valueOf_40 (lv_at hl 6 rfl) ?_
                refine lv_aload_n hx hb dX1_valueOf_42 rfl (lv_at hl 0 rfl) ?_
                refine va_get (D := D) (ci := 1) (v := .int (nI he)) (C := RX1) (T := TX1) (N := 8) hx hb hts in_X1 hown hK hP 0 rfl rfl 0 (by decide) (hts _ q183) (fun _ h9 => h9) rfl dX1_valueOf_43 ?_
                refine zn_icmp_ge (tgt := 97) hx hb (a := f) (b := he) (by omega) (by omega) dX1_valueOf_46 (by decide) (fun c_46 => ?_) (fun c_46 => ?_)
                · have hfe : f = he := by omega
                  rw [hfe] at ex
                  refine lv_iload hx hb dX1_valueOf_97 (lv_at hl 5 rfl) ?_
                  refine lv_iload_n hx hb dX1_valueOf_99 rfl (lv_at hl 3 rfl) ?_
                  refine lv_icmp_ne (tgt := 111) (x := nI x) (y := ix) hx hb dX1_valueOf_100 (by decide) (fun c_100 => ?_) (fun c_100 => ?_)
                  · refine lv_iinc (v := nI (i + 1)) (lv' := [(4, .int (nI (i + 1))), (0, .ref (h 0)), (1, .int nd), (2, .int so), (3, .int ix), (5, .int (nI x)), (6, .int (nI f))]) hx hb dX1_valueOf_111 hl (k := 4) rfl (nI_add i 1) (by decide) rfl (fun ls hl => ?_)
                    refine lv_goto (tgt := 3) hx hb dX1_valueOf_114 (by decide) ?_
                    exact ih_LA (i + 1) (by omega) (by omega) (z_rank_n e0 (fun q => c_100 (by rw [ex]; exact q.2.2))) _ _ hP hD hS ls (lv_sub hl [1, 2, 3, 4, 0] rfl)
                  · refine lv_aload_n hx hb dX1_valueOf_103 rfl (lv_at hl 0 rfl) ?_
                    refine va_get (D := D) (ci := 1) (v := .ref (h 3)) (C := RX1) (T := TX1) (N := 8) hx hb hts in_X1 hown hK hP 0 rfl rfl 3 (by decide) (hts _ q186) (fun _ h9 => h9) rfl dX1_valueOf_104 ?_
                    refine lv_iload hx hb dX1_valueOf_107 (lv_at hl 4 rfl) ?_
                    refine zn_ild hx hb hK hP 3 0 rfl rfl (i := i) (by omega) (by decide) dX1_valueOf_109 ?_
                    exact hret (ev i) () _ _ _ _ dX1_valueOf_110 rfl (z_rank_y e0 c_20 c_31 (by rw [← ex]; exact c_100) c_9) hP hD hS
                · refine lv_aload_n hx hb dX1_valueOf_49 rfl (lv_at hl 0 rfl) ?_
                  refine va_get (D := D) (ci := 1) (v := .ref (h 1)) (C := RX1) (T := TX1) (N := 8) hx hb hts in_X1 hown hK hP 0 rfl rfl 1 (by decide) (hts _ q184) (fun _ h9 => h9) rfl dX1_valueOf_50 ?_
                  refine lv_iload hx hb dX1_valueOf_53 (lv_at hl 6 rfl) ?_
                  refine zn_ild hx hb hK hP 1 0 rfl rfl (i := f) (by omega) (by decide) dX1_valueOf_55 ?_
                  refine lv_iload_n hx hb dX1_valueOf_56 rfl (lv_at hl 1 rfl) ?_
                  refine lv_icmp_ne (tgt := 91) (x := nm f) (y := nd) hx hb dX1_valueOf_57 (by decide) (fun c_57 => ?_) (fun c_57 => ?_)
                  · refine lv_iinc (v := nI (f + 1)) (lv' := [(6, .int (nI (f + 1))), (0, .ref (h 0)), (1, .int nd), (2, .int so), (3, .int ix), (4, .int (nI i)), (5, .int (nI x))]) hx hb dX1_valueOf_91 hl (k := 6) rfl (nI_add f 1) (by decide) rfl (fun ls hl => ?_)
                    refine lv_goto (tgt := 40) hx hb dX1_valueOf_94 (by decide) ?_
                    exact ih_LB (f + 1) x (by omega) (by omega) (ex.trans (z_less_n (fun q => c_57 q.1)).symm) _ _ hP hD hS ls (lv_sub hl [1, 2, 3, 4, 5, 6, 0] rfl)
                  · refine lv_aload_n hx hb dX1_valueOf_60 rfl (lv_at hl 0 rfl) ?_
                    refine va_get (D := D) (ci := 1) (v := .ref (h 2)) (C := RX1) (T := TX1) (N := 8) hx hb hts in_X1 hown hK hP 0 rfl rfl 2 (by decide) (hts _ q185) (fun _ h9 => h9) rfl dX1_valueOf_61 ?_
                    refine lv_iload hx hb dX1_valueOf_64 (lv_at hl 6 rfl) ?_
                    refine zn_ild hx hb hK hP 2 0 rfl rfl (i := f) (by omega) (by decide) dX1_valueOf_66 ?_
                    refine lv_iload_n hx hb dX1_valueOf_67 rfl (lv_at hl 2 rfl) ?_
                    refine lv_icmp_ne (tgt := 91) (x := es f) (y := so) hx hb dX1_valueOf_68 (by decide) (fun c_68 => ?_) (fun c_68 => ?_)
                    · refine lv_iinc (v := nI (f + 1)) (lv' := [(6, .int (nI (f + 1))), (0, .ref (h 0)), (1, .int nd), (2, .int so), (3, .int ix), (4, .int (nI i)), (5, .int (nI x))]) hx hb dX1_valueOf_91 hl (k := 6) rfl (nI_add f 1) (by decide) rfl (fun ls hl => ?_)
                      refine lv_goto (tgt := 40) hx hb dX1_valueOf_94 (by decide) ?_
                      exact ih_LB (f + 1) x (by omega) (by omega) (ex.trans (z_less_n (fun q => c_68 q.2.1)).symm) _ _ hP hD hS ls (lv_sub hl [1, 2, 3, 4, 5, 6, 0] rfl)
                    · refine lv_aload_n hx hb dX1_valueOf_71 rfl (lv_at hl 0 rfl) ?_
                      refine va_get (D := D) (ci := 1) (v := .ref (h 3)) (C := RX1) (T := TX1) (N := 8) hx hb hts in_X1 hown hK hP 0 rfl rfl 3 (by decide) (hts _ q186) (fun _ h9 => h9) rfl dX1_valueOf_72 ?_
                      refine lv_iload hx hb dX1_valueOf_75 (lv_at hl 6 rfl) ?_
                      refine zn_ild hx hb hK hP 3 0 rfl rfl (i := f) (by omega) (by decide) dX1_valueOf_77 ?_
                      refine lv_aload_n hx hb dX1_valueOf_78 rfl (lv_at hl 0 rfl) ?_
                      refine va_get (D := D) (ci := 1) (v := .ref (h 3)) (C := RX1) (T := TX1) (N := 8) hx hb hts in_X1 hown hK hP 0 rfl rfl 3 (by decide) (hts _ q186) (fun _ h9 => h9) rfl dX1_valueOf_79 ?_
                      refine lv_iload hx hb dX1_valueOf_82 (lv_at hl 4 rfl) ?_
                      refine zn_ild hx hb hK hP 3 0 rfl rfl (i := i) (by omega) (by decide) dX1_valueOf_84 ?_
                      refine lv_icmp_ge (tgt := 91) (x := ev f) (y := ev i) hx hb dX1_valueOf_85 (by decide) (fun c_85 => ?_) (fun c_85 => ?_)
                      · refine lv_iinc (v := nI (f + 1)) (lv' := [(6, .int (nI (f + 1))), (0, .ref (h 0)), (1, .int nd), (2, .int so), (3, .int ix), (4, .int (nI i)), (5, .int (nI x))]) hx hb dX1_valueOf_91 hl (k := 6) rfl (nI_add f 1) (by decide) rfl (fun ls hl => ?_)
                        refine lv_goto (tgt := 40) hx hb dX1_valueOf_94 (by decide) ?_
                        exact ih_LB (f + 1) x (by omega) (by omega) (ex.trans (z_less_n (fun q => Int32.not_lt.mpr c_85 q.2.2)).symm) _ _ hP hD hS ls (lv_sub hl [1, 2, 3, 4, 5, 6, 0] rfl)
                      · refine lv_iinc (v := nI (x + 1)) (lv' := [(5, .int (nI (x + 1))), (0, .ref (h 0)), (1, .int nd), (2, .int so), (3, .int ix), (4, .int (nI i)), (6, .int (nI f))]) hx hb dX1_valueOf_88 hl (k := 5) rfl (nI_add x 1) (by decide) rfl (fun ls hl => ?_)
                        refine lv_iinc (v := nI (f + 1)) (lv' := [(6, .int (nI (f + 1))), (5, .int (nI (x + 1))), (0, .ref (h 0)), (1, .int nd), (2, .int so), (3, .int ix), (4, .int (nI i))]) hx hb dX1_valueOf_91 hl (k := 6) rfl (nI_add f 1) (by decide) rfl (fun ls hl => ?_)
                        refine lv_goto (tgt := 40) hx hb dX1_valueOf_94 (by decide) ?_
                        exact ih_LB (f + 1) (x + 1) (by omega) (by omega) (by rw [z_less_y c_57 c_68 (Int32.not_le.mp c_85), ex]) _ _ hP hD hS ls (lv_sub hl [2, 3, 4, 5, 6, 1, 0] rfl)
            exact LB (he + 1) 0 0 (Nat.zero_le _) (by omega) rfl _ _ hP hD hS ls (lv_sub hl [2, 3, 4, 5, 6, 1, 0] rfl)
  exact LA (he + 1) 0 (Nat.zero_le _) (by omega) rfl _ _ hP hD hS ls (lv_sub hl [1, 2, 3, 4, 0] rfl)
set_option maxHeartbeats 4000000 in
/-- erase() -/
theorem zd_erase (l : Launch) (D : va_G) (cA : ClassId) (sz : Nat) (h : Nat → Nat) (he : Nat) (nm es ev : Nat → Int32) (ke la pl ro : Int32) : z_Mv (S := Unit) l yX1_erase cX1_erase 1 ({ frames := 0, cells := 0, slots := 0, locals := 0 } : Room) D cA sz [.ref (h 0)] (z_w1 cA h (nI he) nm es ev (ke) (la) (pl) (ro)) (fun _ => True) (fun _ => z_w1 cA h (nI he) nm es ev (nI 0) (nI 0) (pl) (ro)) := by
  refine z_ofv (by decide) (Nat.le_of_ble_eq_true rfl) ?_
  intro p e s m below meth c A Q hx hb hml hown hts hA hret hK hP hD hS ls hl
  have hown : s.vm.findClass RX1 = some m.cls := hown
  have hl : lv_has ls 1 [(0, .ref (h 0))] := hl
  refine lv_aload_n hx hb dX1_erase_0 rfl (lv_at hl 0 rfl) ?_
  refine lv_iconst (v := nI 0) hx hb dX1_erase_1 (by decide) ?_
  refine va_put (D := D) (ci := 1) (v := .int (nI 0)) (ty := .int) (C := RX1) (T := TX1) (N := 8) hx hb hts in_X1 tyX1 tyX1_ok nmX1 hown hK hP hD hS 0 rfl rfl 4 (by decide) (hts _ q187) (fun _ h9 => h9) rfl (by decide +kernel) rfl rfl (Nat.le_of_ble_eq_true rfl) dX1_erase_2 (fun H locs hP hD hS => ?_)
  have hP : va_P D z_cl (z_w1 cA h (nI he) nm es ev (nI 0) (la) (pl) (ro)) H := hP
  have hD : va_D A (z_w1 cA h (nI he) nm es ev (nI 0) (la) (pl) (ro)) := hD
  refine lv_aload_n hx hb dX1_erase_5 rfl (lv_at hl 0 rfl) ?_
  refine lv_iconst (v := nI 0) hx hb dX1_erase_6 (by decide) ?_
  refine va_put (D := D) (ci := 1) (v := .int (nI 0)) (ty := .int) (C := RX1) (T := TX1) (N := 8) hx hb hts in_X1 tyX1 tyX1_ok nmX1 hown hK hP hD hS 0 rfl rfl 5 (by decide) (hts _ q188) (fun _ h9 => h9) rfl (by decide +kernel) rfl rfl (Nat.le_of_ble_eq_true rfl) dX1_erase_7 (fun H locs hP hD hS => ?_)
  have hP : va_P D z_cl (z_w1 cA h (nI he) nm es ev (nI 0) (nI 0) (pl) (ro)) H := hP
  have hD : va_D A (z_w1 cA h (nI he) nm es ev (nI 0) (nI 0) (pl) (ro)) := hD
  exact hret () _ _ _ _ dX1_erase_10 trivial hP hD hS
set_option maxHeartbeats 4000000 in
/-- number() -/
theorem zd_number (l : Launch) (D : va_G) (cA : ClassId) (sz : Nat) (h : Nat → Nat) (he : Nat) (nm es ev : Nat → Int32) (ke la pl ro : Int32) : z_Mi (S := Unit) l yX1_number cX1_number 1 .int ({ frames := 0, cells := 0, slots := 0, locals := 0 } : Room) D cA sz [.ref (h 0)] (z_w1 cA h (nI he) nm es ev (ke) (la) (pl) (ro)) (fun r _ => r = ke) (fun _ => z_w1 cA h (nI he) nm es ev (ke) (la) (pl) (ro)) := by
  refine z_ofi (by decide) (Nat.le_of_ble_eq_true rfl) ?_
  intro p e s m below meth c A Q hx hb hml hown hts hA hret hK hP hD hS ls hl
  have hown : s.vm.findClass RX1 = some m.cls := hown
  have hl : lv_has ls 1 [(0, .ref (h 0))] := hl
  refine lv_aload_n hx hb dX1_number_0 rfl (lv_at hl 0 rfl) ?_
  refine va_get (D := D) (ci := 1) (v := .int ke) (C := RX1) (T := TX1) (N := 8) hx hb hts in_X1 hown hK hP 0 rfl rfl 4 (by decide) (hts _ q187) (fun _ h9 => h9) rfl dX1_number_1 ?_
  exact hret (ke) () _ _ _ _ dX1_number_4 rfl rfl hP hD hS
set_option maxHeartbeats 4000000 in
/-- label(label) -/
theorem zd_label (l : Launch) (D : va_G) (cA : ClassId) (sz : Nat) (h : Nat → Nat) (he : Nat) (nm es ev : Nat → Int32) (K kl : Nat) (pl ro : Int32) (pa : Int32) (hkl : kl ≤ 4) : z_Mi (S := Nat × Nat) l yX1_label cX1_label 2 .int ({ frames := 0, cells := 0, slots := 0, locals := 0 } : Room) D cA sz [.ref (h 0), .int pa] (z_w1 cA h (nI he) nm es ev (nI K) (nI kl) (pl) (ro)) (fun r (u : Nat × Nat) => (kl < 4 ∧ r = nI (kl + 1) ∧ u.1 = 9 * K + z_lo pa + 1 ∧ u.2 = kl + 1) ∨ (¬ kl < 4 ∧ r = (-1) ∧ u.1 = K ∧ u.2 = kl)) (fun u => z_w1 cA h (nI he) nm es ev (nI u.1) (nI u.2) (pl) (ro)) := by
  refine z_ofi (by decide) (Nat.le_of_ble_eq_true rfl) ?_
  intro p e s m below meth c A Q hx hb hml hown hts hA hret hK hP hD hS ls hl
  have hown : s.vm.findClass RX1 = some m.cls := hown
  have hl : lv_has ls 2 [(0, .ref (h 0)), (1, .int pa)] := hl
  refine lv_aload_n hx hb dX1_label_0 rfl (lv_at hl 0 rfl) ?_
  refine va_get (D := D) (ci := 1) (v := .int (nI kl)) (C := RX1) (T := TX1) (N := 8) hx hb hts in_X1 hown hK hP 0 rfl rfl 5 (by decide) (hts _ q188) (fun _ h9 => h9) rfl dX1_label_1 ?_
  refine lv_iconst (v := nI 4) hx hb dX1_label_4 (by decide) ?_
  refine zn_icmp_ne (tgt := 10) hx hb (a := kl) (b := 4) (by omega) (by decide) dX1_label_5 (by decide) (fun c_5 => ?_) (fun c_5 => ?_)
  · refine lv_aload_n hx hb dX1_label_10 rfl (lv_at hl 0 rfl) ?_
    refine lv_aload_n hx hb dX1_label_11 rfl (lv_at hl 0 rfl) ?_
    refine va_get (D := D) (ci := 1) (v := .int (nI K)) (C := RX1) (T := TX1) (N := 8) hx hb hts in_X1 hown hK hP 0 rfl rfl 4 (by decide) (hts _ q187) (fun _ h9 => h9) rfl dX1_label_12 ?_
    refine lv_bipush (v := nI 9) hx hb dX1_label_15 (by decide) ?_
    refine zn_imul hx hb (a := K) (b := 9) dX1_label_17 ?_
    refine lv_iload_n hx hb dX1_label_18 rfl (lv_at hl 1 rfl) ?_
    refine lv_bipush (v := nI 7) hx hb dX1_label_19 (by decide) ?_
    refine zn_iand7 hx hb dX1_label_21 ?_
    refine zn_iadd hx hb (a := K * 9) (b := z_lo pa) dX1_label_22 ?_
    refine lv_iconst (v := nI 1) hx hb dX1_label_23 (by decide) ?_
    refine zn_iadd hx hb (a := (K * 9) + (z_lo pa)) (b := 1) dX1_label_24 ?_
    refine va_put (D := D) (ci := 1) (v := .int (nI (((K * 9) + (z_lo pa)) + 1))) (ty := .int) (C := RX1) (T := TX1) (N := 8) hx hb hts in_X1 tyX1 tyX1_ok nmX1 hown hK hP hD hS 0 rfl rfl 4 (by decide) (hts _ q187) (fun _ h9 => h9) rfl (by decide +kernel) rfl rfl (Nat.le_of_ble_eq_true rfl) dX1_label_25 (fun H locs hP hD hS => ?_)
    have hP : va_P D z_cl (z_w1 cA h (nI he) nm es ev (nI (((K * 9) + (z_lo pa)) + 1)) (nI kl) (pl) (ro)) H := hP
    have hD : va_D A (z_w1 cA h (nI he) nm es ev (nI (((K * 9) + (z_lo pa)) + 1)) (nI kl) (pl) (ro)) := hD
    refine lv_aload_n hx hb dX1_label_28 rfl (lv_at hl 0 rfl) ?_
    refine lv_dup hx hb dX1_label_29 rfl ?_
    refine va_get (D := D) (ci := 1) (v := .int (nI kl)) (C := RX1) (T := TX1) (N := 8) hx hb hts in_X1 hown hK hP 0 rfl rfl 5 (by decide) (hts _ q188) (fun _ h9 => h9) rfl dX1_label_30 ?_
    refine lv_iconst (v := nI 1) hx hb dX1_label_33 (by decide) ?_
    refine zn_iadd hx hb (a := kl) (b := 1) dX1_label_34 ?_
    refine va_put (D := D) (ci := 1) (v := .int (nI (kl + 1))) (ty := .int) (C := RX1) (T := TX1) (N := 8) hx hb hts in_X1 tyX1 tyX1_ok nmX1 hown hK hP hD hS 0 rfl rfl 5 (by decide) (hts _ q188) (fun _ h9 => h9) rfl (by decide +kernel) rfl rfl (Nat.le_of_ble_eq_true rfl) dX1_label_35 (fun H locs hP hD hS => ?_)
    have hP : va_P D z_cl (z_w1 cA h (nI he) nm es ev (nI (((K * 9) + (z_lo pa)) + 1)) (nI (kl + 1)) (pl) (ro)) H := hP
    have hD : va_D A (z_w1 cA h (nI he) nm es ev (nI (((K * 9) + (z_lo pa)) + 1)) (nI (kl + 1)) (pl) (ro)) := hD
    refine lv_aload_n hx hb dX1_label_38 rfl (lv_at hl 0 rfl) ?_
    refine va_get (D := D) (ci := 1) (v := .int (nI (kl + 1))) (C := RX1) (T := TX1) (N := 8) hx hb hts in_X1 hown hK hP 0 rfl rfl 5 (by decide) (hts _ q188) (fun _ h9 => h9) rfl dX1_label_39 ?_
    exact hret (nI (kl + 1)) (K * 9 + z_lo pa + 1, kl + 1) _ _ _ _ dX1_label_42 rfl (Or.inl ⟨by omega, rfl, by dsimp only; omega, rfl⟩) hP hD hS
  · refine lv_iconst (v := (-1)) hx hb dX1_label_8 (by decide) ?_
    exact hret ((-1)) (K, kl) _ _ _ _ dX1_label_9 rfl (Or.inr ⟨by omega, rfl, rfl, rfl⟩) hP hD hS
set_option maxHeartbeats 4000000 in
/-- back() -/
theorem zd_back (l : Launch) (D : va_G) (cA : ClassId) (sz : Nat) (h : Nat → Nat) (he : Nat) (nm es ev : Nat → Int32) (K kl : Nat) (pl ro : Int32) (hkl : kl ≤ 4) (hK : K ≤ 6560) (hK9 : 0 < kl → 0 < K % 9) : z_Mi (S := Nat × Nat) l yX1_back cX1_back 2 .int ({ frames := 0, cells := 0, slots := 0, locals := 0 } : Room) D cA sz [.ref (h 0)] (z_w1 cA h (nI he) nm es ev (nI K) (nI kl) (pl) (ro)) (fun r (u : Nat × Nat) => (kl = 0 ∧ r = (-1) ∧ u.1 = K ∧ u.2 = kl) ∨ (0 < kl ∧ r = nI (K % 9 - 1) ∧ u.1 = K / 9 ∧ u.2 = kl - 1)) (fun u => z_w1 cA h (nI he) nm es ev (nI u.1) (nI u.2) (pl) (ro)) := by
  refine z_ofi (by decide) (Nat.le_of_ble_eq_true rfl) ?_
  intro p e s m below meth c A Q hx hb hml hown hts hA hret hK hP hD hS ls hl
  have hown : s.vm.findClass RX1 = some m.cls := hown
  have hl : lv_has ls 2 [(0, .ref (h 0))] := hl
  refine lv_aload_n hx hb dX1_back_0 rfl (lv_at hl 0 rfl) ?_
  refine va_get (D := D) (ci := 1) (v := .int (nI kl)) (C := RX1) (T := TX1) (N := 8) hx hb hts in_X1 hown hK hP 0 rfl rfl 5 (by decide) (hts _ q188) (fun _ h9 => h9) rfl dX1_back_1 ?_
  refine zn_if_ne (tgt := 9) hx hb (a := kl) (by omega) dX1_back_4 (by decide) (fun c_4 => ?_) (fun c_4 => ?_)
  · refine lv_aload_n hx hb dX1_back_9 rfl (lv_at hl 0 rfl) ?_
    refine va_get (D := D) (ci := 1) (v := .int (nI K)) (C := RX1) (T := TX1) (N := 8) hx hb hts in_X1 hown hK hP 0 rfl rfl 4 (by decide) (hts _ q187) (fun _ h9 => h9) rfl dX1_back_10 ?_
    refine lv_bipush (v := nI 9) hx hb dX1_back_13 (by decide) ?_
    refine zn_irem hx hb (a := K) (b := 9) (by omega) (by decide) (by decide) dX1_back_15 ?_
    refine lv_iconst (v := nI 1) hx hb dX1_back_16 (by decide) ?_
    refine zn_isub hx hb (a := K % 9) (b := 1) (by have := hK9 (by omega); omega) dX1_back_17 ?_
    refine lv_istore_n (lv' := [(1, .int (nI ((K % 9) - 1))), (0, .ref (h 0))]) hx hb dX1_back_18 rfl hl (by decide) rfl (fun ls hl => ?_)
    refine lv_aload_n hx hb dX1_back_19 rfl (lv_at hl 1 rfl) ?_
    refine lv_aload_n hx hb dX1_back_20 rfl (lv_at hl 1 rfl) ?_
    refine va_get (D := D) (ci := 1) (v := .int (nI K)) (C := RX1) (T := TX1) (N := 8) hx hb hts in_X1 hown hK hP 0 rfl rfl 4 (by decide) (hts _ q187) (fun _ h9 => h9) rfl dX1_back_21 ?_
    refine lv_bipush (v := nI 9) hx hb dX1_back_24 (by decide) ?_
    refine zn_idiv hx hb (a := K) (b := 9) (by omega) (by decide) (by decide) dX1_back_26 ?_
    refine va_put (D := D) (ci := 1) (v := .int (nI (K / 9))) (ty := .int) (C := RX1) (T := TX1) (N := 8) hx hb hts in_X1 tyX1 tyX1_ok nmX1 hown hK hP hD hS 0 rfl rfl 4 (by decide) (hts _ q187) (fun _ h9 => h9) rfl (by decide +kernel) rfl rfl (Nat.le_of_ble_eq_true rfl) dX1_back_27 (fun H locs hP hD hS => ?_)
    have hP : va_P D z_cl (z_w1 cA h (nI he) nm es ev (nI (K / 9)) (nI kl) (pl) (ro)) H := hP
    have hD : va_D A (z_w1 cA h (nI he) nm es ev (nI (K / 9)) (nI kl) (pl) (ro)) := hD
    refine lv_aload_n hx hb dX1_back_30 rfl (lv_at hl 1 rfl) ?_
    refine lv_dup hx hb dX1_back_31 rfl ?_
    refine va_get (D := D) (ci := 1) (v := .int (nI kl)) (C := RX1) (T := TX1) (N := 8) hx hb hts in_X1 hown hK hP 0 rfl rfl 5 (by decide) (hts _ q188) (fun _ h9 => h9) rfl dX1_back_32 ?_
    refine lv_iconst (v := nI 1) hx hb dX1_back_35 (by decide) ?_
    refine zn_isub hx hb (a := kl) (b := 1) (by omega) dX1_back_36 ?_
    refine va_put (D := D) (ci := 1) (v := .int (nI (kl - 1))) (ty := .int) (C := RX1) (T := TX1) (N := 8) hx hb hts in_X1 tyX1 tyX1_ok nmX1 hown hK hP hD hS 0 rfl rfl 5 (by decide) (hts _ q188) (fun _ h9 => h9) rfl (by decide +kernel) rfl rfl (Nat.le_of_ble_eq_true rfl) dX1_back_37 (fun H locs hP hD hS => ?_)
    have hP : va_P D z_cl (z_w1 cA h (nI he) nm es ev (nI (K / 9)) (nI (kl - 1)) (pl) (ro)) H := hP
    have hD : va_D A (z_w1 cA h (nI he) nm es ev (nI (K / 9)) (nI (kl - 1)) (pl) (ro)) := hD
    refine lv_iload_n hx hb dX1_back_40 rfl (lv_at hl 0 rfl) ?_
    exact hret (nI ((K % 9) - 1)) (K / 9, kl - 1) _ _ _ _ dX1_back_41 rfl (Or.inr ⟨by omega, rfl, rfl, rfl⟩) hP hD hS
  · refine lv_iconst (v := (-1)) hx hb dX1_back_7 (by decide) ?_
    exact hret ((-1)) (K, kl) _ _ _ _ dX1_back_8 rfl (Or.inl ⟨c_4, rfl, rfl, rfl⟩) hP hD hS
set_option maxHeartbeats 4000000 in
/-- isName(n) -/
theorem zd_isName (l : Launch) (D : va_G) (cA : ClassId) (sz : Nat) (w0 : va_W) (va : Int32) : z_Mi (S := Unit) l yX1_isName cX1_isName 3 .boolean ({ frames := 0, cells := 0, slots := 0, locals := 0 } : Room) D cA sz [.int va] (w0) (fun r _ => (r = nI 1 ∧ z_isn va) ∨ (r = nI 0 ∧ ¬ z_isn va)) (fun _ => w0) := by
  refine z_ofi (by decide) (Nat.le_of_ble_eq_true rfl) ?_
  intro p e s m below meth c A Q hx hb hml hown hts hA hret hK hP hD hS ls hl
  have hown : s.vm.findClass RX1 = some m.cls := hown
  have hl : lv_has ls 3 [(0, .int va)] := hl
  refine lv_iload_n hx hb dX1_isName_0 rfl (lv_at hl 0 rfl) ?_
  refine lv_if_lt (tgt := 11) (x := va) hx hb dX1_isName_1 (by decide) (fun c_1 => ?_) (fun c_1 => ?_)
  · refine lv_iconst (v := nI 0) hx hb dX1_isName_11 (by decide) ?_
    exact hret (nI 0) () _ _ _ _ dX1_isName_12 rfl (Or.inr ⟨rfl, z_isn_out (Or.inl c_1)⟩) hP hD hS
  · refine lv_iload_n hx hb dX1_isName_4 rfl (lv_at hl 0 rfl) ?_
    refine lv_sipush (v := nI 6561) hx hb dX1_isName_5 (by decide) ?_
    refine lv_icmp_lt (tgt := 13) (x := va) (y := nI 6561) hx hb dX1_isName_8 (by decide) (fun c_8 => ?_) (fun c_8 => ?_)
    · obtain ⟨k, hk0, rfl⟩ := nI_of c_1
      have hk : k ≤ 6560 := by have := (nI_ltI hk0 (by decide)).mp c_8; omega
      refine lv_iload_n hx hb dX1_isName_13 rfl (lv_at hl 0 rfl) ?_
      refine lv_istore_n (lv' := [(1, .int (nI k)), (0, .int (nI k))]) hx hb dX1_isName_14 rfl hl (by decide) rfl (fun ls hl => ?_)
      refine lv_iconst (v := nI 0) hx hb dX1_isName_15 (by decide) ?_
      refine lv_istore_n (lv' := [(2, .int (nI 0)), (1, .int (nI k)), (0, .int (nI k))]) hx hb dX1_isName_16 rfl hl (by decide) rfl (fun ls hl => ?_)
      have LA : ∀ (n : Nat) (j : Nat) (x : Nat), (j ≤ 4) → (4 < j + n) → (x ≤ 6560) → (x = z_sh k j) → (∀ i, i < j → z_ok (z_sh k i)) → ∀ (H : Heap) (locs : List Loc), va_P D z_cl (w0) H → va_D A (w0) → va_S A s.heap H locs → ∀ ls : Array Slot, lv_has ls 3 [(0, .int (nI k)), (1, .int (nI x)), (2, .int (nI j))] → W p l e ({ frames := 0, cells := 0, slots := 0, locals := 0 } : Room) s m ([.int (nI k)] : List Value).toArray below meth c H locs 0 0 Q (F0 m 17 ls []) := by
        intro n
        induction n with
        | zero =>
          intro j x hj hn hx9 ex hall
          exact absurd hn (by omega)
        | succ n ih_LA =>
          intro j x hj hn hx9 ex hall H locs hP hD hS ls hl
          refine lv_iload_n hx hb dX1_isName_17 rfl (lv_at hl 2 rfl) ?_
          refine lv_iconst (v := nI 4) hx hb dX1_isName_18 (by decide) ?_
          refine zn_icmp_ge (tgt := 46) hx hb (a := j) (b := 4) (by omega) (by decide) dX1_isName_19 (by decide) (fun c_19 => ?_) (fun c_19 => ?_)
          · refine lv_iconst (v := nI 1) hx hb dX1_isName_46 (by decide) ?_
            exact hret (nI 1) () _ _ _ _ dX1_isName_47 rfl (Or.inl ⟨rfl, k, rfl, hk, fun i h => hall i (by omega)⟩) hP hD hS
          · refine lv_iload_n hx hb dX1_isName_22 rfl (lv_at hl 1 rfl) ?_
            refine zn_if_le (tgt := 46) hx hb (a := x) (by omega) dX1_isName_23 (by decide) (fun c_23 => ?_) (fun c_23 => ?_)
            · refine lv_iconst (v := nI 1) hx hb dX1_isName_46 (by decide) ?_
              exact hret (nI 1) () _ _ _ _ dX1_isName_47 rfl (Or.inl ⟨rfl, k, rfl, hk, fun i h => z_ok_z hall (by rw [← ex]; exact c_23) i⟩) hP hD hS
            · refine lv_iload_n hx hb dX1_isName_26 rfl (lv_at hl 1 rfl) ?_
              refine lv_bipush (v := nI 9) hx hb dX1_isName_27 (by decide) ?_
              refine zn_irem hx hb (a := x) (b := 9) (by omega) (by decide) (by decide) dX1_isName_29 ?_
              refine zn_if_ne (tgt := 35) hx hb (a := x % 9) (by omega) dX1_isName_30 (by decide) (fun c_30 => ?_) (fun c_30 => ?_)
              · refine lv_iload_n hx hb dX1_isName_35 rfl (lv_at hl 1 rfl) ?_
                refine lv_bipush (v := nI 9) hx hb dX1_isName_36 (by decide) ?_
                refine zn_idiv hx hb (a := x) (b := 9) (by omega) (by decide) (by decide) dX1_isName_38 ?_
                refine lv_istore_n (lv' := [(1, .int (nI (x / 9))), (0, .int (nI k)), (2, .int (nI j))]) hx hb dX1_isName_39 rfl hl (by decide) rfl (fun ls hl => ?_)
                refine lv_iinc (v := nI (j + 1)) (lv' := [(2, .int (nI (j + 1))), (1, .int (nI (x / 9))), (0, .int (nI k))]) hx hb dX1_isName_40 hl (k := 2) rfl (nI_add j 1) (by decide) rfl (fun ls hl => ?_)
                refine lv_goto (tgt := 17) hx hb dX1_isName_43 (by decide) ?_
                exact ih_LA (j + 1) (x / 9) (by omega) (by omega) (by omega) (by rw [ex]; rfl) (z_ok_s hall (by rw [← ex]; exact Or.inr c_30)) _ _ hP hD hS ls (lv_sub hl [2, 1, 0] rfl)
              · refine lv_iconst (v := nI 0) hx hb dX1_isName_33 (by decide) ?_
                exact hret (nI 0) () _ _ _ _ dX1_isName_34 rfl (Or.inr ⟨rfl, z_isn_bad hk (show j < 4 by omega) (by rw [← ex]; exact c_23) (by rw [← ex]; exact c_30)⟩) hP hD hS
      exact LA 5 0 k (by omega) (by omega) hk rfl (fun i h => absurd h (by omega)) _ _ hP hD hS ls (lv_sub hl [2, 1, 0] rfl)
    · refine lv_iconst (v := nI 0) hx hb dX1_isName_11 (by decide) ?_
      exact hret (nI 0) () _ _ _ _ dX1_isName_12 rfl (Or.inr ⟨rfl, z_isn_out (Or.inr (fun q => c_8 (Int32.lt_of_le_of_lt q (nI_lt (by decide) (by decide)))))⟩) hP hD hS
set_option maxHeartbeats 4000000 in
/-- covers(a, b) -/
theorem zd_covers (l : Launch) (D : va_G) (cA : ClassId) (sz : Nat) (w0 : va_W) (a b : Nat) (ha : a < 6561) (hb9 : b < 6561) : z_Mi (S := Unit) l yX1_covers cX1_covers 4 .boolean ({ frames := 0, cells := 0, slots := 0, locals := 0 } : Room) D cA sz [.int (nI a), .int (nI b)] (w0) (fun r _ => (r = nI 1 ∧ z_cov a b) ∨ (r = nI 0 ∧ ¬ z_cov a b)) (fun _ => w0) := by
  refine z_ofi (by decide) (Nat.le_of_ble_eq_true rfl) ?_
  intro p e s m below meth c A Q hx hb hml hown hts hA hret hK hP hD hS ls hl
  have hown : s.vm.findClass RX1 = some m.cls := hown
  have hl : lv_has ls 4 [(0, .int (nI a)), (1, .int (nI b))] := hl
  refine lv_iload_n hx hb dX1_covers_0 rfl (lv_at hl 1 rfl) ?_
  refine lv_istore_n (lv' := [(2, .int (nI b)), (0, .int (nI a)), (1, .int (nI b))]) hx hb dX1_covers_1 rfl hl (by decide) rfl (fun ls hl => ?_)
  refine lv_iconst (v := nI 0) hx hb dX1_covers_2 (by decide) ?_
  refine lv_istore_n (lv' := [(3, .int (nI 0)), (2, .int (nI b)), (0, .int (nI a)), (1, .int (nI b))]) hx hb dX1_covers_3 rfl hl (by decide) rfl (fun ls hl => ?_)
  have LA : ∀ (n : Nat) (j : Nat) (x : Nat), (j ≤ 5) → (5 < j + n) → (x < 6561) → (x = z_sh b j) → (∀ i, i < j → ¬ z_sh b i = a) → ∀ (H : Heap) (locs : List Loc), va_P D z_cl (w0) H → va_D A (w0) → va_S A s.heap H locs → ∀ ls : Array Slot, lv_has ls 4 [(0, .int (nI a)), (1, .int (nI b)), (2, .int (nI x)), (3, .int (nI j))] → W p l e ({ frames := 0, cells := 0, slots := 0, locals := 0 } : Room) s m ([.int (nI a), .int (nI b)] : List Value).toArray below meth c H locs 0 0 Q (F0 m 4 ls []) := by
    intro n
    induction n with
    | zero =>
      intro j x hj hn hx9 ex hall
      exact absurd hn (by omega)
    | succ n ih_LA =>
      intro j x hj hn hx9 ex hall H locs hP hD hS ls hl
      refine lv_iload_n hx hb dX1_covers_4 rfl (lv_at hl 3 rfl) ?_
      refine lv_iconst (v := nI 5) hx hb dX1_covers_5 (by decide) ?_
      refine zn_icmp_ge (tgt := 27) hx hb (a := j) (b := 5) (by omega) (by decide) dX1_covers_6 (by decide) (fun c_6 => ?_) (fun c_6 => ?_)
      · refine lv_iconst (v := nI 0) hx hb dX1_covers_27 (by decide) ?_
        exact hret (nI 0) () _ _ _ _ dX1_covers_28 rfl (Or.inr ⟨rfl, z_cov_no (fun i h => hall i (by omega))⟩) hP hD hS
      · refine lv_iload_n hx hb dX1_covers_9 rfl (lv_at hl 2 rfl) ?_
        refine lv_iload_n hx hb dX1_covers_10 rfl (lv_at hl 0 rfl) ?_
        refine zn_icmp_ne (tgt := 16) hx hb (a := x) (b := a) (by omega) (by omega) dX1_covers_11 (by decide) (fun c_11 => ?_) (fun c_11 => ?_)
        · refine lv_iload_n hx hb dX1_covers_16 rfl (lv_at hl 2 rfl) ?_
          refine lv_bipush (v := nI 9) hx hb dX1_covers_17 (by decide) ?_
          refine zn_idiv hx hb (a := x) (b := 9) (by omega) (by decide) (by decide) dX1_covers_19 ?_
          refine lv_istore_n (lv' := [(2, .int (nI (x / 9))), (0, .int (nI a)), (1, .int (nI b)), (3, .int (nI j))]) hx hb dX1_covers_20 rfl hl (by decide) rfl (fun ls hl => ?_)
          refine lv_iinc (v := nI (j + 1)) (lv' := [(3, .int (nI (j + 1))), (2, .int (nI (x / 9))), (0, .int (nI a)), (1, .int (nI b))]) hx hb dX1_covers_21 hl (k := 3) rfl (nI_add j 1) (by decide) rfl (fun ls hl => ?_)
          refine lv_goto (tgt := 4) hx hb dX1_covers_24 (by decide) ?_
          exact ih_LA (j + 1) (x / 9) (by omega) (by omega) (by omega) (by rw [ex]; rfl) (fun i h => by rcases Nat.lt_or_ge i j with q | q; exact hall i q; rw [show i = j by omega, ← ex]; exact c_11) _ _ hP hD hS ls (lv_sub hl [2, 3, 1, 0] rfl)
        · refine lv_iconst (v := nI 1) hx hb dX1_covers_14 (by decide) ?_
          exact hret (nI 1) () _ _ _ _ dX1_covers_15 rfl (Or.inl ⟨rfl, z_cov_of c_6 (by rw [← ex]; exact c_11)⟩) hP hD hS
  exact LA 6 0 b (by omega) (by omega) hb9 rfl (fun i h => absurd h (by omega)) _ _ hP hD hS ls (lv_sub hl [2, 3, 1, 0] rfl)
set_option maxHeartbeats 4000000 in
/-- there(name) -/
theorem zd_there (l : Launch) (D : va_G) (cA : ClassId) (sz : Nat) (h : Nat → Nat) (he : Nat) (nm : Nat → Nat) (es ev : Nat → Int32) (ke la pl ro : Int32) (q : Nat) (hhe : he ≤ 24) (hq : q < 6561) (hnm : ∀ j, nm j < 6561) : z_Mi (S := Unit) l yX1_there cX1_there 3 .boolean ({ frames := 1, cells := 0, slots := 0, locals := 23 } : Room) D cA sz [.ref (h 0), .int (nI q)] (z_w1 cA h (nI he) (zn_F nm) es ev (ke) (la) (pl) (ro)) (fun r _ => (r = nI 1 ∧ z_thr nm he q) ∨ (r = nI 0 ∧ ¬ z_thr nm he q)) (fun _ => z_w1 cA h (nI he) (zn_F nm) es ev (ke) (la) (pl) (ro)) := by
  refine z_ofi (by decide) (Nat.le_of_ble_eq_true rfl) ?_
  intro p e s m below meth c A Q hx hb hml hown hts hA hret hK hP hD hS ls hl
  have hown : s.vm.findClass RX1 = some m.cls := hown
  have hl : lv_has ls 3 [(0, .ref (h 0)), (1, .int (nI q))] := hl
  refine lv_iconst (v := nI 0) hx hb dX1_there_0 (by decide) ?_
  refine lv_istore_n (lv' := [(2, .int (nI 0)), (0, .ref (h 0)), (1, .int (nI q))]) hx hb dX1_there_1 rfl hl (by decide) rfl (fun ls hl => ?_)
  have LA : ∀ (n : Nat) (i : Nat), (i ≤ he) → (he < i + n) → (z_pc nm q i = 0) → ∀ (H : Heap) (locs : List Loc), va_P D z_cl (z_w1 cA h (nI he) (zn_F nm) es ev (ke) (la) (pl) (ro)) H → va_D A (z_w1 cA h (nI he) (zn_F nm) es ev (ke) (la) (pl) (ro)) → va_S A s.heap H locs → ∀ ls : Array Slot, lv_has ls 3 [(0, .ref (h 0)), (1, .int (nI q)), (2, .int (nI i))] → W p l e ({ frames := 1, cells := 0, slots := 0, locals := 23 } : Room) s m ([.ref (h 0), .int (nI q)] : List Value).toArray below meth c H locs 0 0 Q (F0 m 2 ls []) := by
    intro n
    induction n with
    | zero =>
      intro i hi hn e0
      exact absurd hn (by omega)
    | succ n ih_LA =>
      intro i hi hn e0 H locs hP hD hS ls hl
      refine lv_iload_n hx hb dX1_there_2 rfl (lv_at hl 2 rfl) ?_
      refine lv_aload_n hx hb dX1_there_3 rfl (lv_at hl 0 rfl) ?_
      refine va_get (D := D) (ci := 1) (v := .int (nI he)) (C := RX1) (T := TX1) (N := 8) hx hb hts in_X1 hown hK hP 0 rfl rfl 0 (by decide) (hts _ q183) (fun _ h9 => h9) rfl dX1_there_4 ?_
      refine zn_icmp_ge (tgt := 31) hx hb (a := i) (b := he) (by omega) (by omega) dX1_there_7 (by decide) (fun c_7 => ?_) (fun c_7 => ?_)
      · refine lv_iload_n hx hb dX1_there_31 rfl (lv_at hl 1 rfl) ?_
        refine zn_if_ne (tgt := 39) hx hb (a := q) (by omega) dX1_there_32 (by decide) (fun c_32 => ?_) (fun c_32 => ?_)
        · refine lv_iconst (v := nI 0) hx hb dX1_there_39 (by decide) ?_
          exact hret (nI 0) () _ _ _ _ dX1_there_40 rfl (Or.inr ⟨rfl, fun q9 => q9.elim c_32 (fun q8 => absurd q8 (by rw [show he = i by omega, e0]; decide))⟩) hP hD hS
        · refine lv_iconst (v := nI 1) hx hb dX1_there_35 (by decide) ?_
          refine lv_goto (tgt := 40) hx hb dX1_there_36 (by decide) ?_
          exact hret (nI 1) () _ _ _ _ dX1_there_40 rfl (Or.inl ⟨rfl, Or.inl c_32⟩) hP hD hS
      · refine lv_iload_n hx hb dX1_there_10 rfl (lv_at hl 1 rfl) ?_
        refine lv_aload_n hx hb dX1_there_11 rfl (lv_at hl 0 rfl) ?_
        refine va_get (D := D) (ci := 1) (v := .ref (h 1)) (C := RX1) (T := TX1) (N := 8) hx hb hts in_X1 hown hK hP 0 rfl rfl 1 (by decide) (hts _ q184) (fun _ h9 => h9) rfl dX1_there_12 ?_
        refine lv_iload_n hx hb dX1_there_15 rfl (lv_at hl 2 rfl) ?_
        refine zn_ald hx hb hK hP 1 0 rfl rfl (i := i) (by omega) (by decide) dX1_there_16 ?_
        refine z_calls (As := [.int (nI q), .int (nI (nm i))]) (rest := []) ⟨hx, hb, hml, hown, hts⟩ (zd_covers l D cA H.size (z_w1 cA h (nI he) (zn_F nm) es ev (ke) (la) (pl) (ro)) q (nm i) hq (hnm _)) (va_cwS 2 hts (lw_S q251 q252 q22 q253) rfl rfl rfl (by decide +kernel) ⟨Nat.le_of_ble_eq_true rfl, Nat.le_of_ble_eq_true rfl⟩) hK hP hD hS hA rfl hl.1 rfl (Nat.le_of_ble_eq_true rfl) dX1_there_17 (Nat.zero_le _) (Nat.zero_le _) (fun r_17 u_17 H locs hw_17 hP hD hS => ?_)
        rcases hw_17 with ⟨rfl, hcv⟩ | ⟨rfl, hcv⟩
        · have hP : va_P D z_cl (z_w1 cA h (nI he) (zn_F nm) es ev (ke) (la) (pl) (ro)) H := hP
          have hD : va_D A (z_w1 cA h (nI he) (zn_F nm) es ev (ke) (la) (pl) (ro)) := hD
          refine zn_if_eq (tgt := 25) hx hb (a := 1) (by decide) dX1_there_20 (by decide) (fun c_20 => absurd c_20 (by decide)) (fun c_20 => ?_)
          refine lv_iconst (v := nI 1) hx hb dX1_there_23 (by decide) ?_
          exact hret (nI 1) () _ _ _ _ dX1_there_24 rfl (Or.inl ⟨rfl, Or.inr (z_pc_y c_7 hcv)⟩) hP hD hS
        · have hP : va_P D z_cl (z_w1 cA h (nI he) (zn_F nm) es ev (ke) (la) (pl) (ro)) H := hP
          have hD : va_D A (z_w1 cA h (nI he) (zn_F nm) es ev (ke) (la) (pl) (ro)) := hD
          refine zn_if_eq (tgt := 25) hx hb (a := 0) (by decide) dX1_there_20 (by decide) (fun c_20 => ?_) (fun c_20 => absurd c_20 (by decide))
          refine lv_iinc (v := nI (i + 1)) (lv' := [(2, .int (nI (i + 1))), (0, .ref (h 0)), (1, .int (nI q))]) hx hb dX1_there_25 hl (k := 2) rfl (nI_add i 1) (by decide) rfl (fun ls hl => ?_)
          refine lv_goto (tgt := 2) hx hb dX1_there_28 (by decide) ?_
          exact ih_LA (i + 1) (by omega) (by omega) (z_pc_n e0 hcv) _ _ hP hD hS ls (lv_sub hl [1, 2, 0] rfl)
  exact LA (he + 1) 0 (Nat.zero_le _) (by omega) rfl _ _ hP hD hS ls (lv_sub hl [1, 2, 0] rfl)
set_option maxHeartbeats 4000000 in
/-- bad(sort) -/
theorem zd_bad (l : Launch) (D : va_G) (cA : ClassId) (sz : Nat) (w0 : va_W) (so : Int32) : z_Mi (S := Unit) l yX1_bad cX1_bad 1 .boolean ({ frames := 0, cells := 0, slots := 0, locals := 0 } : Room) D cA sz [.int so] (w0) (fun r _ => (r = nI 1 ∧ ¬ z_so so) ∨ (r = nI 0 ∧ z_so so)) (fun _ => w0) := by
  refine z_ofi (by decide) (Nat.le_of_ble_eq_true rfl) ?_
  intro p e s m below meth c A Q hx hb hml hown hts hA hret hK hP hD hS ls hl
  have hown : s.vm.findClass RX1 = some m.cls := hown
  have hl : lv_has ls 1 [(0, .int so)] := hl
  refine lv_iload_n hx hb dX1_bad_0 rfl (lv_at hl 0 rfl) ?_
  refine lv_iconst (v := nI 1) hx hb dX1_bad_1 (by decide) ?_
  refine lv_icmp_lt (tgt := 10) (x := so) (y := nI 1) hx hb dX1_bad_2 (by decide) (fun c_2 => ?_) (fun c_2 => ?_)
  · refine lv_iconst (v := nI 1) hx hb dX1_bad_10 (by decide) ?_
    refine lv_goto (tgt := 15) hx hb dX1_bad_11 (by decide) ?_
    exact hret (nI 1) () _ _ _ _ dX1_bad_15 rfl (Or.inl ⟨rfl, fun q => q.1 c_2⟩) hP hD hS
  · refine lv_iload_n hx hb dX1_bad_5 rfl (lv_at hl 0 rfl) ?_
    refine lv_iconst (v := nI 4) hx hb dX1_bad_6 (by decide) ?_
    refine lv_icmp_le (tgt := 14) (x := so) (y := nI 4) hx hb dX1_bad_7 (by decide) (fun c_7 => ?_) (fun c_7 => ?_)
    · refine lv_iconst (v := nI 0) hx hb dX1_bad_14 (by decide) ?_
      exact hret (nI 0) () _ _ _ _ dX1_bad_15 rfl (Or.inr ⟨rfl, c_2, c_7⟩) hP hD hS
    · refine lv_iconst (v := nI 1) hx hb dX1_bad_10 (by decide) ?_
      refine lv_goto (tgt := 15) hx hb dX1_bad_11 (by decide) ?_
      exact hret (nI 1) () _ _ _ _ dX1_bad_15 rfl (Or.inl ⟨rfl, fun q => c_7 q.2⟩) hP hD hS
end
section
/-! ZoneLookup: the tree grows and shrinks; a number asked for -/
set_option maxRecDepth 100000
set_option maxHeartbeats 4000000 in
/-- growNode() -/
theorem zc_growNode (l : Launch) (D : va_G) (cA : ClassId) (sz : Nat) (h : Nat → Nat) (kl : Nat) (ky ch nu be : Nat → Nat) (he : Nat) (en es ev : Nat → Int32) (an ap ao ar al : Int32) (ak : Nat → Int32) (cn : Nat → Nat) (hkl : kl ≤ 4) (hky : ∀ j, ky j < 8) (hT : z_T ch nu be cn 0) (hM : ∀ p c, c < 8 → cn (9 * p + c + 1) ≤ cn p) (hsb : z_sb be ≤ 92) : z_Mi (S := (Nat → Nat) × (Nat → Nat) × (Nat → Nat)) l yX0_growNode cX0_growNode 4 .int ({ frames := 1, cells := 0, slots := 0, locals := 21 } : Room) D cA sz [.ref (h 0)] (z_w0 cA h (nI kl) (zn_F ky) (zn_F ch) (zn_F nu) (zn_F be) (nI he) en es ev (an) (ap) (ao) (ar) (al) ak) (fun r (u : (Nat → Nat) × (Nat → Nat) × (Nat → Nat)) => ∃ nd, r = nI nd ∧ z_G ky u.1 u.2.1 u.2.2 cn be nu kl nd) (fun u => z_w0 cA h (nI kl) (zn_F ky) (zn_F u.1) (zn_F u.2.1) (zn_F u.2.2) (nI he) en es ev (an) (ap) (ao) (ar) (al) ak) := by
  refine z_ofi (by decide) (Nat.le_of_ble_eq_true rfl) ?_
  intro p e s m below meth c A Q hx hb hml hown hts hA hret hK hP hD hS ls hl
  have hown : s.vm.findClass RX0 = some m.cls := hown
  have hl : lv_has ls 4 [(0, .ref (h 0))] := hl
  refine lv_iconst (v := nI 0) hx hb dX0_growNode_0 (by decide) ?_
  refine lv_istore_n (lv' := [(1, .int (nI 0)), (0, .ref (h 0))]) hx hb dX0_growNode_1 rfl hl (by decide) rfl (fun ls hl => ?_)
  refine lv_aload_n hx hb dX0_growNode_2 rfl (lv_at hl 1 rfl) ?_
  refine va_get (D := D) (ci := 0) (v := .ref (h 4)) (C := RX0) (T := TX0) (N := 15) hx hb hts in_X0 hown hK hP 0 rfl rfl 4 (by decide) (hts _ q35) (fun _ h9 => h9) rfl dX0_growNode_3 ?_
  refine lv_iconst (v := nI 0) hx hb dX0_growNode_6 (by decide) ?_
  refine lv_dup2_11 hx hb dX0_growNode_7 rfl rfl ?_
  refine zn_ald hx hb hK hP 4 0 rfl rfl (i := 0) (by decide) (by decide) dX0_growNode_8 ?_
  refine lv_iconst (v := nI 1) hx hb dX0_growNode_9 (by decide) ?_
  refine zn_iadd hx hb (a := be 0) (b := 1) dX0_growNode_10 ?_
  refine zn_ast hx hb hK hP hD hS 4 0 rfl rfl (i := 0) (x := (be 0) + 1) (by decide) (by decide) dX0_growNode_11 (fun H locs hP hD hS => ?_)
  have hP : va_P D z_cl (z_w0 cA h (nI kl) (zn_F ky) (zn_F ch) (zn_F nu) (zn_F (zn_u be 0 ((be 0) + 1))) (nI he) en es ev (an) (ap) (ao) (ar) (al) ak) H := hP
  have hD : va_D A (z_w0 cA h (nI kl) (zn_F ky) (zn_F ch) (zn_F nu) (zn_F (zn_u be 0 ((be 0) + 1))) (nI he) en es ev (an) (ap) (ao) (ar) (al) ak) := hD
  refine lv_iconst (v := nI 0) hx hb dX0_growNode_12 (by decide) ?_
  refine lv_istore_n (lv' := [(2, .int (nI 0)), (1, .int (nI 0)), (0, .ref (h 0))]) hx hb dX0_growNode_13 rfl hl (by decide) rfl (fun ls hl => ?_)
  have LA : ∀ (n : Nat) (i : Nat) (nd : Nat) (ch1 : Nat → Nat) (nu1 : Nat → Nat) (be1 : Nat → Nat), (i ≤ kl) → (kl < i + n) → (z_G ky ch1 nu1 be1 cn be nu i nd) → ∀ (H : Heap) (locs : List Loc), va_P D z_cl (z_w0 cA h (nI kl) (zn_F ky) (zn_F ch1) (zn_F nu1) (zn_F be1) (nI he) en es ev (an) (ap) (ao) (ar) (al) ak) H → va_D A (z_w0 cA h (nI kl) (zn_F ky) (zn_F ch1) (zn_F nu1) (zn_F be1) (nI he) en es ev (an) (ap) (ao) (ar) (al) ak) → va_S A s.heap H locs → ∀ ls : Array Slot, lv_has ls 4 [(0, .ref (h 0)), (1, .int (nI nd)), (2, .int (nI i))] → W p l e ({ frames := 1, cells := 0, slots := 0, locals := 21 } : Room) s m ([.ref (h 0)] : List Value).toArray below meth c H locs 0 0 Q (F0 m 14 ls []) := by
    intro n
    induction n with
    | zero =>
      intro i nd ch1 nu1 be1 hi hn hG
      exact absurd hn (by omega)
    | succ n ih_LA =>
      intro i nd ch1 nu1 be1 hi hn hG H locs hP hD hS ls hl
      refine lv_iload_n hx hb dX0_growNode_14 rfl (lv_at hl 2 rfl) ?_
      refine lv_aload_n hx hb dX0_growNode_15 rfl (lv_at hl 0 rfl) ?_
      refine va_get (D := D) (ci := 0) (v := .int (nI kl)) (C := RX0) (T := TX0) (N := 15) hx hb hts in_X0 hown hK hP 0 rfl rfl 0 (by decide) (hts _ q31) (fun _ h9 => h9) rfl dX0_growNode_16 ?_
      refine zn_icmp_ge (tgt := 107) hx hb (a := i) (b := kl) (by omega) (by omega) dX0_growNode_19 (by decide) (fun c_19 => ?_) (fun c_19 => ?_)
      · refine lv_iload_n hx hb dX0_growNode_107 rfl (lv_at hl 1 rfl) ?_
        exact hret (nI nd) (ch1, nu1, be1) _ _ _ _ dX0_growNode_108 rfl ⟨nd, rfl, by rw [show kl = i by omega]; exact hG⟩ hP hD hS
      · have hnd := hG.1
        have hkyi := hky i
        have hch1 := hG.2.2.2.1.2.1 (8 * nd + ky i)
        refine lv_aload_n hx hb dX0_growNode_22 rfl (lv_at hl 0 rfl) ?_
        refine va_get (D := D) (ci := 0) (v := .ref (h 2)) (C := RX0) (T := TX0) (N := 15) hx hb hts in_X0 hown hK hP 0 rfl rfl 2 (by decide) (hts _ q33) (fun _ h9 => h9) rfl dX0_growNode_23 ?_
        refine lv_bipush (v := nI 8) hx hb dX0_growNode_26 (by decide) ?_
        refine lv_iload_n hx hb dX0_growNode_28 rfl (lv_at hl 1 rfl) ?_
        refine zn_imul hx hb (a := 8) (b := nd) dX0_growNode_29 ?_
        refine lv_aload_n hx hb dX0_growNode_30 rfl (lv_at hl 0 rfl) ?_
        refine va_get (D := D) (ci := 0) (v := .ref (h 1)) (C := RX0) (T := TX0) (N := 15) hx hb hts in_X0 hown hK hP 0 rfl rfl 1 (by decide) (hts _ q32) (fun _ h9 => h9) rfl dX0_growNode_31 ?_
        refine lv_iload_n hx hb dX0_growNode_34 rfl (lv_at hl 2 rfl) ?_
        refine zn_ald hx hb hK hP 1 0 rfl rfl (i := i) (by omega) (by decide) dX0_growNode_35 ?_
        refine zn_iadd hx hb (a := 8 * nd) (b := ky i) dX0_growNode_36 ?_
        refine zn_ald hx hb hK hP 2 0 rfl rfl (i := (8 * nd) + (ky i)) (by omega) (by decide) dX0_growNode_37 ?_
        refine lv_istore_n (lv' := [(3, .int (nI (ch1 ((8 * nd) + (ky i))))), (0, .ref (h 0)), (1, .int (nI nd)), (2, .int (nI i))]) hx hb dX0_growNode_38 rfl hl (by decide) rfl (fun ls hl => ?_)
        refine lv_iload_n hx hb dX0_growNode_39 rfl (lv_at hl 0 rfl) ?_
        refine zn_if_ne (tgt := 89) hx hb (a := ch1 ((8 * nd) + (ky i))) (by omega) dX0_growNode_40 (by decide) (fun c_40 => ?_) (fun c_40 => ?_)
        · refine lv_aload_n hx hb dX0_growNode_89 rfl (lv_at hl 1 rfl) ?_
          refine va_get (D := D) (ci := 0) (v := .ref (h 4)) (C := RX0) (T := TX0) (N := 15) hx hb hts in_X0 hown hK hP 0 rfl rfl 4 (by decide) (hts _ q35) (fun _ h9 => h9) rfl dX0_growNode_90 ?_
          refine lv_iload_n hx hb dX0_growNode_93 rfl (lv_at hl 0 rfl) ?_
          refine lv_dup2_11 hx hb dX0_growNode_94 rfl rfl ?_
          refine zn_ald hx hb hK hP 4 0 rfl rfl (i := ch1 ((8 * nd) + (ky i))) (by omega) (by decide) dX0_growNode_95 ?_
          refine lv_iconst (v := nI 1) hx hb dX0_growNode_96 (by decide) ?_
          refine zn_iadd hx hb (a := be1 (ch1 ((8 * nd) + (ky i)))) (b := 1) dX0_growNode_97 ?_
          refine zn_ast hx hb hK hP hD hS 4 0 rfl rfl (i := ch1 ((8 * nd) + (ky i))) (x := (be1 (ch1 ((8 * nd) + (ky i)))) + 1) (by omega) (by decide) dX0_growNode_98 (fun H locs hP hD hS => ?_)
          have hP : va_P D z_cl (z_w0 cA h (nI kl) (zn_F ky) (zn_F ch1) (zn_F nu1) (zn_F (zn_u be1 (ch1 ((8 * nd) + (ky i))) ((be1 (ch1 ((8 * nd) + (ky i)))) + 1))) (nI he) en es ev (an) (ap) (ao) (ar) (al) ak) H := hP
          have hD : va_D A (z_w0 cA h (nI kl) (zn_F ky) (zn_F ch1) (zn_F nu1) (zn_F (zn_u be1 (ch1 ((8 * nd) + (ky i))) ((be1 (ch1 ((8 * nd) + (ky i)))) + 1))) (nI he) en es ev (an) (ap) (ao) (ar) (al) ak) := hD
          refine lv_iload_n hx hb dX0_growNode_99 rfl (lv_at hl 0 rfl) ?_
          refine lv_istore_n (lv' := [(1, .int (nI (ch1 ((8 * nd) + (ky i))))), (3, .int (nI (ch1 ((8 * nd) + (ky i))))), (0, .ref (h 0)), (2, .int (nI i))]) hx hb dX0_growNode_100 rfl hl (by decide) rfl (fun ls hl => ?_)
          refine lv_iinc (v := nI (i + 1)) (lv' := [(2, .int (nI (i + 1))), (1, .int (nI (ch1 ((8 * nd) + (ky i))))), (3, .int (nI (ch1 ((8 * nd) + (ky i))))), (0, .ref (h 0))]) hx hb dX0_growNode_101 hl (k := 3) rfl (nI_add i 1) (by decide) rfl (fun ls hl => ?_)
          refine lv_goto (tgt := 14) hx hb dX0_growNode_104 (by decide) ?_
          exact ih_LA (i + 1) (ch1 ((8 * nd) + (ky i))) ch1 nu1 (zn_u be1 (ch1 ((8 * nd) + (ky i))) ((be1 (ch1 ((8 * nd) + (ky i)))) + 1)) (by omega) (by omega) (z_G_old hky (by omega) hG c_40) _ _ hP hD hS ls (lv_sub hl [3, 1, 0] rfl)
        · refine lv_aload_n hx hb dX0_growNode_43 rfl (lv_at hl 1 rfl) ?_
          refine z_calli (As := []) (rest := []) ⟨hx, hb, hml, hown, hts⟩ (zc_freeNode l D cA H.size h (nI kl) (zn_F ky) (zn_F ch1) (zn_F nu1) be1 he en es ev (an) (ap) (ao) (ar) (al) ak (by have := hG.2.2.2.2.1; omega)) (cwV 0 hts (lw_V q117 q119 qs4 q21 q120) rfl rfl rfl (by decide +kernel) ⟨Nat.le_of_ble_eq_true rfl, Nat.le_of_ble_eq_true rfl⟩) (va_recv hK hP (ci := 0) (q0 := 0) rfl rfl) hK hP hD hS hA rfl hl.1 rfl (Nat.le_of_ble_eq_true rfl) dX0_growNode_44 (Nat.zero_le _) (Nat.zero_le _) (fun r_44 u_44 H locs hw_44 hP hD hS => ?_)
          obtain ⟨x, rfl, hx0, hx1, hbx⟩ := hw_44
          have hP : va_P D z_cl (z_w0 cA h (nI kl) (zn_F ky) (zn_F ch1) (zn_F nu1) (zn_F be1) (nI he) en es ev (an) (ap) (ao) (ar) (al) ak) H := hP
          have hD : va_D A (z_w0 cA h (nI kl) (zn_F ky) (zn_F ch1) (zn_F nu1) (zn_F be1) (nI he) en es ev (an) (ap) (ao) (ar) (al) ak) := hD
          refine lv_istore_n (lv' := [(3, .int (nI x)), (0, .ref (h 0)), (1, .int (nI nd)), (2, .int (nI i))]) hx hb dX0_growNode_47 rfl hl (by decide) rfl (fun ls hl => ?_)
          refine lv_aload_n hx hb dX0_growNode_48 rfl (lv_at hl 1 rfl) ?_
          refine va_get (D := D) (ci := 0) (v := .ref (h 2)) (C := RX0) (T := TX0) (N := 15) hx hb hts in_X0 hown hK hP 0 rfl rfl 2 (by decide) (hts _ q33) (fun _ h9 => h9) rfl dX0_growNode_49 ?_
          refine lv_bipush (v := nI 8) hx hb dX0_growNode_52 (by decide) ?_
          refine lv_iload_n hx hb dX0_growNode_54 rfl (lv_at hl 2 rfl) ?_
          refine zn_imul hx hb (a := 8) (b := nd) dX0_growNode_55 ?_
          refine lv_aload_n hx hb dX0_growNode_56 rfl (lv_at hl 1 rfl) ?_
          refine va_get (D := D) (ci := 0) (v := .ref (h 1)) (C := RX0) (T := TX0) (N := 15) hx hb hts in_X0 hown hK hP 0 rfl rfl 1 (by decide) (hts _ q32) (fun _ h9 => h9) rfl dX0_growNode_57 ?_
          refine lv_iload_n hx hb dX0_growNode_60 rfl (lv_at hl 3 rfl) ?_
          refine zn_ald hx hb hK hP 1 0 rfl rfl (i := i) (by omega) (by decide) dX0_growNode_61 ?_
          refine zn_iadd hx hb (a := 8 * nd) (b := ky i) dX0_growNode_62 ?_
          refine lv_iload_n hx hb dX0_growNode_63 rfl (lv_at hl 0 rfl) ?_
          refine zn_ast hx hb hK hP hD hS 2 0 rfl rfl (i := (8 * nd) + (ky i)) (x := x) (by omega) (by decide) dX0_growNode_64 (fun H locs hP hD hS => ?_)
          have hP : va_P D z_cl (z_w0 cA h (nI kl) (zn_F ky) (zn_F (zn_u ch1 ((8 * nd) + (ky i)) x)) (zn_F nu1) (zn_F be1) (nI he) en es ev (an) (ap) (ao) (ar) (al) ak) H := hP
          have hD : va_D A (z_w0 cA h (nI kl) (zn_F ky) (zn_F (zn_u ch1 ((8 * nd) + (ky i)) x)) (zn_F nu1) (zn_F be1) (nI he) en es ev (an) (ap) (ao) (ar) (al) ak) := hD
          refine lv_aload_n hx hb dX0_growNode_65 rfl (lv_at hl 1 rfl) ?_
          refine va_get (D := D) (ci := 0) (v := .ref (h 3)) (C := RX0) (T := TX0) (N := 15) hx hb hts in_X0 hown hK hP 0 rfl rfl 3 (by decide) (hts _ q34) (fun _ h9 => h9) rfl dX0_growNode_66 ?_
          refine lv_iload_n hx hb dX0_growNode_69 rfl (lv_at hl 0 rfl) ?_
          refine lv_bipush (v := nI 9) hx hb dX0_growNode_70 (by decide) ?_
          refine lv_aload_n hx hb dX0_growNode_72 rfl (lv_at hl 1 rfl) ?_
          refine va_get (D := D) (ci := 0) (v := .ref (h 3)) (C := RX0) (T := TX0) (N := 15) hx hb hts in_X0 hown hK hP 0 rfl rfl 3 (by decide) (hts _ q34) (fun _ h9 => h9) rfl dX0_growNode_73 ?_
          refine lv_iload_n hx hb dX0_growNode_76 rfl (lv_at hl 2 rfl) ?_
          refine zn_ald hx hb hK hP 3 0 rfl rfl (i := nd) (by omega) (by decide) dX0_growNode_77 ?_
          refine zn_imul hx hb (a := 9) (b := nu1 nd) dX0_growNode_78 ?_
          refine lv_aload_n hx hb dX0_growNode_79 rfl (lv_at hl 1 rfl) ?_
          refine va_get (D := D) (ci := 0) (v := .ref (h 1)) (C := RX0) (T := TX0) (N := 15) hx hb hts in_X0 hown hK hP 0 rfl rfl 1 (by decide) (hts _ q32) (fun _ h9 => h9) rfl dX0_growNode_80 ?_
          refine lv_iload_n hx hb dX0_growNode_83 rfl (lv_at hl 3 rfl) ?_
          refine zn_ald hx hb hK hP 1 0 rfl rfl (i := i) (by omega) (by decide) dX0_growNode_84 ?_
          refine zn_iadd hx hb (a := 9 * (nu1 nd)) (b := ky i) dX0_growNode_85 ?_
          refine lv_iconst (v := nI 1) hx hb dX0_growNode_86 (by decide) ?_
          refine zn_iadd hx hb (a := (9 * (nu1 nd)) + (ky i)) (b := 1) dX0_growNode_87 ?_
          refine zn_ast hx hb hK hP hD hS 3 0 rfl rfl (i := x) (x := ((9 * (nu1 nd)) + (ky i)) + 1) (by omega) (by decide) dX0_growNode_88 (fun H locs hP hD hS => ?_)
          have hP : va_P D z_cl (z_w0 cA h (nI kl) (zn_F ky) (zn_F (zn_u ch1 ((8 * nd) + (ky i)) x)) (zn_F (zn_u nu1 x (((9 * (nu1 nd)) + (ky i)) + 1))) (zn_F be1) (nI he) en es ev (an) (ap) (ao) (ar) (al) ak) H := hP
          have hD : va_D A (z_w0 cA h (nI kl) (zn_F ky) (zn_F (zn_u ch1 ((8 * nd) + (ky i)) x)) (zn_F (zn_u nu1 x (((9 * (nu1 nd)) + (ky i)) + 1))) (zn_F be1) (nI he) en es ev (an) (ap) (ao) (ar) (al) ak) := hD
          refine lv_aload_n hx hb dX0_growNode_89 rfl (lv_at hl 1 rfl) ?_
          refine va_get (D := D) (ci := 0) (v := .ref (h 4)) (C := RX0) (T := TX0) (N := 15) hx hb hts in_X0 hown hK hP 0 rfl rfl 4 (by decide) (hts _ q35) (fun _ h9 => h9) rfl dX0_growNode_90 ?_
          refine lv_iload_n hx hb dX0_growNode_93 rfl (lv_at hl 0 rfl) ?_
          refine lv_dup2_11 hx hb dX0_growNode_94 rfl rfl ?_
          refine zn_ald hx hb hK hP 4 0 rfl rfl (i := x) (by omega) (by decide) dX0_growNode_95 ?_
          refine lv_iconst (v := nI 1) hx hb dX0_growNode_96 (by decide) ?_
          refine zn_iadd hx hb (a := be1 x) (b := 1) dX0_growNode_97 ?_
          refine zn_ast hx hb hK hP hD hS 4 0 rfl rfl (i := x) (x := (be1 x) + 1) (by omega) (by decide) dX0_growNode_98 (fun H locs hP hD hS => ?_)
          have hP : va_P D z_cl (z_w0 cA h (nI kl) (zn_F ky) (zn_F (zn_u ch1 ((8 * nd) + (ky i)) x)) (zn_F (zn_u nu1 x (((9 * (nu1 nd)) + (ky i)) + 1))) (zn_F (zn_u be1 x ((be1 x) + 1))) (nI he) en es ev (an) (ap) (ao) (ar) (al) ak) H := hP
          have hD : va_D A (z_w0 cA h (nI kl) (zn_F ky) (zn_F (zn_u ch1 ((8 * nd) + (ky i)) x)) (zn_F (zn_u nu1 x (((9 * (nu1 nd)) + (ky i)) + 1))) (zn_F (zn_u be1 x ((be1 x) + 1))) (nI he) en es ev (an) (ap) (ao) (ar) (al) ak) := hD
          refine lv_iload_n hx hb dX0_growNode_99 rfl (lv_at hl 0 rfl) ?_
          refine lv_istore_n (lv' := [(1, .int (nI x)), (3, .int (nI x)), (0, .ref (h 0)), (2, .int (nI i))]) hx hb dX0_growNode_100 rfl hl (by decide) rfl (fun ls hl => ?_)
          refine lv_iinc (v := nI (i + 1)) (lv' := [(2, .int (nI (i + 1))), (1, .int (nI x)), (3, .int (nI x)), (0, .ref (h 0))]) hx hb dX0_growNode_101 hl (k := 3) rfl (nI_add i 1) (by decide) rfl (fun ls hl => ?_)
          refine lv_goto (tgt := 14) hx hb dX0_growNode_104 (by decide) ?_
          exact ih_LA (i + 1) x (zn_u ch1 ((8 * nd) + (ky i)) x) (zn_u nu1 x (((9 * (nu1 nd)) + (ky i)) + 1)) (zn_u be1 x ((be1 x) + 1)) (by omega) (by omega) (z_G_new hky (by omega) hM hG c_40 hx0 hx1 hbx) _ _ hP hD hS ls (lv_sub hl [3, 1, 0] rfl)
  exact LA (kl + 1) 0 0 ch nu (zn_u be 0 ((be 0) + 1)) (Nat.zero_le _) (by omega) (z_G_0 hT) _ _ hP hD hS ls (lv_sub hl [2, 1, 0] rfl)
set_option maxHeartbeats 4000000 in
/-- shrinkPath() -/
theorem zc_shrinkPath (l : Launch) (D : va_G) (cA : ClassId) (sz : Nat) (h : Nat → Nat) (kl : Nat) (ky ch nu be : Nat → Nat) (he : Nat) (en es ev : Nat → Int32) (an ap ao ar al : Int32) (ak : Nat → Int32) (cn cn0 : Nat → Nat) (hkl : kl ≤ 4) (hky : ∀ j, ky j < 8) (hT : z_T ch nu be cn0 0) (hcc : ∀ q, cn0 q = cn q + if z_cov q (z_P ky kl) then 1 else 0) (hM : ∀ p c, c < 8 → cn (9 * p + c + 1) ≤ cn p) (hsb : z_sb be < 1000) : z_Mv (S := (Nat → Nat) × (Nat → Nat)) l yX0_shrinkPath cX0_shrinkPath 4 ({ frames := 0, cells := 0, slots := 0, locals := 0 } : Room) D cA sz [.ref (h 0)] (z_w0 cA h (nI kl) (zn_F ky) (zn_F ch) (zn_F nu) (zn_F be) (nI he) en es ev (an) (ap) (ao) (ar) (al) ak) (fun (u : (Nat → Nat) × (Nat → Nat)) => ∃ nd, z_H ky kl u.1 nu u.2 cn be kl nd) (fun u => z_w0 cA h (nI kl) (zn_F ky) (zn_F u.1) (zn_F nu) (zn_F u.2) (nI he) en es ev (an) (ap) (ao) (ar) (al) ak) := by
  refine z_ofv (by decide) (Nat.le_of_ble_eq_true rfl) ?_
  intro p e s m below meth c A Q hx hb hml hown hts hA hret hK hP hD hS ls hl
  have hown : s.vm.findClass RX0 = some m.cls := hown
  have hl : lv_has ls 4 [(0, .ref (h 0))] := hl
  obtain ⟨hb1, hH0⟩ := z_H_0 hky hkl hT hcc
  refine lv_iconst (v := nI 0) hx hb dX0_shrinkPath_0 (by decide) ?_
  refine lv_istore_n (lv' := [(1, .int (nI 0)), (0, .ref (h 0))]) hx hb dX0_shrinkPath_1 rfl hl (by decide) rfl (fun ls hl => ?_)
  refine lv_aload_n hx hb dX0_shrinkPath_2 rfl (lv_at hl 1 rfl) ?_
  refine va_get (D := D) (ci := 0) (v := .ref (h 4)) (C := RX0) (T := TX0) (N := 15) hx hb hts in_X0 hown hK hP 0 rfl rfl 4 (by decide) (hts _ q35) (fun _ h9 => h9) rfl dX0_shrinkPath_3 ?_
  refine lv_iconst (v := nI 0) hx hb dX0_shrinkPath_6 (by decide) ?_
  refine lv_dup2_11 hx hb dX0_shrinkPath_7 rfl rfl ?_
  refine zn_ald hx hb hK hP 4 0 rfl rfl (i := 0) (by decide) (by decide) dX0_shrinkPath_8 ?_
  refine lv_iconst (v := nI 1) hx hb dX0_shrinkPath_9 (by decide) ?_
  refine zn_isub hx hb (a := be 0) (b := 1) (by omega) dX0_shrinkPath_10 ?_
  refine zn_ast hx hb hK hP hD hS 4 0 rfl rfl (i := 0) (x := (be 0) - 1) (by decide) (by decide) dX0_shrinkPath_11 (fun H locs hP hD hS => ?_)
  have hP : va_P D z_cl (z_w0 cA h (nI kl) (zn_F ky) (zn_F ch) (zn_F nu) (zn_F (zn_u be 0 ((be 0) - 1))) (nI he) en es ev (an) (ap) (ao) (ar) (al) ak) H := hP
  have hD : va_D A (z_w0 cA h (nI kl) (zn_F ky) (zn_F ch) (zn_F nu) (zn_F (zn_u be 0 ((be 0) - 1))) (nI he) en es ev (an) (ap) (ao) (ar) (al) ak) := hD
  refine lv_iconst (v := nI 0) hx hb dX0_shrinkPath_12 (by decide) ?_
  refine lv_istore_n (lv' := [(2, .int (nI 0)), (1, .int (nI 0)), (0, .ref (h 0))]) hx hb dX0_shrinkPath_13 rfl hl (by decide) rfl (fun ls hl => ?_)
  have LA : ∀ (n : Nat) (i : Nat) (nd : Nat) (ch1 : Nat → Nat) (be1 : Nat → Nat), (i ≤ kl) → (kl < i + n) → (z_H ky kl ch1 nu be1 cn be i nd) → (∀ m, z_lv be1 nd m → z_lv be 0 m) → ∀ (H : Heap) (locs : List Loc), va_P D z_cl (z_w0 cA h (nI kl) (zn_F ky) (zn_F ch1) (zn_F nu) (zn_F be1) (nI he) en es ev (an) (ap) (ao) (ar) (al) ak) H → va_D A (z_w0 cA h (nI kl) (zn_F ky) (zn_F ch1) (zn_F nu) (zn_F be1) (nI he) en es ev (an) (ap) (ao) (ar) (al) ak) → va_S A s.heap H locs → ∀ ls : Array Slot, lv_has ls 4 [(0, .ref (h 0)), (1, .int (nI nd)), (2, .int (nI i))] → W p l e ({ frames := 0, cells := 0, slots := 0, locals := 0 } : Room) s m ([.ref (h 0)] : List Value).toArray below meth c H locs 0 0 Q (F0 m 14 ls []) := by
    intro n
    induction n with
    | zero =>
      intro i nd ch1 be1 hi hn hG hlv
      exact absurd hn (by omega)
    | succ n ih_LA =>
      intro i nd ch1 be1 hi hn hG hlv H locs hP hD hS ls hl
      refine lv_iload_n hx hb dX0_shrinkPath_14 rfl (lv_at hl 2 rfl) ?_
      refine lv_aload_n hx hb dX0_shrinkPath_15 rfl (lv_at hl 0 rfl) ?_
      refine va_get (D := D) (ci := 0) (v := .int (nI kl)) (C := RX0) (T := TX0) (N := 15) hx hb hts in_X0 hown hK hP 0 rfl rfl 0 (by decide) (hts _ q31) (fun _ h9 => h9) rfl dX0_shrinkPath_16 ?_
      refine zn_icmp_ge (tgt := 83) hx hb (a := i) (b := kl) (by omega) (by omega) dX0_shrinkPath_19 (by decide) (fun c_19 => ?_) (fun c_19 => ?_)
      · have e9 : i = kl := by omega
        rw [e9] at hG
        exact hret (ch1, be1) _ _ _ _ dX0_shrinkPath_83 ⟨nd, hG⟩ hP hD hS
      · have hnd := hG.1
        have hkyi := hky i
        have hSS := fun ch' => z_H_S (ch' := ch') hky hkl (show i < kl by omega) hM hT.2.2.2.2.2.2 hG hlv
        obtain ⟨hS1, hS2, hS3, -, hS5⟩ := hSS ch1
        have hS4 := fun ch' => (hSS ch').2.2.2.1
        refine lv_aload_n hx hb dX0_shrinkPath_22 rfl (lv_at hl 0 rfl) ?_
        refine va_get (D := D) (ci := 0) (v := .ref (h 2)) (C := RX0) (T := TX0) (N := 15) hx hb hts in_X0 hown hK hP 0 rfl rfl 2 (by decide) (hts _ q33) (fun _ h9 => h9) rfl dX0_shrinkPath_23 ?_
        refine lv_bipush (v := nI 8) hx hb dX0_shrinkPath_26 (by decide) ?_
        refine lv_iload_n hx hb dX0_shrinkPath_28 rfl (lv_at hl 1 rfl) ?_
        refine zn_imul hx hb (a := 8) (b := nd) dX0_shrinkPath_29 ?_
        refine lv_aload_n hx hb dX0_shrinkPath_30 rfl (lv_at hl 0 rfl) ?_
        refine va_get (D := D) (ci := 0) (v := .ref (h 1)) (C := RX0) (T := TX0) (N := 15) hx hb hts in_X0 hown hK hP 0 rfl rfl 1 (by decide) (hts _ q32) (fun _ h9 => h9) rfl dX0_shrinkPath_31 ?_
        refine lv_iload_n hx hb dX0_shrinkPath_34 rfl (lv_at hl 2 rfl) ?_
        refine zn_ald hx hb hK hP 1 0 rfl rfl (i := i) (by omega) (by decide) dX0_shrinkPath_35 ?_
        refine zn_iadd hx hb (a := 8 * nd) (b := ky i) dX0_shrinkPath_36 ?_
        refine zn_ald hx hb hK hP 2 0 rfl rfl (i := (8 * nd) + (ky i)) (by omega) (by decide) dX0_shrinkPath_37 ?_
        refine lv_istore_n (lv' := [(3, .int (nI (ch1 ((8 * nd) + (ky i))))), (0, .ref (h 0)), (1, .int (nI nd)), (2, .int (nI i))]) hx hb dX0_shrinkPath_38 rfl hl (by decide) rfl (fun ls hl => ?_)
        refine lv_aload_n hx hb dX0_shrinkPath_39 rfl (lv_at hl 1 rfl) ?_
        refine va_get (D := D) (ci := 0) (v := .ref (h 4)) (C := RX0) (T := TX0) (N := 15) hx hb hts in_X0 hown hK hP 0 rfl rfl 4 (by decide) (hts _ q35) (fun _ h9 => h9) rfl dX0_shrinkPath_40 ?_
        refine lv_iload_n hx hb dX0_shrinkPath_43 rfl (lv_at hl 0 rfl) ?_
        refine lv_dup2_11 hx hb dX0_shrinkPath_44 rfl rfl ?_
        refine zn_ald hx hb hK hP 4 0 rfl rfl (i := ch1 ((8 * nd) + (ky i))) (by omega) (by decide) dX0_shrinkPath_45 ?_
        refine lv_iconst (v := nI 1) hx hb dX0_shrinkPath_46 (by decide) ?_
        refine zn_isub hx hb (a := be1 (ch1 ((8 * nd) + (ky i)))) (b := 1) (by omega) dX0_shrinkPath_47 ?_
        refine zn_ast hx hb hK hP hD hS 4 0 rfl rfl (i := ch1 ((8 * nd) + (ky i))) (x := (be1 (ch1 ((8 * nd) + (ky i)))) - 1) (by omega) (by decide) dX0_shrinkPath_48 (fun H locs hP hD hS => ?_)
        have hP : va_P D z_cl (z_w0 cA h (nI kl) (zn_F ky) (zn_F ch1) (zn_F nu) (zn_F (zn_u be1 (ch1 ((8 * nd) + (ky i))) ((be1 (ch1 ((8 * nd) + (ky i)))) - 1))) (nI he) en es ev (an) (ap) (ao) (ar) (al) ak) H := hP
        have hD : va_D A (z_w0 cA h (nI kl) (zn_F ky) (zn_F ch1) (zn_F nu) (zn_F (zn_u be1 (ch1 ((8 * nd) + (ky i))) ((be1 (ch1 ((8 * nd) + (ky i)))) - 1))) (nI he) en es ev (an) (ap) (ao) (ar) (al) ak) := hD
        refine lv_aload_n hx hb dX0_shrinkPath_49 rfl (lv_at hl 1 rfl) ?_
        refine va_get (D := D) (ci := 0) (v := .ref (h 4)) (C := RX0) (T := TX0) (N := 15) hx hb hts in_X0 hown hK hP 0 rfl rfl 4 (by decide) (hts _ q35) (fun _ h9 => h9) rfl dX0_shrinkPath_50 ?_
        refine lv_iload_n hx hb dX0_shrinkPath_53 rfl (lv_at hl 0 rfl) ?_
        refine zn_ald hx hb hK hP 4 0 rfl rfl (i := ch1 ((8 * nd) + (ky i))) (by omega) (by decide) dX0_shrinkPath_54 ?_
        refine zn_if_ne (tgt := 75) hx hb (a := (zn_u be1 (ch1 ((8 * nd) + (ky i))) ((be1 (ch1 ((8 * nd) + (ky i)))) - 1)) (ch1 ((8 * nd) + (ky i)))) (by rw [zn_us]; have := z_sb_one be1 (i := ch1 (8 * nd + ky i)) (by omega) (by omega); have := hG.2.2.2.2.2; omega) dX0_shrinkPath_55 (by decide) (fun c_55 => ?_) (fun c_55 => ?_)
        · refine lv_iload_n hx hb dX0_shrinkPath_75 rfl (lv_at hl 0 rfl) ?_
          refine lv_istore_n (lv' := [(1, .int (nI (ch1 ((8 * nd) + (ky i))))), (3, .int (nI (ch1 ((8 * nd) + (ky i))))), (0, .ref (h 0)), (2, .int (nI i))]) hx hb dX0_shrinkPath_76 rfl hl (by decide) rfl (fun ls hl => ?_)
          refine lv_iinc (v := nI (i + 1)) (lv' := [(2, .int (nI (i + 1))), (1, .int (nI (ch1 ((8 * nd) + (ky i))))), (3, .int (nI (ch1 ((8 * nd) + (ky i))))), (0, .ref (h 0))]) hx hb dX0_shrinkPath_77 hl (k := 3) rfl (nI_add i 1) (by decide) rfl (fun ls hl => ?_)
          refine lv_goto (tgt := 14) hx hb dX0_shrinkPath_80 (by decide) ?_
          exact ih_LA (i + 1) (ch1 ((8 * nd) + (ky i))) ch1 (zn_u be1 (ch1 ((8 * nd) + (ky i))) ((be1 (ch1 ((8 * nd) + (ky i)))) - 1)) (by omega) (by omega) (hS4 _ (Or.inr ⟨by have h9 := c_55; rw [zn_us] at h9; exact h9, rfl⟩)) hS5 _ _ hP hD hS ls (lv_sub hl [3, 1, 0] rfl)
        · refine lv_aload_n hx hb dX0_shrinkPath_58 rfl (lv_at hl 1 rfl) ?_
          refine va_get (D := D) (ci := 0) (v := .ref (h 2)) (C := RX0) (T := TX0) (N := 15) hx hb hts in_X0 hown hK hP 0 rfl rfl 2 (by decide) (hts _ q33) (fun _ h9 => h9) rfl dX0_shrinkPath_59 ?_
          refine lv_bipush (v := nI 8) hx hb dX0_shrinkPath_62 (by decide) ?_
          refine lv_iload_n hx hb dX0_shrinkPath_64 rfl (lv_at hl 2 rfl) ?_
          refine zn_imul hx hb (a := 8) (b := nd) dX0_shrinkPath_65 ?_
          refine lv_aload_n hx hb dX0_shrinkPath_66 rfl (lv_at hl 1 rfl) ?_
          refine va_get (D := D) (ci := 0) (v := .ref (h 1)) (C := RX0) (T := TX0) (N := 15) hx hb hts in_X0 hown hK hP 0 rfl rfl 1 (by decide) (hts _ q32) (fun _ h9 => h9) rfl dX0_shrinkPath_67 ?_
          refine lv_iload_n hx hb dX0_shrinkPath_70 rfl (lv_at hl 3 rfl) ?_
          refine zn_ald hx hb hK hP 1 0 rfl rfl (i := i) (by omega) (by decide) dX0_shrinkPath_71 ?_
          refine zn_iadd hx hb (a := 8 * nd) (b := ky i) dX0_shrinkPath_72 ?_
          refine lv_iconst (v := nI 0) hx hb dX0_shrinkPath_73 (by decide) ?_
          refine zn_ast hx hb hK hP hD hS 2 0 rfl rfl (i := (8 * nd) + (ky i)) (x := 0) (by omega) (by decide) dX0_shrinkPath_74 (fun H locs hP hD hS => ?_)
          have hP : va_P D z_cl (z_w0 cA h (nI kl) (zn_F ky) (zn_F (zn_u ch1 ((8 * nd) + (ky i)) 0)) (zn_F nu) (zn_F (zn_u be1 (ch1 ((8 * nd) + (ky i))) ((be1 (ch1 ((8 * nd) + (ky i)))) - 1))) (nI he) en es ev (an) (ap) (ao) (ar) (al) ak) H := hP
          have hD : va_D A (z_w0 cA h (nI kl) (zn_F ky) (zn_F (zn_u ch1 ((8 * nd) + (ky i)) 0)) (zn_F nu) (zn_F (zn_u be1 (ch1 ((8 * nd) + (ky i))) ((be1 (ch1 ((8 * nd) + (ky i)))) - 1))) (nI he) en es ev (an) (ap) (ao) (ar) (al) ak) := hD
          refine lv_iload_n hx hb dX0_shrinkPath_75 rfl (lv_at hl 0 rfl) ?_
          refine lv_istore_n (lv' := [(1, .int (nI (ch1 ((8 * nd) + (ky i))))), (3, .int (nI (ch1 ((8 * nd) + (ky i))))), (0, .ref (h 0)), (2, .int (nI i))]) hx hb dX0_shrinkPath_76 rfl hl (by decide) rfl (fun ls hl => ?_)
          refine lv_iinc (v := nI (i + 1)) (lv' := [(2, .int (nI (i + 1))), (1, .int (nI (ch1 ((8 * nd) + (ky i))))), (3, .int (nI (ch1 ((8 * nd) + (ky i))))), (0, .ref (h 0))]) hx hb dX0_shrinkPath_77 hl (k := 3) rfl (nI_add i 1) (by decide) rfl (fun ls hl => ?_)
          refine lv_goto (tgt := 14) hx hb dX0_shrinkPath_80 (by decide) ?_
          exact ih_LA (i + 1) (ch1 ((8 * nd) + (ky i))) (zn_u ch1 ((8 * nd) + (ky i)) 0) (zn_u be1 (ch1 ((8 * nd) + (ky i))) ((be1 (ch1 ((8 * nd) + (ky i)))) - 1)) (by omega) (by omega) (hS4 _ (Or.inl ⟨by have h9 := c_55; rw [zn_us] at h9; exact h9, rfl⟩)) hS5 _ _ hP hD hS ls (lv_sub hl [3, 1, 0] rfl)
  exact LA (kl + 1) 0 0 ch (zn_u be 0 ((be 0) - 1)) (Nat.zero_le _) (by omega) hH0 (fun m hm => by by_cases h9 : m = 0; exact Or.inl h9; simp only [z_lv] at hm ⊢; rw [zn_un h9] at hm; exact hm) _ _ hP hD hS ls (lv_sub hl [2, 1, 0] rfl)
set_option maxHeartbeats 4000000 in
/-- askNumber(n) -/
theorem zc_askNumber (l : Launch) (D : va_G) (cA : ClassId) (sz : Nat) (h : Nat → Nat) (kl : Int32) (ky ch nu be : Nat → Int32) (he : Nat) (en es ev : Nat → Int32) (an ap ao ar : Int32) (al : Nat) (ak : Nat → Nat) (q : Nat) (hq : z_vn q) (hak : ∀ j, ak j < 8) : z_Mv (S := Nat × (Nat → Nat)) l yX0_askNumber cX0_askNumber 4 ({ frames := 0, cells := 0, slots := 0, locals := 0 } : Room) D cA sz [.ref (h 0), .int (nI q)] (z_w0 cA h (kl) ky ch nu be (nI he) en es ev (an) (ap) (ao) (ar) (nI al) (zn_F ak)) (fun (u : Nat × (Nat → Nat)) => z_A q u.1 u.2 4) (fun u => z_w0 cA h (kl) ky ch nu be (nI he) en es ev (an) (ap) (ao) (ar) (nI u.1) (zn_F u.2)) := by
  refine z_ofv (by decide) (Nat.le_of_ble_eq_true rfl) ?_
  intro p e s m below meth c A Q hx hb hml hown hts hA hret hK hP hD hS ls hl
  have hown : s.vm.findClass RX0 = some m.cls := hown
  have hl : lv_has ls 4 [(0, .ref (h 0)), (1, .int (nI q))] := hl
  refine lv_aload_n hx hb dX0_askNumber_0 rfl (lv_at hl 0 rfl) ?_
  refine lv_iconst (v := nI 0) hx hb dX0_askNumber_1 (by decide) ?_
  refine va_put (D := D) (ci := 0) (v := .int (nI 0)) (ty := .int) (C := RX0) (T := TX0) (N := 15) hx hb hts in_X0 tyX0 tyX0_ok nmX0 hown hK hP hD hS 0 rfl rfl 13 (by decide) (hts _ q44) (fun _ h9 => h9) rfl (by decide +kernel) rfl rfl (Nat.le_of_ble_eq_true rfl) dX0_askNumber_2 (fun H locs hP hD hS => ?_)
  have hP : va_P D z_cl (z_w0 cA h (kl) ky ch nu be (nI he) en es ev (an) (ap) (ao) (ar) (nI 0) (zn_F ak)) H := hP
  have hD : va_D A (z_w0 cA h (kl) ky ch nu be (nI he) en es ev (an) (ap) (ao) (ar) (nI 0) (zn_F ak)) := hD
  refine lv_sipush (v := nI 729) hx hb dX0_askNumber_5 (by decide) ?_
  refine lv_istore_n (lv' := [(2, .int (nI 729)), (0, .ref (h 0)), (1, .int (nI q))]) hx hb dX0_askNumber_8 rfl hl (by decide) rfl (fun ls hl => ?_)
  have LA : ∀ (n : Nat) (j : Nat) (x : Nat) (al1 : Nat) (ak1 : Nat → Nat), (j ≤ 4) → (4 < j + n) → (x = z_sh 729 j) → (z_A q al1 ak1 j) → ∀ (H : Heap) (locs : List Loc), va_P D z_cl (z_w0 cA h (kl) ky ch nu be (nI he) en es ev (an) (ap) (ao) (ar) (nI al1) (zn_F ak1)) H → va_D A (z_w0 cA h (kl) ky ch nu be (nI he) en es ev (an) (ap) (ao) (ar) (nI al1) (zn_F ak1)) → va_S A s.heap H locs → ∀ ls : Array Slot, lv_has ls 4 [(0, .ref (h 0)), (1, .int (nI q)), (2, .int (nI x))] → W p l e ({ frames := 0, cells := 0, slots := 0, locals := 0 } : Room) s m ([.ref (h 0), .int (nI q)] : List Value).toArray below meth c H locs 0 0 Q (F0 m 9 ls []) := by
    intro n
    induction n with
    | zero =>
      intro j x al1 ak1 hj hn ep hA9
      exact absurd hn (by omega)
    | succ n ih_LA =>
      intro j x al1 ak1 hj hn ep hA9 H locs hP hD hS ls hl
      have hq1 := hq.1
      have hxb := z_sh_le 729 j
      rw [← ep] at hxb
      refine lv_iload_n hx hb dX0_askNumber_9 rfl (lv_at hl 2 rfl) ?_
      refine zn_if_le (tgt := 54) hx hb (a := x) (by omega) dX0_askNumber_10 (by decide) (fun c_10 => ?_) (fun c_10 => ?_)
      · have e9 : j = 4 := z_sh_729 hj (by rw [← ep]; exact c_10)
        rw [e9] at hA9
        exact hret (al1, ak1) _ _ _ _ dX0_askNumber_54 hA9 hP hD hS
      · have hj4 : j < 4 := z_sh_729n hj (by rw [← ep]; exact c_10)
        have hal1 := hA9.1
        refine lv_iload_n hx hb dX0_askNumber_13 rfl (lv_at hl 1 rfl) ?_
        refine lv_iload_n hx hb dX0_askNumber_14 rfl (lv_at hl 2 rfl) ?_
        refine zn_idiv hx hb (a := q) (b := x) (by omega) (by omega) (by omega) dX0_askNumber_15 ?_
        refine lv_bipush (v := nI 9) hx hb dX0_askNumber_16 (by decide) ?_
        refine zn_irem hx hb (a := q / x) (b := 9) (Nat.lt_of_le_of_lt (Nat.div_le_self _ _) (by omega)) (by decide) (by decide) dX0_askNumber_18 ?_
        refine lv_istore_n (lv' := [(3, .int (nI ((q / x) % 9))), (0, .ref (h 0)), (1, .int (nI q)), (2, .int (nI x))]) hx hb dX0_askNumber_19 rfl hl (by decide) rfl (fun ls hl => ?_)
        refine lv_iload_n hx hb dX0_askNumber_20 rfl (lv_at hl 0 rfl) ?_
        refine zn_if_le (tgt := 46) hx hb (a := (q / x) % 9) (Nat.lt_trans (Nat.mod_lt _ (by decide)) (by decide)) dX0_askNumber_21 (by decide) (fun c_21 => ?_) (fun c_21 => ?_)
        · refine lv_iload_n hx hb dX0_askNumber_46 rfl (lv_at hl 3 rfl) ?_
          refine lv_bipush (v := nI 9) hx hb dX0_askNumber_47 (by decide) ?_
          refine zn_idiv hx hb (a := x) (b := 9) (by omega) (by decide) (by decide) dX0_askNumber_49 ?_
          refine lv_istore_n (lv' := [(2, .int (nI (x / 9))), (3, .int (nI ((q / x) % 9))), (0, .ref (h 0)), (1, .int (nI q))]) hx hb dX0_askNumber_50 rfl hl (by decide) rfl (fun ls hl => ?_)
          refine lv_goto (tgt := 9) hx hb dX0_askNumber_51 (by decide) ?_
          exact ih_LA (j + 1) (x / 9) al1 ak1 (by omega) (by omega) (by rw [ep]; rfl) (z_A_z hq hA9 hj4 ep c_21) _ _ hP hD hS ls (lv_sub hl [2, 3, 0] rfl)
        · refine lv_aload_n hx hb dX0_askNumber_24 rfl (lv_at hl 1 rfl) ?_
          refine va_get (D := D) (ci := 0) (v := .ref (h 8)) (C := RX0) (T := TX0) (N := 15) hx hb hts in_X0 hown hK hP 0 rfl rfl 14 (by decide) (hts _ q45) (fun _ h9 => h9) rfl dX0_askNumber_25 ?_
          refine lv_aload_n hx hb dX0_askNumber_28 rfl (lv_at hl 1 rfl) ?_
          refine va_get (D := D) (ci := 0) (v := .int (nI al1)) (C := RX0) (T := TX0) (N := 15) hx hb hts in_X0 hown hK hP 0 rfl rfl 13 (by decide) (hts _ q44) (fun _ h9 => h9) rfl dX0_askNumber_29 ?_
          refine lv_iload_n hx hb dX0_askNumber_32 rfl (lv_at hl 0 rfl) ?_
          refine lv_iconst (v := nI 1) hx hb dX0_askNumber_33 (by decide) ?_
          refine zn_isub hx hb (a := (q / x) % 9) (b := 1) (by omega) dX0_askNumber_34 ?_
          refine zn_ast hx hb hK hP hD hS 8 0 rfl rfl (i := al1) (x := ((q / x) % 9) - 1) (by omega) (by decide) dX0_askNumber_35 (fun H locs hP hD hS => ?_)
          have hP : va_P D z_cl (z_w0 cA h (kl) ky ch nu be (nI he) en es ev (an) (ap) (ao) (ar) (nI al1) (zn_F (zn_u ak1 al1 (((q / x) % 9) - 1)))) H := hP
          have hD : va_D A (z_w0 cA h (kl) ky ch nu be (nI he) en es ev (an) (ap) (ao) (ar) (nI al1) (zn_F (zn_u ak1 al1 (((q / x) % 9) - 1)))) := hD
          refine lv_aload_n hx hb dX0_askNumber_36 rfl (lv_at hl 1 rfl) ?_
          refine lv_dup hx hb dX0_askNumber_37 rfl ?_
          refine va_get (D := D) (ci := 0) (v := .int (nI al1)) (C := RX0) (T := TX0) (N := 15) hx hb hts in_X0 hown hK hP 0 rfl rfl 13 (by decide) (hts _ q44) (fun _ h9 => h9) rfl dX0_askNumber_38 ?_
          refine lv_iconst (v := nI 1) hx hb dX0_askNumber_41 (by decide) ?_
          refine zn_iadd hx hb (a := al1) (b := 1) dX0_askNumber_42 ?_
          refine va_put (D := D) (ci := 0) (v := .int (nI (al1 + 1))) (ty := .int) (C := RX0) (T := TX0) (N := 15) hx hb hts in_X0 tyX0 tyX0_ok nmX0 hown hK hP hD hS 0 rfl rfl 13 (by decide) (hts _ q44) (fun _ h9 => h9) rfl (by decide +kernel) rfl rfl (Nat.le_of_ble_eq_true rfl) dX0_askNumber_43 (fun H locs hP hD hS => ?_)
          have hP : va_P D z_cl (z_w0 cA h (kl) ky ch nu be (nI he) en es ev (an) (ap) (ao) (ar) (nI (al1 + 1)) (zn_F (zn_u ak1 al1 (((q / x) % 9) - 1)))) H := hP
          have hD : va_D A (z_w0 cA h (kl) ky ch nu be (nI he) en es ev (an) (ap) (ao) (ar) (nI (al1 + 1)) (zn_F (zn_u ak1 al1 (((q / x) % 9) - 1)))) := hD
          refine lv_iload_n hx hb dX0_askNumber_46 rfl (lv_at hl 3 rfl) ?_
          refine lv_bipush (v := nI 9) hx hb dX0_askNumber_47 (by decide) ?_
          refine zn_idiv hx hb (a := x) (b := 9) (by omega) (by decide) (by decide) dX0_askNumber_49 ?_
          refine lv_istore_n (lv' := [(2, .int (nI (x / 9))), (3, .int (nI ((q / x) % 9))), (0, .ref (h 0)), (1, .int (nI q))]) hx hb dX0_askNumber_50 rfl hl (by decide) rfl (fun ls hl => ?_)
          refine lv_goto (tgt := 9) hx hb dX0_askNumber_51 (by decide) ?_
          exact ih_LA (j + 1) (x / 9) (al1 + 1) (zn_u ak1 al1 (((q / x) % 9) - 1)) (by omega) (by omega) (by rw [ep]; rfl) (z_A_s hA9 hj4 ep c_21) _ _ hP hD hS ls (lv_sub hl [2, 3, 0] rfl)
  exact LA 5 0 729 0 ak (by omega) (by omega) rfl (z_A_0 hq hak) _ _ hP hD hS ls (lv_sub hl [1, 2, 0] rfl)
end
section
/-! ZoneLookupModel: lookups -/
set_option maxRecDepth 100000
set_option maxHeartbeats 4000000 in
/-- handed(name) -/
theorem zd_handed (l : Launch) (D : va_G) (cA : ClassId) (sz : Nat) (h : Nat → Nat) (he : Nat) (nm : Nat → Nat) (es ev : Nat → Int32) (ke la pl ro : Int32) (q : Nat) (hhe : he ≤ 24) (hq : q < 6561) : z_Mi (S := Unit) l yX1_handed cX1_handed 5 .int ({ frames := 1, cells := 0, slots := 0, locals := 24 } : Room) D cA sz [.ref (h 0), .int (nI q)] (z_w1 cA h (nI he) (zn_F nm) es ev (ke) (la) (pl) (ro)) (fun r _ => r = z_or (z_hd nm es he q 4)) (fun _ => z_w1 cA h (nI he) (zn_F nm) es ev (ke) (la) (pl) (ro)) := by
  refine z_ofi (by decide) (Nat.le_of_ble_eq_true rfl) ?_
  intro p e s m below meth c A Q hx hb hml hown hts hA hret hK hP hD hS ls hl
  have hown : s.vm.findClass RX1 = some m.cls := hown
  have hl : lv_has ls 5 [(0, .ref (h 0)), (1, .int (nI q))] := hl
  refine lv_iconst (v := (-1)) hx hb dX1_handed_0 (by decide) ?_
  refine lv_istore_n (lv' := [(2, .int ((-1))), (0, .ref (h 0)), (1, .int (nI q))]) hx hb dX1_handed_1 rfl hl (by decide) rfl (fun ls hl => ?_)
  refine lv_iload_n hx hb dX1_handed_2 rfl (lv_at hl 2 rfl) ?_
  refine lv_istore_n (lv' := [(3, .int (nI q)), (2, .int ((-1))), (0, .ref (h 0)), (1, .int (nI q))]) hx hb dX1_handed_3 rfl hl (by decide) rfl (fun ls hl => ?_)
  refine lv_iconst (v := nI 0) hx hb dX1_handed_4 (by decide) ?_
  refine lv_istore (lv' := [(4, .int (nI 0)), (3, .int (nI q)), (2, .int ((-1))), (0, .ref (h 0)), (1, .int (nI q))]) hx hb dX1_handed_5 hl (by decide) rfl (fun ls hl => ?_)
  have LA : ∀ (n : Nat) (i : Nat) (x : Nat) (b : Int32), (i ≤ 4) → (4 < i + n) → (x < 6561) → (x = z_sh q i) → (b = z_or (z_hd nm es he q i)) → ∀ (H : Heap) (locs : List Loc), va_P D z_cl (z_w1 cA h (nI he) (zn_F nm) es ev (ke) (la) (pl) (ro)) H → va_D A (z_w1 cA h (nI he) (zn_F nm) es ev (ke) (la) (pl) (ro)) → va_S A s.heap H locs → ∀ ls : Array Slot, lv_has ls 5 [(0, .ref (h 0)), (1, .int (nI q)), (2, .int b), (3, .int (nI x)), (4, .int (nI i))] → W p l e ({ frames := 1, cells := 0, slots := 0, locals := 24 } : Room) s m ([.ref (h 0), .int (nI q)] : List Value).toArray below meth c H locs 0 0 Q (F0 m 7 ls []) := by
    intro n
    induction n with
    | zero =>
      intro i x b hi hn hx9 ex eb
      exact absurd hn (by omega)
    | succ n ih_LA =>
      intro i x b hi hn hx9 ex eb H locs hP hD hS ls hl
      refine lv_iload hx hb dX1_handed_7 (lv_at hl 4 rfl) ?_
      refine lv_iconst (v := nI 4) hx hb dX1_handed_9 (by decide) ?_
      refine zn_icmp_ge (tgt := 39) hx hb (a := i) (b := 4) (by omega) (by decide) dX1_handed_10 (by decide) (fun c_10 => ?_) (fun c_10 => ?_)
      · refine lv_iload_n hx hb dX1_handed_39 rfl (lv_at hl 2 rfl) ?_
        exact hret (b) () _ _ _ _ dX1_handed_40 rfl (by rw [eb, show i = 4 by omega]) hP hD hS
      · refine lv_iload_n hx hb dX1_handed_13 rfl (lv_at hl 3 rfl) ?_
        refine zn_if_le (tgt := 39) hx hb (a := x) (by omega) dX1_handed_14 (by decide) (fun c_14 => ?_) (fun c_14 => ?_)
        · refine lv_iload_n hx hb dX1_handed_39 rfl (lv_at hl 2 rfl) ?_
          exact hret (b) () _ _ _ _ dX1_handed_40 rfl (by rw [eb, z_hd_skip hi (fun j h1 _ q9 => q9.1 (z_sh_0 (by rw [← ex]; exact c_14) h1))]) hP hD hS
        · refine lv_aload_n hx hb dX1_handed_17 rfl (lv_at hl 0 rfl) ?_
          refine lv_iload_n hx hb dX1_handed_18 rfl (lv_at hl 3 rfl) ?_
          refine lv_iconst (v := nI 4) hx hb dX1_handed_19 (by decide) ?_
          refine z_calli (As := [.int (nI x), .int (nI 4)]) (rest := []) ⟨hx, hb, hml, hown, hts⟩ (zd_count l D cA H.size h he (zn_F nm) es ev (ke) (la) (pl) (ro) (nI x) (nI 4) hhe) (cwV 2 hts (lw_V q235 q237 qs14 q22 q238) rfl rfl rfl (by decide +kernel) ⟨Nat.le_of_ble_eq_true rfl, Nat.le_of_ble_eq_true rfl⟩) (va_recv hK hP (ci := 1) (q0 := 0) rfl rfl) hK hP hD hS hA rfl hl.1 rfl (Nat.le_of_ble_eq_true rfl) dX1_handed_20 (Nat.zero_le _) (Nat.zero_le _) (fun r_20 u_20 H locs hw_20 hP hD hS => ?_)
          have hw_20 : r_20 = nI (z_cnt (zn_F nm) es (nI x) (nI 4) he) := hw_20
          subst hw_20
          have hle_20 := z_cnt_le (zn_F nm) es (nI x) (nI 4) he
          have hP : va_P D z_cl (z_w1 cA h (nI he) (zn_F nm) es ev (ke) (la) (pl) (ro)) H := hP
          have hD : va_D A (z_w1 cA h (nI he) (zn_F nm) es ev (ke) (la) (pl) (ro)) := hD
          refine zn_if_le (tgt := 28) hx hb (a := z_cnt (zn_F nm) es (nI x) (nI 4) he) (by omega) dX1_handed_23 (by decide) (fun c_23 => ?_) (fun c_23 => ?_)
          · refine lv_iload_n hx hb dX1_handed_28 rfl (lv_at hl 3 rfl) ?_
            refine lv_bipush (v := nI 9) hx hb dX1_handed_29 (by decide) ?_
            refine zn_idiv hx hb (a := x) (b := 9) (by omega) (by decide) (by decide) dX1_handed_31 ?_
            refine lv_istore_n (lv' := [(3, .int (nI (x / 9))), (0, .ref (h 0)), (1, .int (nI q)), (2, .int b), (4, .int (nI i))]) hx hb dX1_handed_32 rfl hl (by decide) rfl (fun ls hl => ?_)
            refine lv_iinc (v := nI (i + 1)) (lv' := [(4, .int (nI (i + 1))), (3, .int (nI (x / 9))), (0, .ref (h 0)), (1, .int (nI q)), (2, .int b)]) hx hb dX1_handed_33 hl (k := 4) rfl (nI_add i 1) (by decide) rfl (fun ls hl => ?_)
            refine lv_goto (tgt := 7) hx hb dX1_handed_36 (by decide) ?_
            exact ih_LA (i + 1) (x / 9) b (by omega) (by omega) (by omega) (by rw [ex]; rfl) (by simp only [z_hd]; rw [← ex, if_neg (fun q9 => q9.2 c_23)]; exact eb) _ _ hP hD hS ls (lv_sub hl [2, 3, 4, 1, 0] rfl)
          · refine lv_iload_n hx hb dX1_handed_26 rfl (lv_at hl 3 rfl) ?_
            refine lv_istore_n (lv' := [(2, .int (nI x)), (0, .ref (h 0)), (1, .int (nI q)), (3, .int (nI x)), (4, .int (nI i))]) hx hb dX1_handed_27 rfl hl (by decide) rfl (fun ls hl => ?_)
            refine lv_iload_n hx hb dX1_handed_28 rfl (lv_at hl 3 rfl) ?_
            refine lv_bipush (v := nI 9) hx hb dX1_handed_29 (by decide) ?_
            refine zn_idiv hx hb (a := x) (b := 9) (by omega) (by decide) (by decide) dX1_handed_31 ?_
            refine lv_istore_n (lv' := [(3, .int (nI (x / 9))), (2, .int (nI x)), (0, .ref (h 0)), (1, .int (nI q)), (4, .int (nI i))]) hx hb dX1_handed_32 rfl hl (by decide) rfl (fun ls hl => ?_)
            refine lv_iinc (v := nI (i + 1)) (lv' := [(4, .int (nI (i + 1))), (3, .int (nI (x / 9))), (2, .int (nI x)), (0, .ref (h 0)), (1, .int (nI q))]) hx hb dX1_handed_33 hl (k := 4) rfl (nI_add i 1) (by decide) rfl (fun ls hl => ?_)
            refine lv_goto (tgt := 7) hx hb dX1_handed_36 (by decide) ?_
            exact ih_LA (i + 1) (x / 9) (nI x) (by omega) (by omega) (by omega) (by rw [ex]; rfl) (by rw [z_or_n] <;> (simp only [z_hd]; rw [← ex, if_pos ⟨c_14, c_23⟩]); exact c_14) _ _ hP hD hS ls (lv_sub hl [3, 4, 2, 1, 0] rfl)
  exact LA 5 0 q (-1) (by omega) (by omega) hq rfl (z_or_0 rfl).symm _ _ hP hD hS ls (lv_sub hl [3, 4, 2, 1, 0] rfl)
set_option maxHeartbeats 4000000 in
/-- answering(name) -/
theorem zd_answering (l : Launch) (D : va_G) (cA : ClassId) (sz : Nat) (h : Nat → Nat) (he : Nat) (nm : Nat → Nat) (es ev : Nat → Int32) (ke la pl ro : Int32) (q : Nat) (hhe : he ≤ 24) (hq : q < 6561) (hnm : ∀ j, nm j < 6561) : z_Mi (S := Unit) l yX1_answering cX1_answering 4 .int ({ frames := 2, cells := 0, slots := 0, locals := 45 } : Room) D cA sz [.ref (h 0), .int (nI q)] (z_w1 cA h (nI he) (zn_F nm) es ev (ke) (la) (pl) (ro)) (fun r _ => (∃ a, z_ans nm he q = some a ∧ r = nI a ∧ a < 6561) ∨ (z_ans nm he q = none ∧ r = (-1))) (fun _ => z_w1 cA h (nI he) (zn_F nm) es ev (ke) (la) (pl) (ro)) := by
  refine z_ofi (by decide) (Nat.le_of_ble_eq_true rfl) ?_
  intro p e s m below meth c A Q hx hb hml hown hts hA hret hK hP hD hS ls hl
  have hown : s.vm.findClass RX1 = some m.cls := hown
  have hl : lv_has ls 4 [(0, .ref (h 0)), (1, .int (nI q))] := hl
  refine lv_aload_n hx hb dX1_answering_0 rfl (lv_at hl 0 rfl) ?_
  refine lv_iload_n hx hb dX1_answering_1 rfl (lv_at hl 1 rfl) ?_
  refine z_calli (As := [.int (nI q)]) (rest := []) ⟨hx, hb, hml, hown, hts⟩ (zd_there l D cA s.heap.size h he nm es ev (ke) (la) (pl) (ro) q hhe hq hnm) (cwV 1 hts (lw_V q247 q249 qs15 q22 q250) rfl rfl rfl (by decide +kernel) ⟨Nat.le_of_ble_eq_true rfl, Nat.le_of_ble_eq_true rfl⟩) (va_recv hK hP (ci := 1) (q0 := 0) rfl rfl) hK hP hD hS hA rfl hl.1 rfl (Nat.le_of_ble_eq_true rfl) dX1_answering_2 (Nat.zero_le _) (Nat.zero_le _) (fun r_2 u_2 H locs hw_2 hP hD hS => ?_)
  rcases hw_2 with ⟨rfl, ht_2⟩ | ⟨rfl, ht_2⟩
  · have hP : va_P D z_cl (z_w1 cA h (nI he) (zn_F nm) es ev (ke) (la) (pl) (ro)) H := hP
    have hD : va_D A (z_w1 cA h (nI he) (zn_F nm) es ev (ke) (la) (pl) (ro)) := hD
    refine zn_if_eq (tgt := 10) hx hb (a := 1) (by decide) dX1_answering_5 (by decide) (fun c_5 => absurd c_5 (by decide)) (fun c_5 => ?_)
    refine lv_iload_n hx hb dX1_answering_8 rfl (lv_at hl 1 rfl) ?_
    exact hret (nI q) () _ _ _ _ dX1_answering_9 rfl (Or.inl ⟨q, z_ans_y ht_2, rfl, hq⟩) hP hD hS
  · have hP : va_P D z_cl (z_w1 cA h (nI he) (zn_F nm) es ev (ke) (la) (pl) (ro)) H := hP
    have hD : va_D A (z_w1 cA h (nI he) (zn_F nm) es ev (ke) (la) (pl) (ro)) := hD
    refine zn_if_eq (tgt := 10) hx hb (a := 0) (by decide) dX1_answering_5 (by decide) (fun c_5 => ?_) (fun c_5 => absurd c_5 (by decide))
    refine lv_iload_n hx hb dX1_answering_10 rfl (lv_at hl 1 rfl) ?_
    refine lv_bipush (v := nI 9) hx hb dX1_answering_11 (by decide) ?_
    refine zn_idiv hx hb (a := q) (b := 9) (by omega) (by decide) (by decide) dX1_answering_13 ?_
    refine lv_istore_n (lv' := [(2, .int (nI (q / 9))), (0, .ref (h 0)), (1, .int (nI q))]) hx hb dX1_answering_14 rfl hl (by decide) rfl (fun ls hl => ?_)
    refine lv_iconst (v := nI 0) hx hb dX1_answering_15 (by decide) ?_
    refine lv_istore_n (lv' := [(3, .int (nI 0)), (2, .int (nI (q / 9))), (0, .ref (h 0)), (1, .int (nI q))]) hx hb dX1_answering_16 rfl hl (by decide) rfl (fun ls hl => ?_)
    have LA : ∀ (n : Nat) (i : Nat) (x : Nat), (i ≤ 4) → (4 < i + n) → (x ≤ 728) → (z_clo nm he (4 - i) x = z_clo nm he 4 (q / 9)) → ∀ (H : Heap) (locs : List Loc), va_P D z_cl (z_w1 cA h (nI he) (zn_F nm) es ev (ke) (la) (pl) (ro)) H → va_D A (z_w1 cA h (nI he) (zn_F nm) es ev (ke) (la) (pl) (ro)) → va_S A s.heap H locs → ∀ ls : Array Slot, lv_has ls 4 [(0, .ref (h 0)), (1, .int (nI q)), (2, .int (nI x)), (3, .int (nI i))] → W p l e ({ frames := 2, cells := 0, slots := 0, locals := 45 } : Room) s m ([.ref (h 0), .int (nI q)] : List Value).toArray below meth c H locs 0 0 Q (F0 m 17 ls []) := by
      intro n
      induction n with
      | zero =>
        intro i x hi hn hx9 ex
        exact absurd hn (by omega)
      | succ n ih_LA =>
        intro i x hi hn hx9 ex H locs hP hD hS ls hl
        refine lv_iload_n hx hb dX1_answering_17 rfl (lv_at hl 3 rfl) ?_
        refine lv_iconst (v := nI 4) hx hb dX1_answering_18 (by decide) ?_
        refine zn_icmp_ge (tgt := 41) hx hb (a := i) (b := 4) (by omega) (by decide) dX1_answering_19 (by decide) (fun c_19 => ?_) (fun c_19 => ?_)
        · have hcl : z_clo nm he 4 (q / 9) = x := by rw [← ex, show 4 - i = 0 by omega]; rfl
          refine lv_iload_n hx hb dX1_answering_41 rfl (lv_at hl 2 rfl) ?_
          refine lv_bipush (v := nI 9) hx hb dX1_answering_42 (by decide) ?_
          refine zn_imul hx hb (a := x) (b := 9) dX1_answering_44 ?_
          refine lv_bipush (v := nI 8) hx hb dX1_answering_45 (by decide) ?_
          refine zn_iadd hx hb (a := x * 9) (b := 8) dX1_answering_47 ?_
          refine lv_istore_n (lv' := [(3, .int (nI ((x * 9) + 8))), (0, .ref (h 0)), (1, .int (nI q)), (2, .int (nI x))]) hx hb dX1_answering_48 rfl hl (by decide) rfl (fun ls hl => ?_)
          refine lv_aload_n hx hb dX1_answering_49 rfl (lv_at hl 1 rfl) ?_
          refine lv_iload_n hx hb dX1_answering_50 rfl (lv_at hl 0 rfl) ?_
          refine z_calli (As := [.int (nI ((x * 9) + 8))]) (rest := []) ⟨hx, hb, hml, hown, hts⟩ (zd_there l D cA H.size h he nm es ev (ke) (la) (pl) (ro) ((x * 9) + 8) hhe (by omega) hnm) (cwV 1 hts (lw_V q247 q249 qs15 q22 q250) rfl rfl rfl (by decide +kernel) ⟨Nat.le_of_ble_eq_true rfl, Nat.le_of_ble_eq_true rfl⟩) (va_recv hK hP (ci := 1) (q0 := 0) rfl rfl) hK hP hD hS hA rfl hl.1 rfl (Nat.le_of_ble_eq_true rfl) dX1_answering_51 (Nat.zero_le _) (Nat.zero_le _) (fun r_51 u_51 H locs hw_51 hP hD hS => ?_)
          rcases hw_51 with ⟨rfl, ht_51⟩ | ⟨rfl, ht_51⟩
          · have hP : va_P D z_cl (z_w1 cA h (nI he) (zn_F nm) es ev (ke) (la) (pl) (ro)) H := hP
            have hD : va_D A (z_w1 cA h (nI he) (zn_F nm) es ev (ke) (la) (pl) (ro)) := hD
            refine zn_if_eq (tgt := 61) hx hb (a := 1) (by decide) dX1_answering_54 (by decide) (fun c_54 => absurd c_54 (by decide)) (fun c_54 => ?_)
            refine lv_iload_n hx hb dX1_answering_57 rfl (lv_at hl 0 rfl) ?_
            refine lv_goto (tgt := 62) hx hb dX1_answering_58 (by decide) ?_
            exact hret (nI ((x * 9) + 8)) () _ _ _ _ dX1_answering_62 rfl (Or.inl ⟨x * 9 + 8, by rw [← hcl]; exact z_ans_s ht_2 (by rw [hcl]; exact ht_51), rfl, by omega⟩) hP hD hS
          · have hP : va_P D z_cl (z_w1 cA h (nI he) (zn_F nm) es ev (ke) (la) (pl) (ro)) H := hP
            have hD : va_D A (z_w1 cA h (nI he) (zn_F nm) es ev (ke) (la) (pl) (ro)) := hD
            refine zn_if_eq (tgt := 61) hx hb (a := 0) (by decide) dX1_answering_54 (by decide) (fun c_54 => ?_) (fun c_54 => absurd c_54 (by decide))
            refine lv_iconst (v := (-1)) hx hb dX1_answering_61 (by decide) ?_
            exact hret ((-1)) () _ _ _ _ dX1_answering_62 rfl (Or.inr ⟨z_ans_n ht_2 (by rw [hcl]; exact ht_51), rfl⟩) hP hD hS
        · refine lv_aload_n hx hb dX1_answering_22 rfl (lv_at hl 0 rfl) ?_
          refine lv_iload_n hx hb dX1_answering_23 rfl (lv_at hl 2 rfl) ?_
          refine z_calli (As := [.int (nI x)]) (rest := []) ⟨hx, hb, hml, hown, hts⟩ (zd_there l D cA H.size h he nm es ev (ke) (la) (pl) (ro) x hhe (by omega) hnm) (cwV 1 hts (lw_V q247 q249 qs15 q22 q250) rfl rfl rfl (by decide +kernel) ⟨Nat.le_of_ble_eq_true rfl, Nat.le_of_ble_eq_true rfl⟩) (va_recv hK hP (ci := 1) (q0 := 0) rfl rfl) hK hP hD hS hA rfl hl.1 rfl (Nat.le_of_ble_eq_true rfl) dX1_answering_24 (Nat.zero_le _) (Nat.zero_le _) (fun r_24 u_24 H locs hw_24 hP hD hS => ?_)
          rcases hw_24 with ⟨rfl, ht_24⟩ | ⟨rfl, ht_24⟩
          · have hP : va_P D z_cl (z_w1 cA h (nI he) (zn_F nm) es ev (ke) (la) (pl) (ro)) H := hP
            have hD : va_D A (z_w1 cA h (nI he) (zn_F nm) es ev (ke) (la) (pl) (ro)) := hD
            refine zn_if_ne (tgt := 41) hx hb (a := 1) (by decide) dX1_answering_27 (by decide) (fun c_27 => ?_) (fun c_27 => absurd c_27 (by decide))
            have hcl : z_clo nm he 4 (q / 9) = x := by rw [← ex]; exact z_clo_y ht_24
            refine lv_iload_n hx hb dX1_answering_41 rfl (lv_at hl 2 rfl) ?_
            refine lv_bipush (v := nI 9) hx hb dX1_answering_42 (by decide) ?_
            refine zn_imul hx hb (a := x) (b := 9) dX1_answering_44 ?_
            refine lv_bipush (v := nI 8) hx hb dX1_answering_45 (by decide) ?_
            refine zn_iadd hx hb (a := x * 9) (b := 8) dX1_answering_47 ?_
            refine lv_istore_n (lv' := [(3, .int (nI ((x * 9) + 8))), (0, .ref (h 0)), (1, .int (nI q)), (2, .int (nI x))]) hx hb dX1_answering_48 rfl hl (by decide) rfl (fun ls hl => ?_)
            refine lv_aload_n hx hb dX1_answering_49 rfl (lv_at hl 1 rfl) ?_
            refine lv_iload_n hx hb dX1_answering_50 rfl (lv_at hl 0 rfl) ?_
            refine z_calli (As := [.int (nI ((x * 9) + 8))]) (rest := []) ⟨hx, hb, hml, hown, hts⟩ (zd_there l D cA H.size h he nm es ev (ke) (la) (pl) (ro) ((x * 9) + 8) hhe (by omega) hnm) (cwV 1 hts (lw_V q247 q249 qs15 q22 q250) rfl rfl rfl (by decide +kernel) ⟨Nat.le_of_ble_eq_true rfl, Nat.le_of_ble_eq_true rfl⟩) (va_recv hK hP (ci := 1) (q0 := 0) rfl rfl) hK hP hD hS hA rfl hl.1 rfl (Nat.le_of_ble_eq_true rfl) dX1_answering_51 (Nat.zero_le _) (Nat.zero_le _) (fun r_51 u_51 H locs hw_51 hP hD hS => ?_)
            rcases hw_51 with ⟨rfl, ht_51⟩ | ⟨rfl, ht_51⟩
            · have hP : va_P D z_cl (z_w1 cA h (nI he) (zn_F nm) es ev (ke) (la) (pl) (ro)) H := hP
              have hD : va_D A (z_w1 cA h (nI he) (zn_F nm) es ev (ke) (la) (pl) (ro)) := hD
              refine zn_if_eq (tgt := 61) hx hb (a := 1) (by decide) dX1_answering_54 (by decide) (fun c_54 => absurd c_54 (by decide)) (fun c_54 => ?_)
              refine lv_iload_n hx hb dX1_answering_57 rfl (lv_at hl 0 rfl) ?_
              refine lv_goto (tgt := 62) hx hb dX1_answering_58 (by decide) ?_
              exact hret (nI ((x * 9) + 8)) () _ _ _ _ dX1_answering_62 rfl (Or.inl ⟨x * 9 + 8, by rw [← hcl]; exact z_ans_s ht_2 (by rw [hcl]; exact ht_51), rfl, by omega⟩) hP hD hS
            · have hP : va_P D z_cl (z_w1 cA h (nI he) (zn_F nm) es ev (ke) (la) (pl) (ro)) H := hP
              have hD : va_D A (z_w1 cA h (nI he) (zn_F nm) es ev (ke) (la) (pl) (ro)) := hD
              refine zn_if_eq (tgt := 61) hx hb (a := 0) (by decide) dX1_answering_54 (by decide) (fun c_54 => ?_) (fun c_54 => absurd c_54 (by decide))
              refine lv_iconst (v := (-1)) hx hb dX1_answering_61 (by decide) ?_
              exact hret ((-1)) () _ _ _ _ dX1_answering_62 rfl (Or.inr ⟨z_ans_n ht_2 (by rw [hcl]; exact ht_51), rfl⟩) hP hD hS
          · have hP : va_P D z_cl (z_w1 cA h (nI he) (zn_F nm) es ev (ke) (la) (pl) (ro)) H := hP
            have hD : va_D A (z_w1 cA h (nI he) (zn_F nm) es ev (ke) (la) (pl) (ro)) := hD
            refine zn_if_ne (tgt := 41) hx hb (a := 0) (by decide) dX1_answering_27 (by decide) (fun c_27 => absurd c_27 (by decide)) (fun c_27 => ?_)
            refine lv_iload_n hx hb dX1_answering_30 rfl (lv_at hl 2 rfl) ?_
            refine lv_bipush (v := nI 9) hx hb dX1_answering_31 (by decide) ?_
            refine zn_idiv hx hb (a := x) (b := 9) (by omega) (by decide) (by decide) dX1_answering_33 ?_
            refine lv_istore_n (lv' := [(2, .int (nI (x / 9))), (0, .ref (h 0)), (1, .int (nI q)), (3, .int (nI i))]) hx hb dX1_answering_34 rfl hl (by decide) rfl (fun ls hl => ?_)
            refine lv_iinc (v := nI (i + 1)) (lv' := [(3, .int (nI (i + 1))), (2, .int (nI (x / 9))), (0, .ref (h 0)), (1, .int (nI q))]) hx hb dX1_answering_35 hl (k := 3) rfl (nI_add i 1) (by decide) rfl (fun ls hl => ?_)
            refine lv_goto (tgt := 17) hx hb dX1_answering_38 (by decide) ?_
            exact ih_LA (i + 1) (x / 9) (by omega) (by omega) (by omega) (by rw [← ex, show 4 - i = (4 - (i + 1)) + 1 by omega, z_clo_s ht_24]) _ _ hP hD hS ls (lv_sub hl [2, 3, 1, 0] rfl)
    exact LA 5 0 (q / 9) (by omega) (by omega) (by omega) rfl _ _ hP hD hS ls (lv_sub hl [2, 3, 1, 0] rfl)
set_option maxHeartbeats 4000000 in
/-- lookUp(sort) -/
theorem zd_lookUp (l : Launch) (D : va_G) (cA : ClassId) (sz : Nat) (h : Nat → Nat) (he : Nat) (nm : Nat → Nat) (es ev : Nat → Int32) (K : Nat) (la pl ro : Int32) (so : Int32) (hhe : he ≤ 24) (hKv : z_vn K) (hnm : ∀ j, nm j < 6561) (hals : ∀ e, e < he → es e = nI 3 → z_isn (ev e)) : z_Mi (S := Nat × Nat × Nat) l yX1_lookUp cX1_lookUp 5 .int ({ frames := 3, cells := 0, slots := 0, locals := 68 } : Room) D cA sz [.ref (h 0), .int so] (z_w1 cA h (nI he) (zn_F nm) es ev (nI K) (la) (pl) (ro)) (fun r (u : Nat × Nat × Nat) => r = nI u.1 ∧ z_lk nm es ev he so 5 K 1 = u) (fun u => z_w1 cA h (nI he) (zn_F nm) es ev (nI K) (la) (nI u.2.1) (nI u.2.2)) := by
  refine z_ofi (by decide) (Nat.le_of_ble_eq_true rfl) ?_
  intro p e s m below meth c A Q hx hb hml hown hts hA hret hK hP hD hS ls hl
  have hown : s.vm.findClass RX1 = some m.cls := hown
  have hl : lv_has ls 5 [(0, .ref (h 0)), (1, .int so)] := hl
  refine lv_aload_n hx hb dX1_lookUp_0 rfl (lv_at hl 0 rfl) ?_
  refine va_get (D := D) (ci := 1) (v := .int (nI K)) (C := RX1) (T := TX1) (N := 8) hx hb hts in_X1 hown hK hP 0 rfl rfl 4 (by decide) (hts _ q187) (fun _ h9 => h9) rfl dX1_lookUp_1 ?_
  refine lv_istore_n (lv' := [(2, .int (nI K)), (0, .ref (h 0)), (1, .int so)]) hx hb dX1_lookUp_4 rfl hl (by decide) rfl (fun ls hl => ?_)
  refine lv_aload_n hx hb dX1_lookUp_5 rfl (lv_at hl 1 rfl) ?_
  refine lv_iconst (v := nI 1) hx hb dX1_lookUp_6 (by decide) ?_
  refine va_put (D := D) (ci := 1) (v := .int (nI 1)) (ty := .int) (C := RX1) (T := TX1) (N := 8) hx hb hts in_X1 tyX1 tyX1_ok nmX1 hown hK hP hD hS 0 rfl rfl 7 (by decide) (hts _ q190) (fun _ h9 => h9) rfl (by decide +kernel) rfl rfl (Nat.le_of_ble_eq_true rfl) dX1_lookUp_7 (fun H locs hP hD hS => ?_)
  have hP : va_P D z_cl (z_w1 cA h (nI he) (zn_F nm) es ev (nI K) (la) (pl) (nI 1)) H := hP
  have hD : va_D A (z_w1 cA h (nI he) (zn_F nm) es ev (nI K) (la) (pl) (nI 1)) := hD
  have LA : ∀ (n : Nat) (r : Nat) (q : Nat) (pl1 : Int32), (1 ≤ r) → (r ≤ 5) → (5 < r + n) → (z_vn q) → (z_lk nm es ev he so (6 - r) q r = z_lk nm es ev he so 5 K 1) → ∀ (H : Heap) (locs : List Loc), va_P D z_cl (z_w1 cA h (nI he) (zn_F nm) es ev (nI K) (la) (pl1) (nI r)) H → va_D A (z_w1 cA h (nI he) (zn_F nm) es ev (nI K) (la) (pl1) (nI r)) → va_S A s.heap H locs → ∀ ls : Array Slot, lv_has ls 5 [(0, .ref (h 0)), (1, .int so), (2, .int (nI q))] → W p l e ({ frames := 3, cells := 0, slots := 0, locals := 68 } : Room) s m ([.ref (h 0), .int so] : List Value).toArray below meth c H locs 0 0 Q (F0 m 10 ls []) := by
    intro n
    induction n with
    | zero =>
      intro r q pl1 hr1 hr5 hn hq e0
      exact absurd hn (by omega)
    | succ n ih_LA =>
      intro r q pl1 hr1 hr5 hn hq e0 H locs hP hD hS ls hl
      refine lv_aload_n hx hb dX1_lookUp_10 rfl (lv_at hl 0 rfl) ?_
      refine va_get (D := D) (ci := 1) (v := .int (nI r)) (C := RX1) (T := TX1) (N := 8) hx hb hts in_X1 hown hK hP 0 rfl rfl 7 (by decide) (hts _ q190) (fun _ h9 => h9) rfl dX1_lookUp_11 ?_
      refine lv_iconst (v := nI 5) hx hb dX1_lookUp_14 (by decide) ?_
      refine zn_icmp_gt (tgt := 135) hx hb (a := r) (b := 5) (by omega) (by decide) dX1_lookUp_15 (by decide) (fun c_15 => absurd c_15 (by omega)) (fun c_15 => ?_)
      refine lv_iload_n hx hb dX1_lookUp_18 rfl (lv_at hl 1 rfl) ?_
      refine lv_iconst (v := nI 4) hx hb dX1_lookUp_19 (by decide) ?_
      refine lv_icmp_ne (tgt := 27) (x := so) (y := nI 4) hx hb dX1_lookUp_20 (by decide) (fun c_20 => ?_) (fun c_20 => ?_)
      · refine lv_aload_n hx hb dX1_lookUp_27 rfl (lv_at hl 0 rfl) ?_
        refine lv_iload_n hx hb dX1_lookUp_28 rfl (lv_at hl 2 rfl) ?_
        refine z_calli (As := [.int (nI q)]) (rest := []) ⟨hx, hb, hml, hown, hts⟩ (zd_handed l D cA H.size h he nm es ev (nI K) (la) (pl1) (nI r) q hhe (z_vn_lt hq)) (cwV 1 hts (lw_V q265 q267 qs17 q22 q268) rfl rfl rfl (by decide +kernel) ⟨Nat.le_of_ble_eq_true rfl, Nat.le_of_ble_eq_true rfl⟩) (va_recv hK hP (ci := 1) (q0 := 0) rfl rfl) hK hP hD hS hA rfl hl.1 rfl (Nat.le_of_ble_eq_true rfl) dX1_lookUp_29 (Nat.zero_le _) (Nat.zero_le _) (fun r_29 u_29 H locs hw_29 hP hD hS => ?_)
        rcases z_or_c hw_29 with ⟨hh, rfl⟩ | ⟨hh, rfl⟩
        · have hP : va_P D z_cl (z_w1 cA h (nI he) (zn_F nm) es ev (nI K) (la) (pl1) (nI r)) H := hP
          have hD : va_D A (z_w1 cA h (nI he) (zn_F nm) es ev (nI K) (la) (pl1) (nI r)) := hD
          refine lv_istore_n (lv' := [(3, .int ((-1))), (0, .ref (h 0)), (1, .int so), (2, .int (nI q))]) hx hb dX1_lookUp_32 rfl hl (by decide) rfl (fun ls hl => ?_)
          refine lv_aload_n hx hb dX1_lookUp_33 rfl (lv_at hl 1 rfl) ?_
          refine lv_iload_n hx hb dX1_lookUp_34 rfl (lv_at hl 0 rfl) ?_
          refine lv_if_lt (tgt := 42) (x := (-1)) hx hb dX1_lookUp_35 (by decide) (fun c_35 => ?_) (fun c_35 => absurd c_35 (by decide))
          refine lv_iload_n hx hb dX1_lookUp_42 rfl (lv_at hl 3 rfl) ?_
          refine va_put (D := D) (ci := 1) (v := .int (nI q)) (ty := .int) (C := RX1) (T := TX1) (N := 8) hx hb hts in_X1 tyX1 tyX1_ok nmX1 hown hK hP hD hS 0 rfl rfl 6 (by decide) (hts _ q189) (fun _ h9 => h9) rfl (by decide +kernel) rfl rfl (Nat.le_of_ble_eq_true rfl) dX1_lookUp_43 (fun H locs hP hD hS => ?_)
          have hP : va_P D z_cl (z_w1 cA h (nI he) (zn_F nm) es ev (nI K) (la) (nI q) (nI r)) H := hP
          have hD : va_D A (z_w1 cA h (nI he) (zn_F nm) es ev (nI K) (la) (nI q) (nI r)) := hD
          refine lv_iload_n hx hb dX1_lookUp_46 rfl (lv_at hl 0 rfl) ?_
          refine lv_if_lt (tgt := 52) (x := (-1)) hx hb dX1_lookUp_47 (by decide) (fun c_47 => ?_) (fun c_47 => absurd c_47 (by decide))
          have hno : ¬ (so ≠ nI 4 ∧ z_hd nm es he q 4 ≠ 0) := fun q9 => q9.2 hh
          refine lv_aload_n hx hb dX1_lookUp_52 rfl (lv_at hl 1 rfl) ?_
          refine lv_iload_n hx hb dX1_lookUp_53 rfl (lv_at hl 3 rfl) ?_
          refine z_calli (As := [.int (nI q)]) (rest := []) ⟨hx, hb, hml, hown, hts⟩ (zd_answering l D cA H.size h he nm es ev (nI K) (la) (nI q) (nI r) q hhe (z_vn_lt hq) hnm) (cwV 1 hts (lw_V q269 q271 qs18 q22 q272) rfl rfl rfl (by decide +kernel) ⟨Nat.le_of_ble_eq_true rfl, Nat.le_of_ble_eq_true rfl⟩) (va_recv hK hP (ci := 1) (q0 := 0) rfl rfl) hK hP hD hS hA rfl hl.1 rfl (Nat.le_of_ble_eq_true rfl) dX1_lookUp_54 (Nat.zero_le _) (Nat.zero_le _) (fun r_54 u_54 H locs hw_54 hP hD hS => ?_)
          rcases hw_54 with ⟨a, ha, rfl, hal⟩ | ⟨ha, rfl⟩
          · have hP : va_P D z_cl (z_w1 cA h (nI he) (zn_F nm) es ev (nI K) (la) (nI q) (nI r)) H := hP
            have hD : va_D A (z_w1 cA h (nI he) (zn_F nm) es ev (nI K) (la) (nI q) (nI r)) := hD
            refine lv_istore (lv' := [(4, .int (nI a)), (3, .int ((-1))), (0, .ref (h 0)), (1, .int so), (2, .int (nI q))]) hx hb dX1_lookUp_57 hl (by decide) rfl (fun ls hl => ?_)
            refine lv_iload hx hb dX1_lookUp_59 (lv_at hl 0 rfl) ?_
            refine zn_if_ge (tgt := 66) hx hb (a := a) (by omega) dX1_lookUp_61 (by decide) ?_
            refine lv_aload_n hx hb dX1_lookUp_66 rfl (lv_at hl 2 rfl) ?_
            refine lv_iload hx hb dX1_lookUp_67 (lv_at hl 0 rfl) ?_
            refine lv_iconst (v := nI 3) hx hb dX1_lookUp_69 (by decide) ?_
            refine z_calli (As := [.int (nI a), .int (nI 3)]) (rest := []) ⟨hx, hb, hml, hown, hts⟩ (zd_count l D cA H.size h he (zn_F nm) es ev (nI K) (la) (nI q) (nI r) (nI a) (nI 3) hhe) (cwV 2 hts (lw_V q235 q237 qs14 q22 q238) rfl rfl rfl (by decide +kernel) ⟨Nat.le_of_ble_eq_true rfl, Nat.le_of_ble_eq_true rfl⟩) (va_recv hK hP (ci := 1) (q0 := 0) rfl rfl) hK hP hD hS hA rfl hl.1 rfl (Nat.le_of_ble_eq_true rfl) dX1_lookUp_70 (Nat.zero_le _) (Nat.zero_le _) (fun r_70 u_70 H locs hw_70 hP hD hS => ?_)
            have hw_70 : r_70 = nI (z_cnt (zn_F nm) es (nI a) (nI 3) he) := hw_70
            subst hw_70
            have hle_70 := z_cnt_le (zn_F nm) es (nI a) (nI 3) he
            have hP : va_P D z_cl (z_w1 cA h (nI he) (zn_F nm) es ev (nI K) (la) (nI q) (nI r)) H := hP
            have hD : va_D A (z_w1 cA h (nI he) (zn_F nm) es ev (nI K) (la) (nI q) (nI r)) := hD
            refine zn_if_eq (tgt := 81) hx hb (a := z_cnt (zn_F nm) es (nI a) (nI 3) he) (by omega) dX1_lookUp_73 (by decide) (fun c_73 => ?_) (fun c_73 => ?_)
            · have hn3 : ¬ (so ≠ nI 3 ∧ z_cnt (zn_F nm) es (nI a) (nI 3) he ≠ 0) := fun q9 => q9.2 c_73
              refine lv_aload_n hx hb dX1_lookUp_81 rfl (lv_at hl 2 rfl) ?_
              refine lv_iload hx hb dX1_lookUp_82 (lv_at hl 0 rfl) ?_
              refine va_put (D := D) (ci := 1) (v := .int (nI a)) (ty := .int) (C := RX1) (T := TX1) (N := 8) hx hb hts in_X1 tyX1 tyX1_ok nmX1 hown hK hP hD hS 0 rfl rfl 6 (by decide) (hts _ q189) (fun _ h9 => h9) rfl (by decide +kernel) rfl rfl (Nat.le_of_ble_eq_true rfl) dX1_lookUp_84 (fun H locs hP hD hS => ?_)
              have hP : va_P D z_cl (z_w1 cA h (nI he) (zn_F nm) es ev (nI K) (la) (nI a) (nI r)) H := hP
              have hD : va_D A (z_w1 cA h (nI he) (zn_F nm) es ev (nI K) (la) (nI a) (nI r)) := hD
              refine lv_aload_n hx hb dX1_lookUp_87 rfl (lv_at hl 2 rfl) ?_
              refine lv_iload hx hb dX1_lookUp_88 (lv_at hl 0 rfl) ?_
              refine lv_iload_n hx hb dX1_lookUp_90 rfl (lv_at hl 3 rfl) ?_
              refine z_calli (As := [.int (nI a), .int so]) (rest := []) ⟨hx, hb, hml, hown, hts⟩ (zd_count l D cA H.size h he (zn_F nm) es ev (nI K) (la) (nI a) (nI r) (nI a) (so) hhe) (cwV 2 hts (lw_V q235 q237 qs14 q22 q238) rfl rfl rfl (by decide +kernel) ⟨Nat.le_of_ble_eq_true rfl, Nat.le_of_ble_eq_true rfl⟩) (va_recv hK hP (ci := 1) (q0 := 0) rfl rfl) hK hP hD hS hA rfl hl.1 rfl (Nat.le_of_ble_eq_true rfl) dX1_lookUp_91 (Nat.zero_le _) (Nat.zero_le _) (fun r_91 u_91 H locs hw_91 hP hD hS => ?_)
              have hw_91 : r_91 = nI (z_cnt (zn_F nm) es (nI a) (so) he) := hw_91
              subst hw_91
              have hle_91 := z_cnt_le (zn_F nm) es (nI a) (so) he
              have hP : va_P D z_cl (z_w1 cA h (nI he) (zn_F nm) es ev (nI K) (la) (nI a) (nI r)) H := hP
              have hD : va_D A (z_w1 cA h (nI he) (zn_F nm) es ev (nI K) (la) (nI a) (nI r)) := hD
              refine zn_if_le (tgt := 101) hx hb (a := z_cnt (zn_F nm) es (nI a) (so) he) (by omega) dX1_lookUp_94 (by decide) (fun c_94 => ?_) (fun c_94 => ?_)
              · refine lv_iconst (v := nI 2) hx hb dX1_lookUp_101 (by decide) ?_
                exact hret (nI 2) (2, a, r) _ _ _ _ dX1_lookUp_102 rfl ⟨rfl, (e0.symm.trans (z_lk_done ((z_rnd_an hno ha).trans (z_dec_2 hn3 c_94)) (by decide) hr5))⟩ hP hD hS
              · refine lv_iconst (v := nI 1) hx hb dX1_lookUp_97 (by decide) ?_
                refine lv_goto (tgt := 102) hx hb dX1_lookUp_98 (by decide) ?_
                exact hret (nI 1) (1, a, r) _ _ _ _ dX1_lookUp_102 rfl ⟨rfl, (e0.symm.trans (z_lk_done ((z_rnd_an hno ha).trans (z_dec_1 hn3 c_94)) (by decide) hr5))⟩ hP hD hS
            · refine lv_iload_n hx hb dX1_lookUp_76 rfl (lv_at hl 3 rfl) ?_
              refine lv_iconst (v := nI 3) hx hb dX1_lookUp_77 (by decide) ?_
              refine lv_icmp_ne (tgt := 103) (x := so) (y := nI 3) hx hb dX1_lookUp_78 (by decide) (fun c_78 => ?_) (fun c_78 => ?_)
              · refine lv_aload_n hx hb dX1_lookUp_103 rfl (lv_at hl 2 rfl) ?_
                refine va_get (D := D) (ci := 1) (v := .int (nI r)) (C := RX1) (T := TX1) (N := 8) hx hb hts in_X1 hown hK hP 0 rfl rfl 7 (by decide) (hts _ q190) (fun _ h9 => h9) rfl dX1_lookUp_104 ?_
                refine lv_iconst (v := nI 5) hx hb dX1_lookUp_107 (by decide) ?_
                refine zn_icmp_ne (tgt := 113) hx hb (a := r) (b := 5) (by omega) (by decide) dX1_lookUp_108 (by decide) (fun c_108 => ?_) (fun c_108 => ?_)
                · refine lv_aload_n hx hb dX1_lookUp_113 rfl (lv_at hl 2 rfl) ?_
                  refine lv_iload hx hb dX1_lookUp_114 (lv_at hl 0 rfl) ?_
                  refine lv_iconst (v := nI 3) hx hb dX1_lookUp_116 (by decide) ?_
                  refine lv_iconst (v := nI 0) hx hb dX1_lookUp_117 (by decide) ?_
                  refine z_calli (As := [.int (nI a), .int (nI 3), .int (nI 0)]) (rest := []) ⟨hx, hb, hml, hown, hts⟩ (zd_valueOf l D cA H.size h he (zn_F nm) es ev (nI K) (la) (nI q) (nI r) (nI a) (nI 3) (nI 0) hhe) (cwV 3 hts (lw_V q273 q275 qs19 q22 q276) rfl rfl rfl (by decide +kernel) ⟨Nat.le_of_ble_eq_true rfl, Nat.le_of_ble_eq_true rfl⟩) (va_recv hK hP (ci := 1) (q0 := 0) rfl rfl) hK hP hD hS hA rfl hl.1 rfl (Nat.le_of_ble_eq_true rfl) dX1_lookUp_118 (Nat.zero_le _) (Nat.zero_le _) (fun r_118 u_118 H locs hw_118 hP hD hS => ?_)
                  obtain ⟨k, hk1, hk2⟩ := z_val_isn (he := he) (es := es) (ev := ev) (k := zn_F nm) (a := nI a) hals (nI 0)
                  have hw_118 : r_118 = nI k := Eq.trans hw_118 hk1
                  subst hw_118
                  have hP : va_P D z_cl (z_w1 cA h (nI he) (zn_F nm) es ev (nI K) (la) (nI q) (nI r)) H := hP
                  have hD : va_D A (z_w1 cA h (nI he) (zn_F nm) es ev (nI K) (la) (nI q) (nI r)) := hD
                  refine lv_istore_n (lv' := [(2, .int (nI k)), (4, .int (nI a)), (3, .int ((-1))), (0, .ref (h 0)), (1, .int so)]) hx hb dX1_lookUp_121 rfl hl (by decide) rfl (fun ls hl => ?_)
                  refine lv_aload_n hx hb dX1_lookUp_122 rfl (lv_at hl 3 rfl) ?_
                  refine lv_dup hx hb dX1_lookUp_123 rfl ?_
                  refine va_get (D := D) (ci := 1) (v := .int (nI r)) (C := RX1) (T := TX1) (N := 8) hx hb hts in_X1 hown hK hP 0 rfl rfl 7 (by decide) (hts _ q190) (fun _ h9 => h9) rfl dX1_lookUp_124 ?_
                  refine lv_iconst (v := nI 1) hx hb dX1_lookUp_127 (by decide) ?_
                  refine zn_iadd hx hb (a := r) (b := 1) dX1_lookUp_128 ?_
                  refine va_put (D := D) (ci := 1) (v := .int (nI (r + 1))) (ty := .int) (C := RX1) (T := TX1) (N := 8) hx hb hts in_X1 tyX1 tyX1_ok nmX1 hown hK hP hD hS 0 rfl rfl 7 (by decide) (hts _ q190) (fun _ h9 => h9) rfl (by decide +kernel) rfl rfl (Nat.le_of_ble_eq_true rfl) dX1_lookUp_129 (fun H locs hP hD hS => ?_)
                  have hP : va_P D z_cl (z_w1 cA h (nI he) (zn_F nm) es ev (nI K) (la) (nI q) (nI (r + 1))) H := hP
                  have hD : va_D A (z_w1 cA h (nI he) (zn_F nm) es ev (nI K) (la) (nI q) (nI (r + 1))) := hD
                  refine lv_goto (tgt := 10) hx hb dX1_lookUp_132 (by decide) ?_
                  exact ih_LA (r + 1) k _ (by omega) (by omega) (by omega) hk2 (e0.symm.trans (z_lk_next ((z_rnd_an hno ha).trans (z_dec_0 c_78 c_73 hk1 (by have := hk2.1; omega))) (by omega))).symm _ _ hP hD hS ls (lv_sub hl [3, 4, 0] rfl)
                · refine lv_iconst (v := nI 5) hx hb dX1_lookUp_111 (by decide) ?_
                  subst c_108
                  obtain ⟨k, hk1, hk2⟩ := z_val_isn (he := he) (es := es) (ev := ev) (k := zn_F nm) (a := nI a) hals (nI 0)
                  exact hret (nI 5) (5, q, 5) _ _ _ _ dX1_lookUp_112 rfl ⟨rfl, e0.symm.trans (z_lk_loop ((z_rnd_an hno ha).trans (z_dec_0 c_78 c_73 hk1 (by have := hk2.1; omega))))⟩ hP hD hS
              · have hn3 : ¬ (so ≠ nI 3 ∧ z_cnt (zn_F nm) es (nI a) (nI 3) he ≠ 0) := fun q9 => q9.1 c_78
                refine lv_aload_n hx hb dX1_lookUp_81 rfl (lv_at hl 2 rfl) ?_
                refine lv_iload hx hb dX1_lookUp_82 (lv_at hl 0 rfl) ?_
                refine va_put (D := D) (ci := 1) (v := .int (nI a)) (ty := .int) (C := RX1) (T := TX1) (N := 8) hx hb hts in_X1 tyX1 tyX1_ok nmX1 hown hK hP hD hS 0 rfl rfl 6 (by decide) (hts _ q189) (fun _ h9 => h9) rfl (by decide +kernel) rfl rfl (Nat.le_of_ble_eq_true rfl) dX1_lookUp_84 (fun H locs hP hD hS => ?_)
                have hP : va_P D z_cl (z_w1 cA h (nI he) (zn_F nm) es ev (nI K) (la) (nI a) (nI r)) H := hP
                have hD : va_D A (z_w1 cA h (nI he) (zn_F nm) es ev (nI K) (la) (nI a) (nI r)) := hD
                refine lv_aload_n hx hb dX1_lookUp_87 rfl (lv_at hl 2 rfl) ?_
                refine lv_iload hx hb dX1_lookUp_88 (lv_at hl 0 rfl) ?_
                refine lv_iload_n hx hb dX1_lookUp_90 rfl (lv_at hl 3 rfl) ?_
                refine z_calli (As := [.int (nI a), .int so]) (rest := []) ⟨hx, hb, hml, hown, hts⟩ (zd_count l D cA H.size h he (zn_F nm) es ev (nI K) (la) (nI a) (nI r) (nI a) (so) hhe) (cwV 2 hts (lw_V q235 q237 qs14 q22 q238) rfl rfl rfl (by decide +kernel) ⟨Nat.le_of_ble_eq_true rfl, Nat.le_of_ble_eq_true rfl⟩) (va_recv hK hP (ci := 1) (q0 := 0) rfl rfl) hK hP hD hS hA rfl hl.1 rfl (Nat.le_of_ble_eq_true rfl) dX1_lookUp_91 (Nat.zero_le _) (Nat.zero_le _) (fun r_91 u_91 H locs hw_91 hP hD hS => ?_)
                have hw_91 : r_91 = nI (z_cnt (zn_F nm) es (nI a) (so) he) := hw_91
                subst hw_91
                have hle_91 := z_cnt_le (zn_F nm) es (nI a) (so) he
                have hP : va_P D z_cl (z_w1 cA h (nI he) (zn_F nm) es ev (nI K) (la) (nI a) (nI r)) H := hP
                have hD : va_D A (z_w1 cA h (nI he) (zn_F nm) es ev (nI K) (la) (nI a) (nI r)) := hD
                refine zn_if_le (tgt := 101) hx hb (a := z_cnt (zn_F nm) es (nI a) (so) he) (by omega) dX1_lookUp_94 (by decide) (fun c_94 => ?_) (fun c_94 => ?_)
                · refine lv_iconst (v := nI 2) hx hb dX1_lookUp_101 (by decide) ?_
                  exact hret (nI 2) (2, a, r) _ _ _ _ dX1_lookUp_102 rfl ⟨rfl, (e0.symm.trans (z_lk_done ((z_rnd_an hno ha).trans (z_dec_2 hn3 c_94)) (by decide) hr5))⟩ hP hD hS
                · refine lv_iconst (v := nI 1) hx hb dX1_lookUp_97 (by decide) ?_
                  refine lv_goto (tgt := 102) hx hb dX1_lookUp_98 (by decide) ?_
                  exact hret (nI 1) (1, a, r) _ _ _ _ dX1_lookUp_102 rfl ⟨rfl, (e0.symm.trans (z_lk_done ((z_rnd_an hno ha).trans (z_dec_1 hn3 c_94)) (by decide) hr5))⟩ hP hD hS
          · have hP : va_P D z_cl (z_w1 cA h (nI he) (zn_F nm) es ev (nI K) (la) (nI q) (nI r)) H := hP
            have hD : va_D A (z_w1 cA h (nI he) (zn_F nm) es ev (nI K) (la) (nI q) (nI r)) := hD
            refine lv_istore (lv' := [(4, .int ((-1))), (3, .int ((-1))), (0, .ref (h 0)), (1, .int so), (2, .int (nI q))]) hx hb dX1_lookUp_57 hl (by decide) rfl (fun ls hl => ?_)
            refine lv_iload hx hb dX1_lookUp_59 (lv_at hl 0 rfl) ?_
            refine lv_if_ge (tgt := 66) (x := (-1)) hx hb dX1_lookUp_61 (by decide) (fun c_61 => absurd c_61 (by decide)) (fun c_61 => ?_)
            refine lv_iconst (v := nI 3) hx hb dX1_lookUp_64 (by decide) ?_
            exact hret (nI 3) (3, q, r) _ _ _ _ dX1_lookUp_65 rfl ⟨rfl, (e0.symm.trans (z_lk_done (z_rnd_no hno ha) (by decide) hr5))⟩ hP hD hS
        · have hhl := z_hd_lt (nm := nm) (es := es) (he := he) (q := q) (i := 4)
          have hP : va_P D z_cl (z_w1 cA h (nI he) (zn_F nm) es ev (nI K) (la) (pl1) (nI r)) H := hP
          have hD : va_D A (z_w1 cA h (nI he) (zn_F nm) es ev (nI K) (la) (pl1) (nI r)) := hD
          refine lv_istore_n (lv' := [(3, .int (nI (z_hd nm es he q 4))), (0, .ref (h 0)), (1, .int so), (2, .int (nI q))]) hx hb dX1_lookUp_32 rfl hl (by decide) rfl (fun ls hl => ?_)
          refine lv_aload_n hx hb dX1_lookUp_33 rfl (lv_at hl 1 rfl) ?_
          refine lv_iload_n hx hb dX1_lookUp_34 rfl (lv_at hl 0 rfl) ?_
          refine zn_if_lt (tgt := 42) hx hb (a := z_hd nm es he q 4) (by have := hq.1; omega) dX1_lookUp_35 (by decide) ?_
          refine lv_iload_n hx hb dX1_lookUp_38 rfl (lv_at hl 0 rfl) ?_
          refine lv_goto (tgt := 43) hx hb dX1_lookUp_39 (by decide) ?_
          refine va_put (D := D) (ci := 1) (v := .int (nI (z_hd nm es he q 4))) (ty := .int) (C := RX1) (T := TX1) (N := 8) hx hb hts in_X1 tyX1 tyX1_ok nmX1 hown hK hP hD hS 0 rfl rfl 6 (by decide) (hts _ q189) (fun _ h9 => h9) rfl (by decide +kernel) rfl rfl (Nat.le_of_ble_eq_true rfl) dX1_lookUp_43 (fun H locs hP hD hS => ?_)
          have hP : va_P D z_cl (z_w1 cA h (nI he) (zn_F nm) es ev (nI K) (la) (nI (z_hd nm es he q 4)) (nI r)) H := hP
          have hD : va_D A (z_w1 cA h (nI he) (zn_F nm) es ev (nI K) (la) (nI (z_hd nm es he q 4)) (nI r)) := hD
          refine lv_iload_n hx hb dX1_lookUp_46 rfl (lv_at hl 0 rfl) ?_
          refine zn_if_lt (tgt := 52) hx hb (a := z_hd nm es he q 4) (by have := hq.1; omega) dX1_lookUp_47 (by decide) ?_
          refine lv_iconst (v := nI 4) hx hb dX1_lookUp_50 (by decide) ?_
          exact hret (nI 4) (4, z_hd nm es he q 4, r) _ _ _ _ dX1_lookUp_51 rfl ⟨rfl, (e0.symm.trans (z_lk_done (z_rnd_hd c_20 hh) (by decide) hr5))⟩ hP hD hS
      · refine lv_iconst (v := (-1)) hx hb dX1_lookUp_23 (by decide) ?_
        refine lv_goto (tgt := 32) hx hb dX1_lookUp_24 (by decide) ?_
        refine lv_istore_n (lv' := [(3, .int ((-1))), (0, .ref (h 0)), (1, .int so), (2, .int (nI q))]) hx hb dX1_lookUp_32 rfl hl (by decide) rfl (fun ls hl => ?_)
        refine lv_aload_n hx hb dX1_lookUp_33 rfl (lv_at hl 1 rfl) ?_
        refine lv_iload_n hx hb dX1_lookUp_34 rfl (lv_at hl 0 rfl) ?_
        refine lv_if_lt (tgt := 42) (x := (-1)) hx hb dX1_lookUp_35 (by decide) (fun c_35 => ?_) (fun c_35 => absurd c_35 (by decide))
        refine lv_iload_n hx hb dX1_lookUp_42 rfl (lv_at hl 3 rfl) ?_
        refine va_put (D := D) (ci := 1) (v := .int (nI q)) (ty := .int) (C := RX1) (T := TX1) (N := 8) hx hb hts in_X1 tyX1 tyX1_ok nmX1 hown hK hP hD hS 0 rfl rfl 6 (by decide) (hts _ q189) (fun _ h9 => h9) rfl (by decide +kernel) rfl rfl (Nat.le_of_ble_eq_true rfl) dX1_lookUp_43 (fun H locs hP hD hS => ?_)
        have hP : va_P D z_cl (z_w1 cA h (nI he) (zn_F nm) es ev (nI K) (la) (nI q) (nI r)) H := hP
        have hD : va_D A (z_w1 cA h (nI he) (zn_F nm) es ev (nI K) (la) (nI q) (nI r)) := hD
        refine lv_iload_n hx hb dX1_lookUp_46 rfl (lv_at hl 0 rfl) ?_
        refine lv_if_lt (tgt := 52) (x := (-1)) hx hb dX1_lookUp_47 (by decide) (fun c_47 => ?_) (fun c_47 => absurd c_47 (by decide))
        have hno : ¬ (so ≠ nI 4 ∧ z_hd nm es he q 4 ≠ 0) := fun q9 => q9.1 c_20
        refine lv_aload_n hx hb dX1_lookUp_52 rfl (lv_at hl 1 rfl) ?_
        refine lv_iload_n hx hb dX1_lookUp_53 rfl (lv_at hl 3 rfl) ?_
        refine z_calli (As := [.int (nI q)]) (rest := []) ⟨hx, hb, hml, hown, hts⟩ (zd_answering l D cA H.size h he nm es ev (nI K) (la) (nI q) (nI r) q hhe (z_vn_lt hq) hnm) (cwV 1 hts (lw_V q269 q271 qs18 q22 q272) rfl rfl rfl (by decide +kernel) ⟨Nat.le_of_ble_eq_true rfl, Nat.le_of_ble_eq_true rfl⟩) (va_recv hK hP (ci := 1) (q0 := 0) rfl rfl) hK hP hD hS hA rfl hl.1 rfl (Nat.le_of_ble_eq_true rfl) dX1_lookUp_54 (Nat.zero_le _) (Nat.zero_le _) (fun r_54 u_54 H locs hw_54 hP hD hS => ?_)
        rcases hw_54 with ⟨a, ha, rfl, hal⟩ | ⟨ha, rfl⟩
        · have hP : va_P D z_cl (z_w1 cA h (nI he) (zn_F nm) es ev (nI K) (la) (nI q) (nI r)) H := hP
          have hD : va_D A (z_w1 cA h (nI he) (zn_F nm) es ev (nI K) (la) (nI q) (nI r)) := hD
          refine lv_istore (lv' := [(4, .int (nI a)), (3, .int ((-1))), (0, .ref (h 0)), (1, .int so), (2, .int (nI q))]) hx hb dX1_lookUp_57 hl (by decide) rfl (fun ls hl => ?_)
          refine lv_iload hx hb dX1_lookUp_59 (lv_at hl 0 rfl) ?_
          refine zn_if_ge (tgt := 66) hx hb (a := a) (by omega) dX1_lookUp_61 (by decide) ?_
          refine lv_aload_n hx hb dX1_lookUp_66 rfl (lv_at hl 2 rfl) ?_
          refine lv_iload hx hb dX1_lookUp_67 (lv_at hl 0 rfl) ?_
          refine lv_iconst (v := nI 3) hx hb dX1_lookUp_69 (by decide) ?_
          refine z_calli (As := [.int (nI a), .int (nI 3)]) (rest := []) ⟨hx, hb, hml, hown, hts⟩ (zd_count l D cA H.size h he (zn_F nm) es ev (nI K) (la) (nI q) (nI r) (nI a) (nI 3) hhe) (cwV 2 hts (lw_V q235 q237 qs14 q22 q238) rfl rfl rfl (by decide +kernel) ⟨Nat.le_of_ble_eq_true rfl, Nat.le_of_ble_eq_true rfl⟩) (va_recv hK hP (ci := 1) (q0 := 0) rfl rfl) hK hP hD hS hA rfl hl.1 rfl (Nat.le_of_ble_eq_true rfl) dX1_lookUp_70 (Nat.zero_le _) (Nat.zero_le _) (fun r_70 u_70 H locs hw_70 hP hD hS => ?_)
          have hw_70 : r_70 = nI (z_cnt (zn_F nm) es (nI a) (nI 3) he) := hw_70
          subst hw_70
          have hle_70 := z_cnt_le (zn_F nm) es (nI a) (nI 3) he
          have hP : va_P D z_cl (z_w1 cA h (nI he) (zn_F nm) es ev (nI K) (la) (nI q) (nI r)) H := hP
          have hD : va_D A (z_w1 cA h (nI he) (zn_F nm) es ev (nI K) (la) (nI q) (nI r)) := hD
          refine zn_if_eq (tgt := 81) hx hb (a := z_cnt (zn_F nm) es (nI a) (nI 3) he) (by omega) dX1_lookUp_73 (by decide) (fun c_73 => ?_) (fun c_73 => ?_)
          · have hn3 : ¬ (so ≠ nI 3 ∧ z_cnt (zn_F nm) es (nI a) (nI 3) he ≠ 0) := fun q9 => q9.2 c_73
            refine lv_aload_n hx hb dX1_lookUp_81 rfl (lv_at hl 2 rfl) ?_
            refine lv_iload hx hb dX1_lookUp_82 (lv_at hl 0 rfl) ?_
            refine va_put (D := D) (ci := 1) (v := .int (nI a)) (ty := .int) (C := RX1) (T := TX1) (N := 8) hx hb hts in_X1 tyX1 tyX1_ok nmX1 hown hK hP hD hS 0 rfl rfl 6 (by decide) (hts _ q189) (fun _ h9 => h9) rfl (by decide +kernel) rfl rfl (Nat.le_of_ble_eq_true rfl) dX1_lookUp_84 (fun H locs hP hD hS => ?_)
            have hP : va_P D z_cl (z_w1 cA h (nI he) (zn_F nm) es ev (nI K) (la) (nI a) (nI r)) H := hP
            have hD : va_D A (z_w1 cA h (nI he) (zn_F nm) es ev (nI K) (la) (nI a) (nI r)) := hD
            refine lv_aload_n hx hb dX1_lookUp_87 rfl (lv_at hl 2 rfl) ?_
            refine lv_iload hx hb dX1_lookUp_88 (lv_at hl 0 rfl) ?_
            refine lv_iload_n hx hb dX1_lookUp_90 rfl (lv_at hl 3 rfl) ?_
            refine z_calli (As := [.int (nI a), .int so]) (rest := []) ⟨hx, hb, hml, hown, hts⟩ (zd_count l D cA H.size h he (zn_F nm) es ev (nI K) (la) (nI a) (nI r) (nI a) (so) hhe) (cwV 2 hts (lw_V q235 q237 qs14 q22 q238) rfl rfl rfl (by decide +kernel) ⟨Nat.le_of_ble_eq_true rfl, Nat.le_of_ble_eq_true rfl⟩) (va_recv hK hP (ci := 1) (q0 := 0) rfl rfl) hK hP hD hS hA rfl hl.1 rfl (Nat.le_of_ble_eq_true rfl) dX1_lookUp_91 (Nat.zero_le _) (Nat.zero_le _) (fun r_91 u_91 H locs hw_91 hP hD hS => ?_)
            have hw_91 : r_91 = nI (z_cnt (zn_F nm) es (nI a) (so) he) := hw_91
            subst hw_91
            have hle_91 := z_cnt_le (zn_F nm) es (nI a) (so) he
            have hP : va_P D z_cl (z_w1 cA h (nI he) (zn_F nm) es ev (nI K) (la) (nI a) (nI r)) H := hP
            have hD : va_D A (z_w1 cA h (nI he) (zn_F nm) es ev (nI K) (la) (nI a) (nI r)) := hD
            refine zn_if_le (tgt := 101) hx hb (a := z_cnt (zn_F nm) es (nI a) (so) he) (by omega) dX1_lookUp_94 (by decide) (fun c_94 => ?_) (fun c_94 => ?_)
            · refine lv_iconst (v := nI 2) hx hb dX1_lookUp_101 (by decide) ?_
              exact hret (nI 2) (2, a, r) _ _ _ _ dX1_lookUp_102 rfl ⟨rfl, (e0.symm.trans (z_lk_done ((z_rnd_an hno ha).trans (z_dec_2 hn3 c_94)) (by decide) hr5))⟩ hP hD hS
            · refine lv_iconst (v := nI 1) hx hb dX1_lookUp_97 (by decide) ?_
              refine lv_goto (tgt := 102) hx hb dX1_lookUp_98 (by decide) ?_
              exact hret (nI 1) (1, a, r) _ _ _ _ dX1_lookUp_102 rfl ⟨rfl, (e0.symm.trans (z_lk_done ((z_rnd_an hno ha).trans (z_dec_1 hn3 c_94)) (by decide) hr5))⟩ hP hD hS
          · refine lv_iload_n hx hb dX1_lookUp_76 rfl (lv_at hl 3 rfl) ?_
            refine lv_iconst (v := nI 3) hx hb dX1_lookUp_77 (by decide) ?_
            refine lv_icmp_ne (tgt := 103) (x := so) (y := nI 3) hx hb dX1_lookUp_78 (by decide) (fun c_78 => ?_) (fun c_78 => ?_)
            · refine lv_aload_n hx hb dX1_lookUp_103 rfl (lv_at hl 2 rfl) ?_
              refine va_get (D := D) (ci := 1) (v := .int (nI r)) (C := RX1) (T := TX1) (N := 8) hx hb hts in_X1 hown hK hP 0 rfl rfl 7 (by decide) (hts _ q190) (fun _ h9 => h9) rfl dX1_lookUp_104 ?_
              refine lv_iconst (v := nI 5) hx hb dX1_lookUp_107 (by decide) ?_
              refine zn_icmp_ne (tgt := 113) hx hb (a := r) (b := 5) (by omega) (by decide) dX1_lookUp_108 (by decide) (fun c_108 => ?_) (fun c_108 => ?_)
              · refine lv_aload_n hx hb dX1_lookUp_113 rfl (lv_at hl 2 rfl) ?_
                refine lv_iload hx hb dX1_lookUp_114 (lv_at hl 0 rfl) ?_
                refine lv_iconst (v := nI 3) hx hb dX1_lookUp_116 (by decide) ?_
                refine lv_iconst (v := nI 0) hx hb dX1_lookUp_117 (by decide) ?_
                refine z_calli (As := [.int (nI a), .int (nI 3), .int (nI 0)]) (rest := []) ⟨hx, hb, hml, hown, hts⟩ (zd_valueOf l D cA H.size h he (zn_F nm) es ev (nI K) (la) (nI q) (nI r) (nI a) (nI 3) (nI 0) hhe) (cwV 3 hts (lw_V q273 q275 qs19 q22 q276) rfl rfl rfl (by decide +kernel) ⟨Nat.le_of_ble_eq_true rfl, Nat.le_of_ble_eq_true rfl⟩) (va_recv hK hP (ci := 1) (q0 := 0) rfl rfl) hK hP hD hS hA rfl hl.1 rfl (Nat.le_of_ble_eq_true rfl) dX1_lookUp_118 (Nat.zero_le _) (Nat.zero_le _) (fun r_118 u_118 H locs hw_118 hP hD hS => ?_)
                obtain ⟨k, hk1, hk2⟩ := z_val_isn (he := he) (es := es) (ev := ev) (k := zn_F nm) (a := nI a) hals (nI 0)
                have hw_118 : r_118 = nI k := Eq.trans hw_118 hk1
                subst hw_118
                have hP : va_P D z_cl (z_w1 cA h (nI he) (zn_F nm) es ev (nI K) (la) (nI q) (nI r)) H := hP
                have hD : va_D A (z_w1 cA h (nI he) (zn_F nm) es ev (nI K) (la) (nI q) (nI r)) := hD
                refine lv_istore_n (lv' := [(2, .int (nI k)), (4, .int (nI a)), (3, .int ((-1))), (0, .ref (h 0)), (1, .int so)]) hx hb dX1_lookUp_121 rfl hl (by decide) rfl (fun ls hl => ?_)
                refine lv_aload_n hx hb dX1_lookUp_122 rfl (lv_at hl 3 rfl) ?_
                refine lv_dup hx hb dX1_lookUp_123 rfl ?_
                refine va_get (D := D) (ci := 1) (v := .int (nI r)) (C := RX1) (T := TX1) (N := 8) hx hb hts in_X1 hown hK hP 0 rfl rfl 7 (by decide) (hts _ q190) (fun _ h9 => h9) rfl dX1_lookUp_124 ?_
                refine lv_iconst (v := nI 1) hx hb dX1_lookUp_127 (by decide) ?_
                refine zn_iadd hx hb (a := r) (b := 1) dX1_lookUp_128 ?_
                refine va_put (D := D) (ci := 1) (v := .int (nI (r + 1))) (ty := .int) (C := RX1) (T := TX1) (N := 8) hx hb hts in_X1 tyX1 tyX1_ok nmX1 hown hK hP hD hS 0 rfl rfl 7 (by decide) (hts _ q190) (fun _ h9 => h9) rfl (by decide +kernel) rfl rfl (Nat.le_of_ble_eq_true rfl) dX1_lookUp_129 (fun H locs hP hD hS => ?_)
                have hP : va_P D z_cl (z_w1 cA h (nI he) (zn_F nm) es ev (nI K) (la) (nI q) (nI (r + 1))) H := hP
                have hD : va_D A (z_w1 cA h (nI he) (zn_F nm) es ev (nI K) (la) (nI q) (nI (r + 1))) := hD
                refine lv_goto (tgt := 10) hx hb dX1_lookUp_132 (by decide) ?_
                exact ih_LA (r + 1) k _ (by omega) (by omega) (by omega) hk2 (e0.symm.trans (z_lk_next ((z_rnd_an hno ha).trans (z_dec_0 c_78 c_73 hk1 (by have := hk2.1; omega))) (by omega))).symm _ _ hP hD hS ls (lv_sub hl [3, 4, 0] rfl)
              · refine lv_iconst (v := nI 5) hx hb dX1_lookUp_111 (by decide) ?_
                subst c_108
                obtain ⟨k, hk1, hk2⟩ := z_val_isn (he := he) (es := es) (ev := ev) (k := zn_F nm) (a := nI a) hals (nI 0)
                exact hret (nI 5) (5, q, 5) _ _ _ _ dX1_lookUp_112 rfl ⟨rfl, e0.symm.trans (z_lk_loop ((z_rnd_an hno ha).trans (z_dec_0 c_78 c_73 hk1 (by have := hk2.1; omega))))⟩ hP hD hS
            · have hn3 : ¬ (so ≠ nI 3 ∧ z_cnt (zn_F nm) es (nI a) (nI 3) he ≠ 0) := fun q9 => q9.1 c_78
              refine lv_aload_n hx hb dX1_lookUp_81 rfl (lv_at hl 2 rfl) ?_
              refine lv_iload hx hb dX1_lookUp_82 (lv_at hl 0 rfl) ?_
              refine va_put (D := D) (ci := 1) (v := .int (nI a)) (ty := .int) (C := RX1) (T := TX1) (N := 8) hx hb hts in_X1 tyX1 tyX1_ok nmX1 hown hK hP hD hS 0 rfl rfl 6 (by decide) (hts _ q189) (fun _ h9 => h9) rfl (by decide +kernel) rfl rfl (Nat.le_of_ble_eq_true rfl) dX1_lookUp_84 (fun H locs hP hD hS => ?_)
              have hP : va_P D z_cl (z_w1 cA h (nI he) (zn_F nm) es ev (nI K) (la) (nI a) (nI r)) H := hP
              have hD : va_D A (z_w1 cA h (nI he) (zn_F nm) es ev (nI K) (la) (nI a) (nI r)) := hD
              refine lv_aload_n hx hb dX1_lookUp_87 rfl (lv_at hl 2 rfl) ?_
              refine lv_iload hx hb dX1_lookUp_88 (lv_at hl 0 rfl) ?_
              refine lv_iload_n hx hb dX1_lookUp_90 rfl (lv_at hl 3 rfl) ?_
              refine z_calli (As := [.int (nI a), .int so]) (rest := []) ⟨hx, hb, hml, hown, hts⟩ (zd_count l D cA H.size h he (zn_F nm) es ev (nI K) (la) (nI a) (nI r) (nI a) (so) hhe) (cwV 2 hts (lw_V q235 q237 qs14 q22 q238) rfl rfl rfl (by decide +kernel) ⟨Nat.le_of_ble_eq_true rfl, Nat.le_of_ble_eq_true rfl⟩) (va_recv hK hP (ci := 1) (q0 := 0) rfl rfl) hK hP hD hS hA rfl hl.1 rfl (Nat.le_of_ble_eq_true rfl) dX1_lookUp_91 (Nat.zero_le _) (Nat.zero_le _) (fun r_91 u_91 H locs hw_91 hP hD hS => ?_)
              have hw_91 : r_91 = nI (z_cnt (zn_F nm) es (nI a) (so) he) := hw_91
              subst hw_91
              have hle_91 := z_cnt_le (zn_F nm) es (nI a) (so) he
              have hP : va_P D z_cl (z_w1 cA h (nI he) (zn_F nm) es ev (nI K) (la) (nI a) (nI r)) H := hP
              have hD : va_D A (z_w1 cA h (nI he) (zn_F nm) es ev (nI K) (la) (nI a) (nI r)) := hD
              refine zn_if_le (tgt := 101) hx hb (a := z_cnt (zn_F nm) es (nI a) (so) he) (by omega) dX1_lookUp_94 (by decide) (fun c_94 => ?_) (fun c_94 => ?_)
              · refine lv_iconst (v := nI 2) hx hb dX1_lookUp_101 (by decide) ?_
                exact hret (nI 2) (2, a, r) _ _ _ _ dX1_lookUp_102 rfl ⟨rfl, (e0.symm.trans (z_lk_done ((z_rnd_an hno ha).trans (z_dec_2 hn3 c_94)) (by decide) hr5))⟩ hP hD hS
              · refine lv_iconst (v := nI 1) hx hb dX1_lookUp_97 (by decide) ?_
                refine lv_goto (tgt := 102) hx hb dX1_lookUp_98 (by decide) ?_
                exact hret (nI 1) (1, a, r) _ _ _ _ dX1_lookUp_102 rfl ⟨rfl, (e0.symm.trans (z_lk_done ((z_rnd_an hno ha).trans (z_dec_1 hn3 c_94)) (by decide) hr5))⟩ hP hD hS
        · have hP : va_P D z_cl (z_w1 cA h (nI he) (zn_F nm) es ev (nI K) (la) (nI q) (nI r)) H := hP
          have hD : va_D A (z_w1 cA h (nI he) (zn_F nm) es ev (nI K) (la) (nI q) (nI r)) := hD
          refine lv_istore (lv' := [(4, .int ((-1))), (3, .int ((-1))), (0, .ref (h 0)), (1, .int so), (2, .int (nI q))]) hx hb dX1_lookUp_57 hl (by decide) rfl (fun ls hl => ?_)
          refine lv_iload hx hb dX1_lookUp_59 (lv_at hl 0 rfl) ?_
          refine lv_if_ge (tgt := 66) (x := (-1)) hx hb dX1_lookUp_61 (by decide) (fun c_61 => absurd c_61 (by decide)) (fun c_61 => ?_)
          refine lv_iconst (v := nI 3) hx hb dX1_lookUp_64 (by decide) ?_
          exact hret (nI 3) (3, q, r) _ _ _ _ dX1_lookUp_65 rfl ⟨rfl, (e0.symm.trans (z_lk_done (z_rnd_no hno ha) (by decide) hr5))⟩ hP hD hS
  exact LA 5 1 K pl (by omega) (by omega) (by omega) hKv rfl _ _ hP hD hS ls (lv_sub hl [1, 2, 0] rfl)
end
section
/-! ZoneLookupModel: its public methods -/
set_option maxRecDepth 100000
set_option maxHeartbeats 4000000 in
/-- look(sort) -/
theorem zd_look (l : Launch) (D : va_G) (cA : ClassId) (sz : Nat) (h : Nat → Nat) (he : Nat) (nm : Nat → Nat) (es ev : Nat → Int32) (K : Nat) (la pl ro : Int32) (so : Int32) (hhe : he ≤ 24) (hKv : z_vn K) (hnm : ∀ j, nm j < 6561) (hals : ∀ e, e < he → es e = nI 3 → z_isn (ev e)) : z_Mi (S := Int32 × Int32) l yX1_look cX1_look 2 .int ({ frames := 4, cells := 0, slots := 0, locals := 92 } : Room) D cA sz [.ref (h 0), .int so] (z_w1 cA h (nI he) (zn_F nm) es ev (nI K) (la) (pl) (ro)) (fun r (_ : Int32 × Int32) => (z_so so ∧ r = nI (z_lk nm es ev he so 5 K 1).1) ∨ (¬ z_so so ∧ r = (-1))) (fun u => z_w1 cA h (nI he) (zn_F nm) es ev (nI K) (la) (u.1) (u.2)) := by
  refine z_ofi (by decide) (Nat.le_of_ble_eq_true rfl) ?_
  intro p e s m below meth c A Q hx hb hml hown hts hA hret hK hP hD hS ls hl
  have hown : s.vm.findClass RX1 = some m.cls := hown
  have hl : lv_has ls 2 [(0, .ref (h 0)), (1, .int so)] := hl
  refine lv_iload_n hx hb dX1_look_0 rfl (lv_at hl 1 rfl) ?_
  refine z_calls (As := [.int so]) (rest := []) ⟨hx, hb, hml, hown, hts⟩ (zd_bad l D cA s.heap.size (z_w1 cA h (nI he) (zn_F nm) es ev (nI K) (la) (pl) (ro)) so) (va_cwS 1 hts (lw_S q258 q259 q22 q260) rfl rfl rfl (by decide +kernel) ⟨Nat.le_of_ble_eq_true rfl, Nat.le_of_ble_eq_true rfl⟩) hK hP hD hS hA rfl hl.1 rfl (Nat.le_of_ble_eq_true rfl) dX1_look_1 (Nat.zero_le _) (Nat.zero_le _) (fun r_1 u_1 H locs hw_1 hP hD hS => ?_)
  rcases hw_1 with ⟨rfl, hb_1⟩ | ⟨rfl, hb_1⟩
  · have hP : va_P D z_cl (z_w1 cA h (nI he) (zn_F nm) es ev (nI K) (la) (pl) (ro)) H := hP
    have hD : va_D A (z_w1 cA h (nI he) (zn_F nm) es ev (nI K) (la) (pl) (ro)) := hD
    refine zn_if_eq (tgt := 11) hx hb (a := 1) (by decide) dX1_look_4 (by decide) (fun c_4 => absurd c_4 (by decide)) (fun c_4 => ?_)
    refine lv_iconst (v := (-1)) hx hb dX1_look_7 (by decide) ?_
    refine lv_goto (tgt := 16) hx hb dX1_look_8 (by decide) ?_
    exact hret ((-1)) (pl, ro) _ _ _ _ dX1_look_16 rfl (Or.inr ⟨hb_1, rfl⟩) hP hD hS
  · have hP : va_P D z_cl (z_w1 cA h (nI he) (zn_F nm) es ev (nI K) (la) (pl) (ro)) H := hP
    have hD : va_D A (z_w1 cA h (nI he) (zn_F nm) es ev (nI K) (la) (pl) (ro)) := hD
    refine zn_if_eq (tgt := 11) hx hb (a := 0) (by decide) dX1_look_4 (by decide) (fun c_4 => ?_) (fun c_4 => absurd c_4 (by decide))
    refine lv_aload_n hx hb dX1_look_11 rfl (lv_at hl 0 rfl) ?_
    refine lv_iload_n hx hb dX1_look_12 rfl (lv_at hl 1 rfl) ?_
    refine z_calli (As := [.int so]) (rest := []) ⟨hx, hb, hml, hown, hts⟩ (zd_lookUp l D cA H.size h he nm es ev K (la) (pl) (ro) so hhe hKv hnm hals) (cwV 1 hts (lw_V q261 q263 qs16 q22 q264) rfl rfl rfl (by decide +kernel) ⟨Nat.le_of_ble_eq_true rfl, Nat.le_of_ble_eq_true rfl⟩) (va_recv hK hP (ci := 1) (q0 := 0) rfl rfl) hK hP hD hS hA rfl hl.1 rfl (Nat.le_of_ble_eq_true rfl) dX1_look_13 (Nat.zero_le _) (Nat.zero_le _) (fun r_13 u_13 H locs hw_13 hP hD hS => ?_)
    obtain ⟨hr_13, hlk⟩ := hw_13
    subst hr_13
    subst hlk
    have hle := z_lk_le nm es ev he so 5 K 1
    have hP : va_P D z_cl (z_w1 cA h (nI he) (zn_F nm) es ev (nI K) (la) (nI ((z_lk nm es ev he so 5 K 1).2.1)) (nI ((z_lk nm es ev he so 5 K 1).2.2))) H := hP
    have hD : va_D A (z_w1 cA h (nI he) (zn_F nm) es ev (nI K) (la) (nI ((z_lk nm es ev he so 5 K 1).2.1)) (nI ((z_lk nm es ev he so 5 K 1).2.2))) := hD
    exact hret (nI ((z_lk nm es ev he so 5 K 1).1)) (nI (z_lk nm es ev he so 5 K 1).2.1, nI (z_lk nm es ev he so 5 K 1).2.2) _ _ _ _ dX1_look_16 rfl (Or.inl ⟨hb_1, rfl⟩) hP hD hS
set_option maxHeartbeats 4000000 in
/-- place(sort) -/
theorem zd_place (l : Launch) (D : va_G) (cA : ClassId) (sz : Nat) (h : Nat → Nat) (he : Nat) (nm : Nat → Nat) (es ev : Nat → Int32) (K : Nat) (la pl ro : Int32) (so : Int32) (hhe : he ≤ 24) (hKv : z_vn K) (hnm : ∀ j, nm j < 6561) (hals : ∀ e, e < he → es e = nI 3 → z_isn (ev e)) : z_Mi (S := Int32 × Int32) l yX1_place cX1_place 2 .int ({ frames := 4, cells := 0, slots := 0, locals := 92 } : Room) D cA sz [.ref (h 0), .int so] (z_w1 cA h (nI he) (zn_F nm) es ev (nI K) (la) (pl) (ro)) (fun r (_ : Int32 × Int32) => (z_so so ∧ r = nI (z_lk nm es ev he so 5 K 1).2.1) ∨ (¬ z_so so ∧ r = (-1))) (fun u => z_w1 cA h (nI he) (zn_F nm) es ev (nI K) (la) (u.1) (u.2)) := by
  refine z_ofi (by decide) (Nat.le_of_ble_eq_true rfl) ?_
  intro p e s m below meth c A Q hx hb hml hown hts hA hret hK hP hD hS ls hl
  have hown : s.vm.findClass RX1 = some m.cls := hown
  have hl : lv_has ls 2 [(0, .ref (h 0)), (1, .int so)] := hl
  refine lv_iload_n hx hb dX1_place_0 rfl (lv_at hl 1 rfl) ?_
  refine z_calls (As := [.int so]) (rest := []) ⟨hx, hb, hml, hown, hts⟩ (zd_bad l D cA s.heap.size (z_w1 cA h (nI he) (zn_F nm) es ev (nI K) (la) (pl) (ro)) so) (va_cwS 1 hts (lw_S q258 q259 q22 q260) rfl rfl rfl (by decide +kernel) ⟨Nat.le_of_ble_eq_true rfl, Nat.le_of_ble_eq_true rfl⟩) hK hP hD hS hA rfl hl.1 rfl (Nat.le_of_ble_eq_true rfl) dX1_place_1 (Nat.zero_le _) (Nat.zero_le _) (fun r_1 u_1 H locs hw_1 hP hD hS => ?_)
  rcases hw_1 with ⟨rfl, hb_1⟩ | ⟨rfl, hb_1⟩
  · have hP : va_P D z_cl (z_w1 cA h (nI he) (zn_F nm) es ev (nI K) (la) (pl) (ro)) H := hP
    have hD : va_D A (z_w1 cA h (nI he) (zn_F nm) es ev (nI K) (la) (pl) (ro)) := hD
    refine zn_if_eq (tgt := 9) hx hb (a := 1) (by decide) dX1_place_4 (by decide) (fun c_4 => absurd c_4 (by decide)) (fun c_4 => ?_)
    refine lv_iconst (v := (-1)) hx hb dX1_place_7 (by decide) ?_
    exact hret ((-1)) (pl, ro) _ _ _ _ dX1_place_8 rfl (Or.inr ⟨hb_1, rfl⟩) hP hD hS
  · have hP : va_P D z_cl (z_w1 cA h (nI he) (zn_F nm) es ev (nI K) (la) (pl) (ro)) H := hP
    have hD : va_D A (z_w1 cA h (nI he) (zn_F nm) es ev (nI K) (la) (pl) (ro)) := hD
    refine zn_if_eq (tgt := 9) hx hb (a := 0) (by decide) dX1_place_4 (by decide) (fun c_4 => ?_) (fun c_4 => absurd c_4 (by decide))
    refine lv_aload_n hx hb dX1_place_9 rfl (lv_at hl 0 rfl) ?_
    refine lv_iload_n hx hb dX1_place_10 rfl (lv_at hl 1 rfl) ?_
    refine z_calli (As := [.int so]) (rest := []) ⟨hx, hb, hml, hown, hts⟩ (zd_lookUp l D cA H.size h he nm es ev K (la) (pl) (ro) so hhe hKv hnm hals) (cwV 1 hts (lw_V q261 q263 qs16 q22 q264) rfl rfl rfl (by decide +kernel) ⟨Nat.le_of_ble_eq_true rfl, Nat.le_of_ble_eq_true rfl⟩) (va_recv hK hP (ci := 1) (q0 := 0) rfl rfl) hK hP hD hS hA rfl hl.1 rfl (Nat.le_of_ble_eq_true rfl) dX1_place_11 (Nat.zero_le _) (Nat.zero_le _) (fun r_11 u_11 H locs hw_11 hP hD hS => ?_)
    obtain ⟨hr_11, hlk⟩ := hw_11
    subst hr_11
    subst hlk
    have hle := z_lk_le nm es ev he so 5 K 1
    have hP : va_P D z_cl (z_w1 cA h (nI he) (zn_F nm) es ev (nI K) (la) (nI ((z_lk nm es ev he so 5 K 1).2.1)) (nI ((z_lk nm es ev he so 5 K 1).2.2))) H := hP
    have hD : va_D A (z_w1 cA h (nI he) (zn_F nm) es ev (nI K) (la) (nI ((z_lk nm es ev he so 5 K 1).2.1)) (nI ((z_lk nm es ev he so 5 K 1).2.2))) := hD
    refine lv_pop hx hb dX1_place_14 rfl ?_
    refine lv_aload_n hx hb dX1_place_15 rfl (lv_at hl 0 rfl) ?_
    refine va_get (D := D) (ci := 1) (v := .int (nI ((z_lk nm es ev he so 5 K 1).2.1))) (C := RX1) (T := TX1) (N := 8) hx hb hts in_X1 hown hK hP 0 rfl rfl 6 (by decide) (hts _ q189) (fun _ h9 => h9) rfl dX1_place_16 ?_
    exact hret (nI ((z_lk nm es ev he so 5 K 1).2.1)) (nI (z_lk nm es ev he so 5 K 1).2.1, nI (z_lk nm es ev he so 5 K 1).2.2) _ _ _ _ dX1_place_19 rfl (Or.inl ⟨hb_1, rfl⟩) hP hD hS
set_option maxHeartbeats 4000000 in
/-- rounds(sort) -/
theorem zd_rounds (l : Launch) (D : va_G) (cA : ClassId) (sz : Nat) (h : Nat → Nat) (he : Nat) (nm : Nat → Nat) (es ev : Nat → Int32) (K : Nat) (la pl ro : Int32) (so : Int32) (hhe : he ≤ 24) (hKv : z_vn K) (hnm : ∀ j, nm j < 6561) (hals : ∀ e, e < he → es e = nI 3 → z_isn (ev e)) : z_Mi (S := Int32 × Int32) l yX1_rounds cX1_rounds 2 .int ({ frames := 4, cells := 0, slots := 0, locals := 92 } : Room) D cA sz [.ref (h 0), .int so] (z_w1 cA h (nI he) (zn_F nm) es ev (nI K) (la) (pl) (ro)) (fun r (_ : Int32 × Int32) => (z_so so ∧ r = nI (z_lk nm es ev he so 5 K 1).2.2) ∨ (¬ z_so so ∧ r = (-1))) (fun u => z_w1 cA h (nI he) (zn_F nm) es ev (nI K) (la) (u.1) (u.2)) := by
  refine z_ofi (by decide) (Nat.le_of_ble_eq_true rfl) ?_
  intro p e s m below meth c A Q hx hb hml hown hts hA hret hK hP hD hS ls hl
  have hown : s.vm.findClass RX1 = some m.cls := hown
  have hl : lv_has ls 2 [(0, .ref (h 0)), (1, .int so)] := hl
  refine lv_iload_n hx hb dX1_rounds_0 rfl (lv_at hl 1 rfl) ?_
  refine z_calls (As := [.int so]) (rest := []) ⟨hx, hb, hml, hown, hts⟩ (zd_bad l D cA s.heap.size (z_w1 cA h (nI he) (zn_F nm) es ev (nI K) (la) (pl) (ro)) so) (va_cwS 1 hts (lw_S q258 q259 q22 q260) rfl rfl rfl (by decide +kernel) ⟨Nat.le_of_ble_eq_true rfl, Nat.le_of_ble_eq_true rfl⟩) hK hP hD hS hA rfl hl.1 rfl (Nat.le_of_ble_eq_true rfl) dX1_rounds_1 (Nat.zero_le _) (Nat.zero_le _) (fun r_1 u_1 H locs hw_1 hP hD hS => ?_)
  rcases hw_1 with ⟨rfl, hb_1⟩ | ⟨rfl, hb_1⟩
  · have hP : va_P D z_cl (z_w1 cA h (nI he) (zn_F nm) es ev (nI K) (la) (pl) (ro)) H := hP
    have hD : va_D A (z_w1 cA h (nI he) (zn_F nm) es ev (nI K) (la) (pl) (ro)) := hD
    refine zn_if_eq (tgt := 9) hx hb (a := 1) (by decide) dX1_rounds_4 (by decide) (fun c_4 => absurd c_4 (by decide)) (fun c_4 => ?_)
    refine lv_iconst (v := (-1)) hx hb dX1_rounds_7 (by decide) ?_
    exact hret ((-1)) (pl, ro) _ _ _ _ dX1_rounds_8 rfl (Or.inr ⟨hb_1, rfl⟩) hP hD hS
  · have hP : va_P D z_cl (z_w1 cA h (nI he) (zn_F nm) es ev (nI K) (la) (pl) (ro)) H := hP
    have hD : va_D A (z_w1 cA h (nI he) (zn_F nm) es ev (nI K) (la) (pl) (ro)) := hD
    refine zn_if_eq (tgt := 9) hx hb (a := 0) (by decide) dX1_rounds_4 (by decide) (fun c_4 => ?_) (fun c_4 => absurd c_4 (by decide))
    refine lv_aload_n hx hb dX1_rounds_9 rfl (lv_at hl 0 rfl) ?_
    refine lv_iload_n hx hb dX1_rounds_10 rfl (lv_at hl 1 rfl) ?_
    refine z_calli (As := [.int so]) (rest := []) ⟨hx, hb, hml, hown, hts⟩ (zd_lookUp l D cA H.size h he nm es ev K (la) (pl) (ro) so hhe hKv hnm hals) (cwV 1 hts (lw_V q261 q263 qs16 q22 q264) rfl rfl rfl (by decide +kernel) ⟨Nat.le_of_ble_eq_true rfl, Nat.le_of_ble_eq_true rfl⟩) (va_recv hK hP (ci := 1) (q0 := 0) rfl rfl) hK hP hD hS hA rfl hl.1 rfl (Nat.le_of_ble_eq_true rfl) dX1_rounds_11 (Nat.zero_le _) (Nat.zero_le _) (fun r_11 u_11 H locs hw_11 hP hD hS => ?_)
    obtain ⟨hr_11, hlk⟩ := hw_11
    subst hr_11
    subst hlk
    have hle := z_lk_le nm es ev he so 5 K 1
    have hP : va_P D z_cl (z_w1 cA h (nI he) (zn_F nm) es ev (nI K) (la) (nI ((z_lk nm es ev he so 5 K 1).2.1)) (nI ((z_lk nm es ev he so 5 K 1).2.2))) H := hP
    have hD : va_D A (z_w1 cA h (nI he) (zn_F nm) es ev (nI K) (la) (nI ((z_lk nm es ev he so 5 K 1).2.1)) (nI ((z_lk nm es ev he so 5 K 1).2.2))) := hD
    refine lv_pop hx hb dX1_rounds_14 rfl ?_
    refine lv_aload_n hx hb dX1_rounds_15 rfl (lv_at hl 0 rfl) ?_
    refine va_get (D := D) (ci := 1) (v := .int (nI ((z_lk nm es ev he so 5 K 1).2.2))) (C := RX1) (T := TX1) (N := 8) hx hb hts in_X1 hown hK hP 0 rfl rfl 7 (by decide) (hts _ q190) (fun _ h9 => h9) rfl dX1_rounds_16 ?_
    exact hret (nI ((z_lk nm es ev he so 5 K 1).2.2)) (nI (z_lk nm es ev he so 5 K 1).2.1, nI (z_lk nm es ev he so 5 K 1).2.2) _ _ _ _ dX1_rounds_19 rfl (Or.inl ⟨hb_1, rfl⟩) hP hD hS
set_option maxHeartbeats 4000000 in
/-- value(sort, index) -/
theorem zd_value (l : Launch) (D : va_G) (cA : ClassId) (sz : Nat) (h : Nat → Nat) (he : Nat) (nm : Nat → Nat) (es ev : Nat → Int32) (K : Nat) (la pl ro : Int32) (so ix : Int32) (hhe : he ≤ 24) (hKv : z_vn K) (hnm : ∀ j, nm j < 6561) (hals : ∀ e, e < he → es e = nI 3 → z_isn (ev e)) : z_Mi (S := Int32 × Int32) l yX1_value cX1_value 4 .int ({ frames := 4, cells := 0, slots := 0, locals := 92 } : Room) D cA sz [.ref (h 0), .int so, .int ix] (z_w1 cA h (nI he) (zn_F nm) es ev (nI K) (la) (pl) (ro)) (fun r (_ : Int32 × Int32) => (z_so so ∧ r = z_vl nm es ev he K so ix) ∨ (¬ z_so so ∧ r = nI 0)) (fun u => z_w1 cA h (nI he) (zn_F nm) es ev (nI K) (la) (u.1) (u.2)) := by
  refine z_ofi (by decide) (Nat.le_of_ble_eq_true rfl) ?_
  intro p e s m below meth c A Q hx hb hml hown hts hA hret hK hP hD hS ls hl
  have hown : s.vm.findClass RX1 = some m.cls := hown
  have hl : lv_has ls 4 [(0, .ref (h 0)), (1, .int so), (2, .int ix)] := hl
  refine lv_iload_n hx hb dX1_value_0 rfl (lv_at hl 1 rfl) ?_
  refine z_calls (As := [.int so]) (rest := []) ⟨hx, hb, hml, hown, hts⟩ (zd_bad l D cA s.heap.size (z_w1 cA h (nI he) (zn_F nm) es ev (nI K) (la) (pl) (ro)) so) (va_cwS 1 hts (lw_S q258 q259 q22 q260) rfl rfl rfl (by decide +kernel) ⟨Nat.le_of_ble_eq_true rfl, Nat.le_of_ble_eq_true rfl⟩) hK hP hD hS hA rfl hl.1 rfl (Nat.le_of_ble_eq_true rfl) dX1_value_1 (Nat.zero_le _) (Nat.zero_le _) (fun r_1 u_1 H locs hw_1 hP hD hS => ?_)
  rcases hw_1 with ⟨rfl, hb_1⟩ | ⟨rfl, hb_1⟩
  · have hP : va_P D z_cl (z_w1 cA h (nI he) (zn_F nm) es ev (nI K) (la) (pl) (ro)) H := hP
    have hD : va_D A (z_w1 cA h (nI he) (zn_F nm) es ev (nI K) (la) (pl) (ro)) := hD
    refine zn_if_eq (tgt := 9) hx hb (a := 1) (by decide) dX1_value_4 (by decide) (fun c_4 => absurd c_4 (by decide)) (fun c_4 => ?_)
    refine lv_iconst (v := nI 0) hx hb dX1_value_7 (by decide) ?_
    exact hret (nI 0) (pl, ro) _ _ _ _ dX1_value_8 rfl (Or.inr ⟨hb_1, rfl⟩) hP hD hS
  · have hP : va_P D z_cl (z_w1 cA h (nI he) (zn_F nm) es ev (nI K) (la) (pl) (ro)) H := hP
    have hD : va_D A (z_w1 cA h (nI he) (zn_F nm) es ev (nI K) (la) (pl) (ro)) := hD
    refine zn_if_eq (tgt := 9) hx hb (a := 0) (by decide) dX1_value_4 (by decide) (fun c_4 => ?_) (fun c_4 => absurd c_4 (by decide))
    refine lv_aload_n hx hb dX1_value_9 rfl (lv_at hl 0 rfl) ?_
    refine lv_iload_n hx hb dX1_value_10 rfl (lv_at hl 1 rfl) ?_
    refine z_calli (As := [.int so]) (rest := []) ⟨hx, hb, hml, hown, hts⟩ (zd_lookUp l D cA H.size h he nm es ev K (la) (pl) (ro) so hhe hKv hnm hals) (cwV 1 hts (lw_V q261 q263 qs16 q22 q264) rfl rfl rfl (by decide +kernel) ⟨Nat.le_of_ble_eq_true rfl, Nat.le_of_ble_eq_true rfl⟩) (va_recv hK hP (ci := 1) (q0 := 0) rfl rfl) hK hP hD hS hA rfl hl.1 rfl (Nat.le_of_ble_eq_true rfl) dX1_value_11 (Nat.zero_le _) (Nat.zero_le _) (fun r_11 u_11 H locs hw_11 hP hD hS => ?_)
    obtain ⟨hr_11, hlk⟩ := hw_11
    subst hr_11
    subst hlk
    have hle := z_lk_le nm es ev he so 5 K 1
    have hP : va_P D z_cl (z_w1 cA h (nI he) (zn_F nm) es ev (nI K) (la) (nI ((z_lk nm es ev he so 5 K 1).2.1)) (nI ((z_lk nm es ev he so 5 K 1).2.2))) H := hP
    have hD : va_D A (z_w1 cA h (nI he) (zn_F nm) es ev (nI K) (la) (nI ((z_lk nm es ev he so 5 K 1).2.1)) (nI ((z_lk nm es ev he so 5 K 1).2.2))) := hD
    refine lv_istore_n (lv' := [(3, .int (nI ((z_lk nm es ev he so 5 K 1).1))), (0, .ref (h 0)), (1, .int so), (2, .int ix)]) hx hb dX1_value_14 rfl hl (by decide) rfl (fun ls hl => ?_)
    refine lv_iload_n hx hb dX1_value_15 rfl (lv_at hl 0 rfl) ?_
    refine lv_iconst (v := nI 1) hx hb dX1_value_16 (by decide) ?_
    refine zn_icmp_ne (tgt := 31) hx hb (a := (z_lk nm es ev he so 5 K 1).1) (b := 1) (by omega) (by decide) dX1_value_17 (by decide) (fun c_17 => ?_) (fun c_17 => ?_)
    · refine lv_iload_n hx hb dX1_value_31 rfl (lv_at hl 0 rfl) ?_
      refine lv_iconst (v := nI 4) hx hb dX1_value_32 (by decide) ?_
      refine zn_icmp_ne (tgt := 53) hx hb (a := (z_lk nm es ev he so 5 K 1).1) (b := 4) (by omega) (by decide) dX1_value_33 (by decide) (fun c_33 => ?_) (fun c_33 => ?_)
      · refine lv_iconst (v := nI 0) hx hb dX1_value_53 (by decide) ?_
        exact hret (nI 0) (nI (z_lk nm es ev he so 5 K 1).2.1, nI (z_lk nm es ev he so 5 K 1).2.2) _ _ _ _ dX1_value_54 rfl (Or.inl ⟨hb_1, by simp only [z_vl]; rw [if_neg c_17, if_neg (fun q => c_33 q.1)]⟩) hP hD hS
      · refine lv_iload_n hx hb dX1_value_36 rfl (lv_at hl 3 rfl) ?_
        refine lv_if_ne (tgt := 53) (x := ix) hx hb dX1_value_37 (by decide) (fun c_37 => ?_) (fun c_37 => ?_)
        · refine lv_iconst (v := nI 0) hx hb dX1_value_53 (by decide) ?_
          exact hret (nI 0) (nI (z_lk nm es ev he so 5 K 1).2.1, nI (z_lk nm es ev he so 5 K 1).2.2) _ _ _ _ dX1_value_54 rfl (Or.inl ⟨hb_1, by simp only [z_vl]; rw [if_neg c_17, if_neg (fun q => c_37 q.2)]⟩) hP hD hS
        · refine lv_aload_n hx hb dX1_value_40 rfl (lv_at hl 1 rfl) ?_
          refine lv_aload_n hx hb dX1_value_41 rfl (lv_at hl 1 rfl) ?_
          refine va_get (D := D) (ci := 1) (v := .int (nI ((z_lk nm es ev he so 5 K 1).2.1))) (C := RX1) (T := TX1) (N := 8) hx hb hts in_X1 hown hK hP 0 rfl rfl 6 (by decide) (hts _ q189) (fun _ h9 => h9) rfl dX1_value_42 ?_
          refine lv_iconst (v := nI 4) hx hb dX1_value_45 (by decide) ?_
          refine lv_iconst (v := nI 0) hx hb dX1_value_46 (by decide) ?_
          refine z_calli (As := [.int (nI ((z_lk nm es ev he so 5 K 1).2.1)), .int (nI 4), .int (nI 0)]) (rest := []) ⟨hx, hb, hml, hown, hts⟩ (zd_valueOf l D cA H.size h he (zn_F nm) es ev (nI K) (la) (nI ((z_lk nm es ev he so 5 K 1).2.1)) (nI ((z_lk nm es ev he so 5 K 1).2.2)) (nI ((z_lk nm es ev he so 5 K 1).2.1)) (nI 4) (nI 0) hhe) (cwV 3 hts (lw_V q273 q275 qs19 q22 q276) rfl rfl rfl (by decide +kernel) ⟨Nat.le_of_ble_eq_true rfl, Nat.le_of_ble_eq_true rfl⟩) (va_recv hK hP (ci := 1) (q0 := 0) rfl rfl) hK hP hD hS hA rfl hl.1 rfl (Nat.le_of_ble_eq_true rfl) dX1_value_47 (Nat.zero_le _) (Nat.zero_le _) (fun r_47 u_47 H locs hw_47 hP hD hS => ?_)
          have hw_47 : r_47 = z_val (zn_F nm) es ev (nI ((z_lk nm es ev he so 5 K 1).2.1)) (nI 4) (nI 0) he := hw_47
          subst hw_47
          have hP : va_P D z_cl (z_w1 cA h (nI he) (zn_F nm) es ev (nI K) (la) (nI ((z_lk nm es ev he so 5 K 1).2.1)) (nI ((z_lk nm es ev he so 5 K 1).2.2))) H := hP
          have hD : va_D A (z_w1 cA h (nI he) (zn_F nm) es ev (nI K) (la) (nI ((z_lk nm es ev he so 5 K 1).2.1)) (nI ((z_lk nm es ev he so 5 K 1).2.2))) := hD
          refine lv_goto (tgt := 54) hx hb dX1_value_50 (by decide) ?_
          exact hret ((z_val (zn_F nm) es ev (nI ((z_lk nm es ev he so 5 K 1).2.1)) (nI 4) (nI 0) he)) (nI (z_lk nm es ev he so 5 K 1).2.1, nI (z_lk nm es ev he so 5 K 1).2.2) _ _ _ _ dX1_value_54 rfl (Or.inl ⟨hb_1, by simp only [z_vl]; rw [if_neg c_17, if_pos ⟨c_33, c_37⟩]⟩) hP hD hS
    · refine lv_aload_n hx hb dX1_value_20 rfl (lv_at hl 1 rfl) ?_
      refine lv_aload_n hx hb dX1_value_21 rfl (lv_at hl 1 rfl) ?_
      refine va_get (D := D) (ci := 1) (v := .int (nI ((z_lk nm es ev he so 5 K 1).2.1))) (C := RX1) (T := TX1) (N := 8) hx hb hts in_X1 hown hK hP 0 rfl rfl 6 (by decide) (hts _ q189) (fun _ h9 => h9) rfl dX1_value_22 ?_
      refine lv_iload_n hx hb dX1_value_25 rfl (lv_at hl 2 rfl) ?_
      refine lv_iload_n hx hb dX1_value_26 rfl (lv_at hl 3 rfl) ?_
      refine z_calli (As := [.int (nI ((z_lk nm es ev he so 5 K 1).2.1)), .int so, .int ix]) (rest := []) ⟨hx, hb, hml, hown, hts⟩ (zd_valueOf l D cA H.size h he (zn_F nm) es ev (nI K) (la) (nI ((z_lk nm es ev he so 5 K 1).2.1)) (nI ((z_lk nm es ev he so 5 K 1).2.2)) (nI ((z_lk nm es ev he so 5 K 1).2.1)) (so) (ix) hhe) (cwV 3 hts (lw_V q273 q275 qs19 q22 q276) rfl rfl rfl (by decide +kernel) ⟨Nat.le_of_ble_eq_true rfl, Nat.le_of_ble_eq_true rfl⟩) (va_recv hK hP (ci := 1) (q0 := 0) rfl rfl) hK hP hD hS hA rfl hl.1 rfl (Nat.le_of_ble_eq_true rfl) dX1_value_27 (Nat.zero_le _) (Nat.zero_le _) (fun r_27 u_27 H locs hw_27 hP hD hS => ?_)
      have hw_27 : r_27 = z_val (zn_F nm) es ev (nI ((z_lk nm es ev he so 5 K 1).2.1)) (so) (ix) he := hw_27
      subst hw_27
      have hP : va_P D z_cl (z_w1 cA h (nI he) (zn_F nm) es ev (nI K) (la) (nI ((z_lk nm es ev he so 5 K 1).2.1)) (nI ((z_lk nm es ev he so 5 K 1).2.2))) H := hP
      have hD : va_D A (z_w1 cA h (nI he) (zn_F nm) es ev (nI K) (la) (nI ((z_lk nm es ev he so 5 K 1).2.1)) (nI ((z_lk nm es ev he so 5 K 1).2.2))) := hD
      exact hret ((z_val (zn_F nm) es ev (nI ((z_lk nm es ev he so 5 K 1).2.1)) (so) (ix) he)) (nI (z_lk nm es ev he so 5 K 1).2.1, nI (z_lk nm es ev he so 5 K 1).2.2) _ _ _ _ dX1_value_30 rfl (Or.inl ⟨hb_1, by simp only [z_vl]; rw [if_pos c_17]⟩) hP hD hS
set_option maxHeartbeats 4000000 in
/-- exists() -/
theorem zd_exists (l : Launch) (D : va_G) (cA : ClassId) (sz : Nat) (h : Nat → Nat) (he : Nat) (nm : Nat → Nat) (es ev : Nat → Int32) (K : Nat) (la pl ro : Int32) (hhe : he ≤ 24) (hKl : K < 6561) (hnm : ∀ j, nm j < 6561) : z_Mi (S := Unit) l yX1_exists cX1_exists 1 .int ({ frames := 2, cells := 0, slots := 0, locals := 45 } : Room) D cA sz [.ref (h 0)] (z_w1 cA h (nI he) (zn_F nm) es ev (nI K) (la) (pl) (ro)) (fun r _ => (r = nI 1 ∧ z_thr nm he K) ∨ (r = nI 0 ∧ ¬ z_thr nm he K)) (fun _ => z_w1 cA h (nI he) (zn_F nm) es ev (nI K) (la) (pl) (ro)) := by
  refine z_ofi (by decide) (Nat.le_of_ble_eq_true rfl) ?_
  intro p e s m below meth c A Q hx hb hml hown hts hA hret hK hP hD hS ls hl
  have hown : s.vm.findClass RX1 = some m.cls := hown
  have hl : lv_has ls 1 [(0, .ref (h 0))] := hl
  refine lv_aload_n hx hb dX1_exists_0 rfl (lv_at hl 0 rfl) ?_
  refine lv_aload_n hx hb dX1_exists_1 rfl (lv_at hl 0 rfl) ?_
  refine va_get (D := D) (ci := 1) (v := .int (nI K)) (C := RX1) (T := TX1) (N := 8) hx hb hts in_X1 hown hK hP 0 rfl rfl 4 (by decide) (hts _ q187) (fun _ h9 => h9) rfl dX1_exists_2 ?_
  refine z_calli (As := [.int (nI K)]) (rest := []) ⟨hx, hb, hml, hown, hts⟩ (zd_there l D cA s.heap.size h he nm es ev (nI K) (la) (pl) (ro) K hhe hKl hnm) (cwV 1 hts (lw_V q247 q249 qs15 q22 q250) rfl rfl rfl (by decide +kernel) ⟨Nat.le_of_ble_eq_true rfl, Nat.le_of_ble_eq_true rfl⟩) (va_recv hK hP (ci := 1) (q0 := 0) rfl rfl) hK hP hD hS hA rfl hl.1 rfl (Nat.le_of_ble_eq_true rfl) dX1_exists_5 (Nat.zero_le _) (Nat.zero_le _) (fun r_5 u_5 H locs hw_5 hP hD hS => ?_)
  rcases hw_5 with ⟨rfl, ht_5⟩ | ⟨rfl, ht_5⟩
  · have hP : va_P D z_cl (z_w1 cA h (nI he) (zn_F nm) es ev (nI K) (la) (pl) (ro)) H := hP
    have hD : va_D A (z_w1 cA h (nI he) (zn_F nm) es ev (nI K) (la) (pl) (ro)) := hD
    refine zn_if_eq (tgt := 15) hx hb (a := 1) (by decide) dX1_exists_8 (by decide) (fun c_8 => absurd c_8 (by decide)) (fun c_8 => ?_)
    refine lv_iconst (v := nI 1) hx hb dX1_exists_11 (by decide) ?_
    refine lv_goto (tgt := 16) hx hb dX1_exists_12 (by decide) ?_
    exact hret (nI 1) () _ _ _ _ dX1_exists_16 rfl (Or.inl ⟨rfl, ht_5⟩) hP hD hS
  · have hP : va_P D z_cl (z_w1 cA h (nI he) (zn_F nm) es ev (nI K) (la) (pl) (ro)) H := hP
    have hD : va_D A (z_w1 cA h (nI he) (zn_F nm) es ev (nI K) (la) (pl) (ro)) := hD
    refine zn_if_eq (tgt := 15) hx hb (a := 0) (by decide) dX1_exists_8 (by decide) (fun c_8 => ?_) (fun c_8 => absurd c_8 (by decide))
    refine lv_iconst (v := nI 0) hx hb dX1_exists_15 (by decide) ?_
    exact hret (nI 0) () _ _ _ _ dX1_exists_16 rfl (Or.inr ⟨rfl, ht_5⟩) hP hD hS
set_option maxHeartbeats 4000000 in
/-- add(sort, value) -/
theorem zd_add (l : Launch) (D : va_G) (cA : ClassId) (sz : Nat) (h : Nat → Nat) (he : Nat) (nm : Nat → Nat) (es ev : Nat → Int32) (K : Nat) (la pl ro : Int32) (so va : Int32) (hhe : he ≤ 24) (hrm : ∀ p s, z_so s → z_cnt (zn_F nm) es (nI p) s he ≤ z_room s) : z_Mi (S := Nat × (Nat → Nat) × (Nat → Int32) × (Nat → Int32)) l yX1_add cX1_add 3 .int ({ frames := 1, cells := 0, slots := 0, locals := 24 } : Room) D cA sz [.ref (h 0), .int so, .int va] (z_w1 cA h (nI he) (zn_F nm) es ev (nI K) (la) (pl) (ro)) (fun r u => z_add nm es ev he K so va r u) (fun u => z_w1 cA h (nI u.1) (zn_F u.2.1) u.2.2.1 u.2.2.2 (nI K) (la) (pl) (ro)) := by
  refine z_ofi (by decide) (Nat.le_of_ble_eq_true rfl) ?_
  intro p e s m below meth c A Q hx hb hml hown hts hA hret hK hP hD hS ls hl
  have hown : s.vm.findClass RX1 = some m.cls := hown
  have hl : lv_has ls 3 [(0, .ref (h 0)), (1, .int so), (2, .int va)] := hl
  refine lv_iload_n hx hb dX1_add_0 rfl (lv_at hl 1 rfl) ?_
  refine lv_iconst (v := nI 1) hx hb dX1_add_1 (by decide) ?_
  refine lv_icmp_lt (tgt := 31) (x := so) (y := nI 1) hx hb dX1_add_2 (by decide) (fun c_2 => ?_) (fun c_2 => ?_)
  · refine lv_iconst (v := (-1)) hx hb dX1_add_31 (by decide) ?_
    exact hret ((-1)) (he, nm, es, ev) _ _ _ _ dX1_add_32 rfl (Or.inr ⟨fun q => q.1.1 c_2, rfl, rfl⟩) hP hD hS
  · refine lv_iload_n hx hb dX1_add_5 rfl (lv_at hl 1 rfl) ?_
    refine lv_iconst (v := nI 4) hx hb dX1_add_6 (by decide) ?_
    refine lv_icmp_gt (tgt := 31) (x := so) (y := nI 4) hx hb dX1_add_7 (by decide) (fun c_7 => ?_) (fun c_7 => ?_)
    · refine lv_iconst (v := (-1)) hx hb dX1_add_31 (by decide) ?_
      exact hret ((-1)) (he, nm, es, ev) _ _ _ _ dX1_add_32 rfl (Or.inr ⟨fun q => Int32.not_lt.mpr q.1.2 c_7, rfl, rfl⟩) hP hD hS
    · obtain ⟨k, hk1, hk4, rfl⟩ := z_so_k c_2 c_7
      refine lv_iload_n hx hb dX1_add_10 rfl (lv_at hl 1 rfl) ?_
      refine lv_iconst (v := nI 3) hx hb dX1_add_11 (by decide) ?_
      refine zn_icmp_ne (tgt := 22) hx hb (a := k) (b := 3) (by omega) (by decide) dX1_add_12 (by decide) (fun c_12 => ?_) (fun c_12 => ?_)
      · refine lv_aload_n hx hb dX1_add_22 rfl (lv_at hl 0 rfl) ?_
        refine va_get (D := D) (ci := 1) (v := .int (nI he)) (C := RX1) (T := TX1) (N := 8) hx hb hts in_X1 hown hK hP 0 rfl rfl 0 (by decide) (hts _ q183) (fun _ h9 => h9) rfl dX1_add_23 ?_
        refine lv_bipush (v := nI 24) hx hb dX1_add_26 (by decide) ?_
        refine zn_icmp_ne (tgt := 33) hx hb (a := he) (b := 24) (by omega) (by decide) dX1_add_28 (by decide) (fun c_28 => ?_) (fun c_28 => ?_)
        · refine lv_aload_n hx hb dX1_add_33 rfl (lv_at hl 0 rfl) ?_
          refine lv_aload_n hx hb dX1_add_34 rfl (lv_at hl 0 rfl) ?_
          refine va_get (D := D) (ci := 1) (v := .int (nI K)) (C := RX1) (T := TX1) (N := 8) hx hb hts in_X1 hown hK hP 0 rfl rfl 4 (by decide) (hts _ q187) (fun _ h9 => h9) rfl dX1_add_35 ?_
          refine lv_iload_n hx hb dX1_add_38 rfl (lv_at hl 1 rfl) ?_
          refine lv_iload_n hx hb dX1_add_39 rfl (lv_at hl 2 rfl) ?_
          refine z_calli (As := [.int (nI K), .int (nI k), .int va]) (rest := []) ⟨hx, hb, hml, hown, hts⟩ (zd_find l D cA s.heap.size h he (zn_F nm) es ev (nI K) (la) (pl) (ro) (nI K) (nI k) (va) hhe) (cwV 3 hts (lw_V q231 q233 qs13 q22 q234) rfl rfl rfl (by decide +kernel) ⟨Nat.le_of_ble_eq_true rfl, Nat.le_of_ble_eq_true rfl⟩) (va_recv hK hP (ci := 1) (q0 := 0) rfl rfl) hK hP hD hS hA rfl hl.1 rfl (Nat.le_of_ble_eq_true rfl) dX1_add_40 (Nat.zero_le _) (Nat.zero_le _) (fun r_40 u_40 H locs hw_40 hP hD hS => ?_)
          rcases hw_40 with ⟨j, hj, rfl⟩ | ⟨hj, rfl⟩
          · have hjl := (z_at_spec hj).1
            have hP : va_P D z_cl (z_w1 cA h (nI he) (zn_F nm) es ev (nI K) (la) (pl) (ro)) H := hP
            have hD : va_D A (z_w1 cA h (nI he) (zn_F nm) es ev (nI K) (la) (pl) (ro)) := hD
            refine zn_if_ge (tgt := 68) hx hb (a := j) (by omega) dX1_add_43 (by decide) ?_
            refine lv_iconst (v := (-1)) hx hb dX1_add_68 (by decide) ?_
            exact hret ((-1)) (he, nm, es, ev) _ _ _ _ dX1_add_69 rfl (Or.inr ⟨fun q => by have h9 := q.2.2.2.1; rw [hj] at h9; exact absurd h9 (by simp), rfl, rfl⟩) hP hD hS
          · have hP : va_P D z_cl (z_w1 cA h (nI he) (zn_F nm) es ev (nI K) (la) (pl) (ro)) H := hP
            have hD : va_D A (z_w1 cA h (nI he) (zn_F nm) es ev (nI K) (la) (pl) (ro)) := hD
            refine lv_if_ge (tgt := 68) (x := (-1)) hx hb dX1_add_43 (by decide) (fun c_43 => absurd c_43 (by decide)) (fun c_43 => ?_)
            refine lv_aload_n hx hb dX1_add_46 rfl (lv_at hl 0 rfl) ?_
            refine lv_aload_n hx hb dX1_add_47 rfl (lv_at hl 0 rfl) ?_
            refine va_get (D := D) (ci := 1) (v := .int (nI K)) (C := RX1) (T := TX1) (N := 8) hx hb hts in_X1 hown hK hP 0 rfl rfl 4 (by decide) (hts _ q187) (fun _ h9 => h9) rfl dX1_add_48 ?_
            refine lv_iload_n hx hb dX1_add_51 rfl (lv_at hl 1 rfl) ?_
            refine z_calli (As := [.int (nI K), .int (nI k)]) (rest := []) ⟨hx, hb, hml, hown, hts⟩ (zd_count l D cA H.size h he (zn_F nm) es ev (nI K) (la) (pl) (ro) (nI K) (nI k) hhe) (cwV 2 hts (lw_V q235 q237 qs14 q22 q238) rfl rfl rfl (by decide +kernel) ⟨Nat.le_of_ble_eq_true rfl, Nat.le_of_ble_eq_true rfl⟩) (va_recv hK hP (ci := 1) (q0 := 0) rfl rfl) hK hP hD hS hA rfl hl.1 rfl (Nat.le_of_ble_eq_true rfl) dX1_add_52 (Nat.zero_le _) (Nat.zero_le _) (fun r_52 u_52 H locs hw_52 hP hD hS => ?_)
            have hw_52 : r_52 = nI (z_cnt (zn_F nm) es (nI K) (nI k) he) := hw_52
            subst hw_52
            have hle_52 := z_cnt_le (zn_F nm) es (nI K) (nI k) he
            have hP : va_P D z_cl (z_w1 cA h (nI he) (zn_F nm) es ev (nI K) (la) (pl) (ro)) H := hP
            have hD : va_D A (z_w1 cA h (nI he) (zn_F nm) es ev (nI K) (la) (pl) (ro)) := hD
            refine lv_iload_n hx hb dX1_add_55 rfl (lv_at hl 1 rfl) ?_
            refine lv_iconst (v := nI 2) hx hb dX1_add_56 (by decide) ?_
            refine zn_icmp_gt (tgt := 64) hx hb (a := k) (b := 2) (by omega) (by decide) dX1_add_57 (by decide) (fun c_57 => ?_) (fun c_57 => ?_)
            · refine lv_iconst (v := nI 1) hx hb dX1_add_64 (by decide) ?_
              refine zn_icmp_ne (tgt := 70) hx hb (a := z_cnt (zn_F nm) es (nI K) (nI k) he) (b := 1) (by omega) (by decide) dX1_add_65 (by decide) (fun c_65 => ?_) (fun c_65 => ?_)
              · refine lv_aload_n hx hb dX1_add_70 rfl (lv_at hl 0 rfl) ?_
                refine va_get (D := D) (ci := 1) (v := .ref (h 1)) (C := RX1) (T := TX1) (N := 8) hx hb hts in_X1 hown hK hP 0 rfl rfl 1 (by decide) (hts _ q184) (fun _ h9 => h9) rfl dX1_add_71 ?_
                refine lv_aload_n hx hb dX1_add_74 rfl (lv_at hl 0 rfl) ?_
                refine va_get (D := D) (ci := 1) (v := .int (nI he)) (C := RX1) (T := TX1) (N := 8) hx hb hts in_X1 hown hK hP 0 rfl rfl 0 (by decide) (hts _ q183) (fun _ h9 => h9) rfl dX1_add_75 ?_
                refine lv_aload_n hx hb dX1_add_78 rfl (lv_at hl 0 rfl) ?_
                refine va_get (D := D) (ci := 1) (v := .int (nI K)) (C := RX1) (T := TX1) (N := 8) hx hb hts in_X1 hown hK hP 0 rfl rfl 4 (by decide) (hts _ q187) (fun _ h9 => h9) rfl dX1_add_79 ?_
                refine zn_ast hx hb hK hP hD hS 1 0 rfl rfl (i := he) (x := K) (by omega) (by decide) dX1_add_82 (fun H locs hP hD hS => ?_)
                have hP : va_P D z_cl (z_w1 cA h (nI he) (zn_F (zn_u nm he K)) es ev (nI K) (la) (pl) (ro)) H := hP
                have hD : va_D A (z_w1 cA h (nI he) (zn_F (zn_u nm he K)) es ev (nI K) (la) (pl) (ro)) := hD
                refine lv_aload_n hx hb dX1_add_83 rfl (lv_at hl 0 rfl) ?_
                refine va_get (D := D) (ci := 1) (v := .ref (h 2)) (C := RX1) (T := TX1) (N := 8) hx hb hts in_X1 hown hK hP 0 rfl rfl 2 (by decide) (hts _ q185) (fun _ h9 => h9) rfl dX1_add_84 ?_
                refine lv_aload_n hx hb dX1_add_87 rfl (lv_at hl 0 rfl) ?_
                refine va_get (D := D) (ci := 1) (v := .int (nI he)) (C := RX1) (T := TX1) (N := 8) hx hb hts in_X1 hown hK hP 0 rfl rfl 0 (by decide) (hts _ q183) (fun _ h9 => h9) rfl dX1_add_88 ?_
                refine lv_iload_n hx hb dX1_add_91 rfl (lv_at hl 1 rfl) ?_
                refine zn_ist hx hb hK hP hD hS 2 0 rfl rfl (i := he) (x := nI k) (by omega) (by decide) dX1_add_92 (fun H locs hP hD hS => ?_)
                have hP : va_P D z_cl (z_w1 cA h (nI he) (zn_F (zn_u nm he K)) (upd es he (nI k)) ev (nI K) (la) (pl) (ro)) H := hP
                have hD : va_D A (z_w1 cA h (nI he) (zn_F (zn_u nm he K)) (upd es he (nI k)) ev (nI K) (la) (pl) (ro)) := hD
                refine lv_aload_n hx hb dX1_add_93 rfl (lv_at hl 0 rfl) ?_
                refine va_get (D := D) (ci := 1) (v := .ref (h 3)) (C := RX1) (T := TX1) (N := 8) hx hb hts in_X1 hown hK hP 0 rfl rfl 3 (by decide) (hts _ q186) (fun _ h9 => h9) rfl dX1_add_94 ?_
                refine lv_aload_n hx hb dX1_add_97 rfl (lv_at hl 0 rfl) ?_
                refine va_get (D := D) (ci := 1) (v := .int (nI he)) (C := RX1) (T := TX1) (N := 8) hx hb hts in_X1 hown hK hP 0 rfl rfl 0 (by decide) (hts _ q183) (fun _ h9 => h9) rfl dX1_add_98 ?_
                refine lv_iload_n hx hb dX1_add_101 rfl (lv_at hl 2 rfl) ?_
                refine zn_ist hx hb hK hP hD hS 3 0 rfl rfl (i := he) (x := va) (by omega) (by decide) dX1_add_102 (fun H locs hP hD hS => ?_)
                have hP : va_P D z_cl (z_w1 cA h (nI he) (zn_F (zn_u nm he K)) (upd es he (nI k)) (upd ev he va) (nI K) (la) (pl) (ro)) H := hP
                have hD : va_D A (z_w1 cA h (nI he) (zn_F (zn_u nm he K)) (upd es he (nI k)) (upd ev he va) (nI K) (la) (pl) (ro)) := hD
                refine lv_aload_n hx hb dX1_add_103 rfl (lv_at hl 0 rfl) ?_
                refine lv_dup hx hb dX1_add_104 rfl ?_
                refine va_get (D := D) (ci := 1) (v := .int (nI he)) (C := RX1) (T := TX1) (N := 8) hx hb hts in_X1 hown hK hP 0 rfl rfl 0 (by decide) (hts _ q183) (fun _ h9 => h9) rfl dX1_add_105 ?_
                refine lv_iconst (v := nI 1) hx hb dX1_add_108 (by decide) ?_
                refine zn_iadd hx hb (a := he) (b := 1) dX1_add_109 ?_
                refine va_put (D := D) (ci := 1) (v := .int (nI (he + 1))) (ty := .int) (C := RX1) (T := TX1) (N := 8) hx hb hts in_X1 tyX1 tyX1_ok nmX1 hown hK hP hD hS 0 rfl rfl 0 (by decide) (hts _ q183) (fun _ h9 => h9) rfl (by decide +kernel) rfl rfl (Nat.le_of_ble_eq_true rfl) dX1_add_110 (fun H locs hP hD hS => ?_)
                have hP : va_P D z_cl (z_w1 cA h (nI (he + 1)) (zn_F (zn_u nm he K)) (upd es he (nI k)) (upd ev he va) (nI K) (la) (pl) (ro)) H := hP
                have hD : va_D A (z_w1 cA h (nI (he + 1)) (zn_F (zn_u nm he K)) (upd es he (nI k)) (upd ev he va) (nI K) (la) (pl) (ro)) := hD
                refine lv_aload_n hx hb dX1_add_113 rfl (lv_at hl 0 rfl) ?_
                refine va_get (D := D) (ci := 1) (v := .int (nI (he + 1))) (C := RX1) (T := TX1) (N := 8) hx hb hts in_X1 hown hK hP 0 rfl rfl 0 (by decide) (hts _ q183) (fun _ h9 => h9) rfl dX1_add_114 ?_
                exact hret (nI (he + 1)) (he + 1, zn_u nm he K, upd es he (nI k), upd ev he va) _ _ _ _ dX1_add_117 rfl (Or.inl ⟨⟨z_so_n hk1 hk4, (fun q => absurd ((nI_eq (by omega) (by decide)).mp q) c_12), by omega, hj, z_room_lt hk1 hk4 (hrm K (nI k) (z_so_n hk1 hk4)) (by omega)⟩, rfl, rfl⟩) hP hD hS
              · refine lv_iconst (v := (-1)) hx hb dX1_add_68 (by decide) ?_
                exact hret ((-1)) (he, nm, es, ev) _ _ _ _ dX1_add_69 rfl (Or.inr ⟨fun q => by have h9 := q.2.2.2.2; rw [z_room_k hk4] at h9; split at h9 <;> omega, rfl, rfl⟩) hP hD hS
            · refine lv_iconst (v := nI 3) hx hb dX1_add_60 (by decide) ?_
              refine lv_goto (tgt := 65) hx hb dX1_add_61 (by decide) ?_
              refine zn_icmp_ne (tgt := 70) hx hb (a := z_cnt (zn_F nm) es (nI K) (nI k) he) (b := 3) (by omega) (by decide) dX1_add_65 (by decide) (fun c_65 => ?_) (fun c_65 => ?_)
              · refine lv_aload_n hx hb dX1_add_70 rfl (lv_at hl 0 rfl) ?_
                refine va_get (D := D) (ci := 1) (v := .ref (h 1)) (C := RX1) (T := TX1) (N := 8) hx hb hts in_X1 hown hK hP 0 rfl rfl 1 (by decide) (hts _ q184) (fun _ h9 => h9) rfl dX1_add_71 ?_
                refine lv_aload_n hx hb dX1_add_74 rfl (lv_at hl 0 rfl) ?_
                refine va_get (D := D) (ci := 1) (v := .int (nI he)) (C := RX1) (T := TX1) (N := 8) hx hb hts in_X1 hown hK hP 0 rfl rfl 0 (by decide) (hts _ q183) (fun _ h9 => h9) rfl dX1_add_75 ?_
                refine lv_aload_n hx hb dX1_add_78 rfl (lv_at hl 0 rfl) ?_
                refine va_get (D := D) (ci := 1) (v := .int (nI K)) (C := RX1) (T := TX1) (N := 8) hx hb hts in_X1 hown hK hP 0 rfl rfl 4 (by decide) (hts _ q187) (fun _ h9 => h9) rfl dX1_add_79 ?_
                refine zn_ast hx hb hK hP hD hS 1 0 rfl rfl (i := he) (x := K) (by omega) (by decide) dX1_add_82 (fun H locs hP hD hS => ?_)
                have hP : va_P D z_cl (z_w1 cA h (nI he) (zn_F (zn_u nm he K)) es ev (nI K) (la) (pl) (ro)) H := hP
                have hD : va_D A (z_w1 cA h (nI he) (zn_F (zn_u nm he K)) es ev (nI K) (la) (pl) (ro)) := hD
                refine lv_aload_n hx hb dX1_add_83 rfl (lv_at hl 0 rfl) ?_
                refine va_get (D := D) (ci := 1) (v := .ref (h 2)) (C := RX1) (T := TX1) (N := 8) hx hb hts in_X1 hown hK hP 0 rfl rfl 2 (by decide) (hts _ q185) (fun _ h9 => h9) rfl dX1_add_84 ?_
                refine lv_aload_n hx hb dX1_add_87 rfl (lv_at hl 0 rfl) ?_
                refine va_get (D := D) (ci := 1) (v := .int (nI he)) (C := RX1) (T := TX1) (N := 8) hx hb hts in_X1 hown hK hP 0 rfl rfl 0 (by decide) (hts _ q183) (fun _ h9 => h9) rfl dX1_add_88 ?_
                refine lv_iload_n hx hb dX1_add_91 rfl (lv_at hl 1 rfl) ?_
                refine zn_ist hx hb hK hP hD hS 2 0 rfl rfl (i := he) (x := nI k) (by omega) (by decide) dX1_add_92 (fun H locs hP hD hS => ?_)
                have hP : va_P D z_cl (z_w1 cA h (nI he) (zn_F (zn_u nm he K)) (upd es he (nI k)) ev (nI K) (la) (pl) (ro)) H := hP
                have hD : va_D A (z_w1 cA h (nI he) (zn_F (zn_u nm he K)) (upd es he (nI k)) ev (nI K) (la) (pl) (ro)) := hD
                refine lv_aload_n hx hb dX1_add_93 rfl (lv_at hl 0 rfl) ?_
                refine va_get (D := D) (ci := 1) (v := .ref (h 3)) (C := RX1) (T := TX1) (N := 8) hx hb hts in_X1 hown hK hP 0 rfl rfl 3 (by decide) (hts _ q186) (fun _ h9 => h9) rfl dX1_add_94 ?_
                refine lv_aload_n hx hb dX1_add_97 rfl (lv_at hl 0 rfl) ?_
                refine va_get (D := D) (ci := 1) (v := .int (nI he)) (C := RX1) (T := TX1) (N := 8) hx hb hts in_X1 hown hK hP 0 rfl rfl 0 (by decide) (hts _ q183) (fun _ h9 => h9) rfl dX1_add_98 ?_
                refine lv_iload_n hx hb dX1_add_101 rfl (lv_at hl 2 rfl) ?_
                refine zn_ist hx hb hK hP hD hS 3 0 rfl rfl (i := he) (x := va) (by omega) (by decide) dX1_add_102 (fun H locs hP hD hS => ?_)
                have hP : va_P D z_cl (z_w1 cA h (nI he) (zn_F (zn_u nm he K)) (upd es he (nI k)) (upd ev he va) (nI K) (la) (pl) (ro)) H := hP
                have hD : va_D A (z_w1 cA h (nI he) (zn_F (zn_u nm he K)) (upd es he (nI k)) (upd ev he va) (nI K) (la) (pl) (ro)) := hD
                refine lv_aload_n hx hb dX1_add_103 rfl (lv_at hl 0 rfl) ?_
                refine lv_dup hx hb dX1_add_104 rfl ?_
                refine va_get (D := D) (ci := 1) (v := .int (nI he)) (C := RX1) (T := TX1) (N := 8) hx hb hts in_X1 hown hK hP 0 rfl rfl 0 (by decide) (hts _ q183) (fun _ h9 => h9) rfl dX1_add_105 ?_
                refine lv_iconst (v := nI 1) hx hb dX1_add_108 (by decide) ?_
                refine zn_iadd hx hb (a := he) (b := 1) dX1_add_109 ?_
                refine va_put (D := D) (ci := 1) (v := .int (nI (he + 1))) (ty := .int) (C := RX1) (T := TX1) (N := 8) hx hb hts in_X1 tyX1 tyX1_ok nmX1 hown hK hP hD hS 0 rfl rfl 0 (by decide) (hts _ q183) (fun _ h9 => h9) rfl (by decide +kernel) rfl rfl (Nat.le_of_ble_eq_true rfl) dX1_add_110 (fun H locs hP hD hS => ?_)
                have hP : va_P D z_cl (z_w1 cA h (nI (he + 1)) (zn_F (zn_u nm he K)) (upd es he (nI k)) (upd ev he va) (nI K) (la) (pl) (ro)) H := hP
                have hD : va_D A (z_w1 cA h (nI (he + 1)) (zn_F (zn_u nm he K)) (upd es he (nI k)) (upd ev he va) (nI K) (la) (pl) (ro)) := hD
                refine lv_aload_n hx hb dX1_add_113 rfl (lv_at hl 0 rfl) ?_
                refine va_get (D := D) (ci := 1) (v := .int (nI (he + 1))) (C := RX1) (T := TX1) (N := 8) hx hb hts in_X1 hown hK hP 0 rfl rfl 0 (by decide) (hts _ q183) (fun _ h9 => h9) rfl dX1_add_114 ?_
                exact hret (nI (he + 1)) (he + 1, zn_u nm he K, upd es he (nI k), upd ev he va) _ _ _ _ dX1_add_117 rfl (Or.inl ⟨⟨z_so_n hk1 hk4, (fun q => absurd ((nI_eq (by omega) (by decide)).mp q) c_12), by omega, hj, z_room_lt hk1 hk4 (hrm K (nI k) (z_so_n hk1 hk4)) (by omega)⟩, rfl, rfl⟩) hP hD hS
              · refine lv_iconst (v := (-1)) hx hb dX1_add_68 (by decide) ?_
                exact hret ((-1)) (he, nm, es, ev) _ _ _ _ dX1_add_69 rfl (Or.inr ⟨fun q => by have h9 := q.2.2.2.2; rw [z_room_k hk4] at h9; split at h9 <;> omega, rfl, rfl⟩) hP hD hS
        · refine lv_iconst (v := (-1)) hx hb dX1_add_31 (by decide) ?_
          exact hret ((-1)) (he, nm, es, ev) _ _ _ _ dX1_add_32 rfl (Or.inr ⟨fun q => absurd q.2.2.1 (by omega), rfl, rfl⟩) hP hD hS
      · refine lv_iload_n hx hb dX1_add_15 rfl (lv_at hl 2 rfl) ?_
        refine z_calls (As := [.int va]) (rest := []) ⟨hx, hb, hml, hown, hts⟩ (zd_isName l D cA s.heap.size (z_w1 cA h (nI he) (zn_F nm) es ev (nI K) (la) (pl) (ro)) va) (va_cwS 1 hts (lw_S q228 q229 q22 q230) rfl rfl rfl (by decide +kernel) ⟨Nat.le_of_ble_eq_true rfl, Nat.le_of_ble_eq_true rfl⟩) hK hP hD hS hA rfl hl.1 rfl (Nat.le_of_ble_eq_true rfl) dX1_add_16 (Nat.zero_le _) (Nat.zero_le _) (fun r_16 u_16 H locs hw_16 hP hD hS => ?_)
        rcases hw_16 with ⟨rfl, hi_16⟩ | ⟨rfl, hi_16⟩
        · have hP : va_P D z_cl (z_w1 cA h (nI he) (zn_F nm) es ev (nI K) (la) (pl) (ro)) H := hP
          have hD : va_D A (z_w1 cA h (nI he) (zn_F nm) es ev (nI K) (la) (pl) (ro)) := hD
          refine zn_if_eq (tgt := 31) hx hb (a := 1) (by decide) dX1_add_19 (by decide) (fun c_19 => absurd c_19 (by decide)) (fun c_19 => ?_)
          refine lv_aload_n hx hb dX1_add_22 rfl (lv_at hl 0 rfl) ?_
          refine va_get (D := D) (ci := 1) (v := .int (nI he)) (C := RX1) (T := TX1) (N := 8) hx hb hts in_X1 hown hK hP 0 rfl rfl 0 (by decide) (hts _ q183) (fun _ h9 => h9) rfl dX1_add_23 ?_
          refine lv_bipush (v := nI 24) hx hb dX1_add_26 (by decide) ?_
          refine zn_icmp_ne (tgt := 33) hx hb (a := he) (b := 24) (by omega) (by decide) dX1_add_28 (by decide) (fun c_28 => ?_) (fun c_28 => ?_)
          · refine lv_aload_n hx hb dX1_add_33 rfl (lv_at hl 0 rfl) ?_
            refine lv_aload_n hx hb dX1_add_34 rfl (lv_at hl 0 rfl) ?_
            refine va_get (D := D) (ci := 1) (v := .int (nI K)) (C := RX1) (T := TX1) (N := 8) hx hb hts in_X1 hown hK hP 0 rfl rfl 4 (by decide) (hts _ q187) (fun _ h9 => h9) rfl dX1_add_35 ?_
            refine lv_iload_n hx hb dX1_add_38 rfl (lv_at hl 1 rfl) ?_
            refine lv_iload_n hx hb dX1_add_39 rfl (lv_at hl 2 rfl) ?_
            refine z_calli (As := [.int (nI K), .int (nI k), .int va]) (rest := []) ⟨hx, hb, hml, hown, hts⟩ (zd_find l D cA H.size h he (zn_F nm) es ev (nI K) (la) (pl) (ro) (nI K) (nI k) (va) hhe) (cwV 3 hts (lw_V q231 q233 qs13 q22 q234) rfl rfl rfl (by decide +kernel) ⟨Nat.le_of_ble_eq_true rfl, Nat.le_of_ble_eq_true rfl⟩) (va_recv hK hP (ci := 1) (q0 := 0) rfl rfl) hK hP hD hS hA rfl hl.1 rfl (Nat.le_of_ble_eq_true rfl) dX1_add_40 (Nat.zero_le _) (Nat.zero_le _) (fun r_40 u_40 H locs hw_40 hP hD hS => ?_)
            rcases hw_40 with ⟨j, hj, rfl⟩ | ⟨hj, rfl⟩
            · have hjl := (z_at_spec hj).1
              have hP : va_P D z_cl (z_w1 cA h (nI he) (zn_F nm) es ev (nI K) (la) (pl) (ro)) H := hP
              have hD : va_D A (z_w1 cA h (nI he) (zn_F nm) es ev (nI K) (la) (pl) (ro)) := hD
              refine zn_if_ge (tgt := 68) hx hb (a := j) (by omega) dX1_add_43 (by decide) ?_
              refine lv_iconst (v := (-1)) hx hb dX1_add_68 (by decide) ?_
              exact hret ((-1)) (he, nm, es, ev) _ _ _ _ dX1_add_69 rfl (Or.inr ⟨fun q => by have h9 := q.2.2.2.1; rw [hj] at h9; exact absurd h9 (by simp), rfl, rfl⟩) hP hD hS
            · have hP : va_P D z_cl (z_w1 cA h (nI he) (zn_F nm) es ev (nI K) (la) (pl) (ro)) H := hP
              have hD : va_D A (z_w1 cA h (nI he) (zn_F nm) es ev (nI K) (la) (pl) (ro)) := hD
              refine lv_if_ge (tgt := 68) (x := (-1)) hx hb dX1_add_43 (by decide) (fun c_43 => absurd c_43 (by decide)) (fun c_43 => ?_)
              refine lv_aload_n hx hb dX1_add_46 rfl (lv_at hl 0 rfl) ?_
              refine lv_aload_n hx hb dX1_add_47 rfl (lv_at hl 0 rfl) ?_
              refine va_get (D := D) (ci := 1) (v := .int (nI K)) (C := RX1) (T := TX1) (N := 8) hx hb hts in_X1 hown hK hP 0 rfl rfl 4 (by decide) (hts _ q187) (fun _ h9 => h9) rfl dX1_add_48 ?_
              refine lv_iload_n hx hb dX1_add_51 rfl (lv_at hl 1 rfl) ?_
              refine z_calli (As := [.int (nI K), .int (nI k)]) (rest := []) ⟨hx, hb, hml, hown, hts⟩ (zd_count l D cA H.size h he (zn_F nm) es ev (nI K) (la) (pl) (ro) (nI K) (nI k) hhe) (cwV 2 hts (lw_V q235 q237 qs14 q22 q238) rfl rfl rfl (by decide +kernel) ⟨Nat.le_of_ble_eq_true rfl, Nat.le_of_ble_eq_true rfl⟩) (va_recv hK hP (ci := 1) (q0 := 0) rfl rfl) hK hP hD hS hA rfl hl.1 rfl (Nat.le_of_ble_eq_true rfl) dX1_add_52 (Nat.zero_le _) (Nat.zero_le _) (fun r_52 u_52 H locs hw_52 hP hD hS => ?_)
              have hw_52 : r_52 = nI (z_cnt (zn_F nm) es (nI K) (nI k) he) := hw_52
              subst hw_52
              have hle_52 := z_cnt_le (zn_F nm) es (nI K) (nI k) he
              have hP : va_P D z_cl (z_w1 cA h (nI he) (zn_F nm) es ev (nI K) (la) (pl) (ro)) H := hP
              have hD : va_D A (z_w1 cA h (nI he) (zn_F nm) es ev (nI K) (la) (pl) (ro)) := hD
              refine lv_iload_n hx hb dX1_add_55 rfl (lv_at hl 1 rfl) ?_
              refine lv_iconst (v := nI 2) hx hb dX1_add_56 (by decide) ?_
              refine zn_icmp_gt (tgt := 64) hx hb (a := k) (b := 2) (by omega) (by decide) dX1_add_57 (by decide) (fun c_57 => ?_) (fun c_57 => ?_)
              · refine lv_iconst (v := nI 1) hx hb dX1_add_64 (by decide) ?_
                refine zn_icmp_ne (tgt := 70) hx hb (a := z_cnt (zn_F nm) es (nI K) (nI k) he) (b := 1) (by omega) (by decide) dX1_add_65 (by decide) (fun c_65 => ?_) (fun c_65 => ?_)
                · refine lv_aload_n hx hb dX1_add_70 rfl (lv_at hl 0 rfl) ?_
                  refine va_get (D := D) (ci := 1) (v := .ref (h 1)) (C := RX1) (T := TX1) (N := 8) hx hb hts in_X1 hown hK hP 0 rfl rfl 1 (by decide) (hts _ q184) (fun _ h9 => h9) rfl dX1_add_71 ?_
                  refine lv_aload_n hx hb dX1_add_74 rfl (lv_at hl 0 rfl) ?_
                  refine va_get (D := D) (ci := 1) (v := .int (nI he)) (C := RX1) (T := TX1) (N := 8) hx hb hts in_X1 hown hK hP 0 rfl rfl 0 (by decide) (hts _ q183) (fun _ h9 => h9) rfl dX1_add_75 ?_
                  refine lv_aload_n hx hb dX1_add_78 rfl (lv_at hl 0 rfl) ?_
                  refine va_get (D := D) (ci := 1) (v := .int (nI K)) (C := RX1) (T := TX1) (N := 8) hx hb hts in_X1 hown hK hP 0 rfl rfl 4 (by decide) (hts _ q187) (fun _ h9 => h9) rfl dX1_add_79 ?_
                  refine zn_ast hx hb hK hP hD hS 1 0 rfl rfl (i := he) (x := K) (by omega) (by decide) dX1_add_82 (fun H locs hP hD hS => ?_)
                  have hP : va_P D z_cl (z_w1 cA h (nI he) (zn_F (zn_u nm he K)) es ev (nI K) (la) (pl) (ro)) H := hP
                  have hD : va_D A (z_w1 cA h (nI he) (zn_F (zn_u nm he K)) es ev (nI K) (la) (pl) (ro)) := hD
                  refine lv_aload_n hx hb dX1_add_83 rfl (lv_at hl 0 rfl) ?_
                  refine va_get (D := D) (ci := 1) (v := .ref (h 2)) (C := RX1) (T := TX1) (N := 8) hx hb hts in_X1 hown hK hP 0 rfl rfl 2 (by decide) (hts _ q185) (fun _ h9 => h9) rfl dX1_add_84 ?_
                  refine lv_aload_n hx hb dX1_add_87 rfl (lv_at hl 0 rfl) ?_
                  refine va_get (D := D) (ci := 1) (v := .int (nI he)) (C := RX1) (T := TX1) (N := 8) hx hb hts in_X1 hown hK hP 0 rfl rfl 0 (by decide) (hts _ q183) (fun _ h9 => h9) rfl dX1_add_88 ?_
                  refine lv_iload_n hx hb dX1_add_91 rfl (lv_at hl 1 rfl) ?_
                  refine zn_ist hx hb hK hP hD hS 2 0 rfl rfl (i := he) (x := nI k) (by omega) (by decide) dX1_add_92 (fun H locs hP hD hS => ?_)
                  have hP : va_P D z_cl (z_w1 cA h (nI he) (zn_F (zn_u nm he K)) (upd es he (nI k)) ev (nI K) (la) (pl) (ro)) H := hP
                  have hD : va_D A (z_w1 cA h (nI he) (zn_F (zn_u nm he K)) (upd es he (nI k)) ev (nI K) (la) (pl) (ro)) := hD
                  refine lv_aload_n hx hb dX1_add_93 rfl (lv_at hl 0 rfl) ?_
                  refine va_get (D := D) (ci := 1) (v := .ref (h 3)) (C := RX1) (T := TX1) (N := 8) hx hb hts in_X1 hown hK hP 0 rfl rfl 3 (by decide) (hts _ q186) (fun _ h9 => h9) rfl dX1_add_94 ?_
                  refine lv_aload_n hx hb dX1_add_97 rfl (lv_at hl 0 rfl) ?_
                  refine va_get (D := D) (ci := 1) (v := .int (nI he)) (C := RX1) (T := TX1) (N := 8) hx hb hts in_X1 hown hK hP 0 rfl rfl 0 (by decide) (hts _ q183) (fun _ h9 => h9) rfl dX1_add_98 ?_
                  refine lv_iload_n hx hb dX1_add_101 rfl (lv_at hl 2 rfl) ?_
                  refine zn_ist hx hb hK hP hD hS 3 0 rfl rfl (i := he) (x := va) (by omega) (by decide) dX1_add_102 (fun H locs hP hD hS => ?_)
                  have hP : va_P D z_cl (z_w1 cA h (nI he) (zn_F (zn_u nm he K)) (upd es he (nI k)) (upd ev he va) (nI K) (la) (pl) (ro)) H := hP
                  have hD : va_D A (z_w1 cA h (nI he) (zn_F (zn_u nm he K)) (upd es he (nI k)) (upd ev he va) (nI K) (la) (pl) (ro)) := hD
                  refine lv_aload_n hx hb dX1_add_103 rfl (lv_at hl 0 rfl) ?_
                  refine lv_dup hx hb dX1_add_104 rfl ?_
                  refine va_get (D := D) (ci := 1) (v := .int (nI he)) (C := RX1) (T := TX1) (N := 8) hx hb hts in_X1 hown hK hP 0 rfl rfl 0 (by decide) (hts _ q183) (fun _ h9 => h9) rfl dX1_add_105 ?_
                  refine lv_iconst (v := nI 1) hx hb dX1_add_108 (by decide) ?_
                  refine zn_iadd hx hb (a := he) (b := 1) dX1_add_109 ?_
                  refine va_put (D := D) (ci := 1) (v := .int (nI (he + 1))) (ty := .int) (C := RX1) (T := TX1) (N := 8) hx hb hts in_X1 tyX1 tyX1_ok nmX1 hown hK hP hD hS 0 rfl rfl 0 (by decide) (hts _ q183) (fun _ h9 => h9) rfl (by decide +kernel) rfl rfl (Nat.le_of_ble_eq_true rfl) dX1_add_110 (fun H locs hP hD hS => ?_)
                  have hP : va_P D z_cl (z_w1 cA h (nI (he + 1)) (zn_F (zn_u nm he K)) (upd es he (nI k)) (upd ev he va) (nI K) (la) (pl) (ro)) H := hP
                  have hD : va_D A (z_w1 cA h (nI (he + 1)) (zn_F (zn_u nm he K)) (upd es he (nI k)) (upd ev he va) (nI K) (la) (pl) (ro)) := hD
                  refine lv_aload_n hx hb dX1_add_113 rfl (lv_at hl 0 rfl) ?_
                  refine va_get (D := D) (ci := 1) (v := .int (nI (he + 1))) (C := RX1) (T := TX1) (N := 8) hx hb hts in_X1 hown hK hP 0 rfl rfl 0 (by decide) (hts _ q183) (fun _ h9 => h9) rfl dX1_add_114 ?_
                  exact hret (nI (he + 1)) (he + 1, zn_u nm he K, upd es he (nI k), upd ev he va) _ _ _ _ dX1_add_117 rfl (Or.inl ⟨⟨z_so_n hk1 hk4, (fun _ => hi_16), by omega, hj, z_room_lt hk1 hk4 (hrm K (nI k) (z_so_n hk1 hk4)) (by omega)⟩, rfl, rfl⟩) hP hD hS
                · refine lv_iconst (v := (-1)) hx hb dX1_add_68 (by decide) ?_
                  exact hret ((-1)) (he, nm, es, ev) _ _ _ _ dX1_add_69 rfl (Or.inr ⟨fun q => by have h9 := q.2.2.2.2; rw [z_room_k hk4] at h9; split at h9 <;> omega, rfl, rfl⟩) hP hD hS
              · refine lv_iconst (v := nI 3) hx hb dX1_add_60 (by decide) ?_
                refine lv_goto (tgt := 65) hx hb dX1_add_61 (by decide) ?_
                refine zn_icmp_ne (tgt := 70) hx hb (a := z_cnt (zn_F nm) es (nI K) (nI k) he) (b := 3) (by omega) (by decide) dX1_add_65 (by decide) (fun c_65 => ?_) (fun c_65 => ?_)
                · refine lv_aload_n hx hb dX1_add_70 rfl (lv_at hl 0 rfl) ?_
                  refine va_get (D := D) (ci := 1) (v := .ref (h 1)) (C := RX1) (T := TX1) (N := 8) hx hb hts in_X1 hown hK hP 0 rfl rfl 1 (by decide) (hts _ q184) (fun _ h9 => h9) rfl dX1_add_71 ?_
                  refine lv_aload_n hx hb dX1_add_74 rfl (lv_at hl 0 rfl) ?_
                  refine va_get (D := D) (ci := 1) (v := .int (nI he)) (C := RX1) (T := TX1) (N := 8) hx hb hts in_X1 hown hK hP 0 rfl rfl 0 (by decide) (hts _ q183) (fun _ h9 => h9) rfl dX1_add_75 ?_
                  refine lv_aload_n hx hb dX1_add_78 rfl (lv_at hl 0 rfl) ?_
                  refine va_get (D := D) (ci := 1) (v := .int (nI K)) (C := RX1) (T := TX1) (N := 8) hx hb hts in_X1 hown hK hP 0 rfl rfl 4 (by decide) (hts _ q187) (fun _ h9 => h9) rfl dX1_add_79 ?_
                  refine zn_ast hx hb hK hP hD hS 1 0 rfl rfl (i := he) (x := K) (by omega) (by decide) dX1_add_82 (fun H locs hP hD hS => ?_)
                  have hP : va_P D z_cl (z_w1 cA h (nI he) (zn_F (zn_u nm he K)) es ev (nI K) (la) (pl) (ro)) H := hP
                  have hD : va_D A (z_w1 cA h (nI he) (zn_F (zn_u nm he K)) es ev (nI K) (la) (pl) (ro)) := hD
                  refine lv_aload_n hx hb dX1_add_83 rfl (lv_at hl 0 rfl) ?_
                  refine va_get (D := D) (ci := 1) (v := .ref (h 2)) (C := RX1) (T := TX1) (N := 8) hx hb hts in_X1 hown hK hP 0 rfl rfl 2 (by decide) (hts _ q185) (fun _ h9 => h9) rfl dX1_add_84 ?_
                  refine lv_aload_n hx hb dX1_add_87 rfl (lv_at hl 0 rfl) ?_
                  refine va_get (D := D) (ci := 1) (v := .int (nI he)) (C := RX1) (T := TX1) (N := 8) hx hb hts in_X1 hown hK hP 0 rfl rfl 0 (by decide) (hts _ q183) (fun _ h9 => h9) rfl dX1_add_88 ?_
                  refine lv_iload_n hx hb dX1_add_91 rfl (lv_at hl 1 rfl) ?_
                  refine zn_ist hx hb hK hP hD hS 2 0 rfl rfl (i := he) (x := nI k) (by omega) (by decide) dX1_add_92 (fun H locs hP hD hS => ?_)
                  have hP : va_P D z_cl (z_w1 cA h (nI he) (zn_F (zn_u nm he K)) (upd es he (nI k)) ev (nI K) (la) (pl) (ro)) H := hP
                  have hD : va_D A (z_w1 cA h (nI he) (zn_F (zn_u nm he K)) (upd es he (nI k)) ev (nI K) (la) (pl) (ro)) := hD
                  refine lv_aload_n hx hb dX1_add_93 rfl (lv_at hl 0 rfl) ?_
                  refine va_get (D := D) (ci := 1) (v := .ref (h 3)) (C := RX1) (T := TX1) (N := 8) hx hb hts in_X1 hown hK hP 0 rfl rfl 3 (by decide) (hts _ q186) (fun _ h9 => h9) rfl dX1_add_94 ?_
                  refine lv_aload_n hx hb dX1_add_97 rfl (lv_at hl 0 rfl) ?_
                  refine va_get (D := D) (ci := 1) (v := .int (nI he)) (C := RX1) (T := TX1) (N := 8) hx hb hts in_X1 hown hK hP 0 rfl rfl 0 (by decide) (hts _ q183) (fun _ h9 => h9) rfl dX1_add_98 ?_
                  refine lv_iload_n hx hb dX1_add_101 rfl (lv_at hl 2 rfl) ?_
                  refine zn_ist hx hb hK hP hD hS 3 0 rfl rfl (i := he) (x := va) (by omega) (by decide) dX1_add_102 (fun H locs hP hD hS => ?_)
                  have hP : va_P D z_cl (z_w1 cA h (nI he) (zn_F (zn_u nm he K)) (upd es he (nI k)) (upd ev he va) (nI K) (la) (pl) (ro)) H := hP
                  have hD : va_D A (z_w1 cA h (nI he) (zn_F (zn_u nm he K)) (upd es he (nI k)) (upd ev he va) (nI K) (la) (pl) (ro)) := hD
                  refine lv_aload_n hx hb dX1_add_103 rfl (lv_at hl 0 rfl) ?_
                  refine lv_dup hx hb dX1_add_104 rfl ?_
                  refine va_get (D := D) (ci := 1) (v := .int (nI he)) (C := RX1) (T := TX1) (N := 8) hx hb hts in_X1 hown hK hP 0 rfl rfl 0 (by decide) (hts _ q183) (fun _ h9 => h9) rfl dX1_add_105 ?_
                  refine lv_iconst (v := nI 1) hx hb dX1_add_108 (by decide) ?_
                  refine zn_iadd hx hb (a := he) (b := 1) dX1_add_109 ?_
                  refine va_put (D := D) (ci := 1) (v := .int (nI (he + 1))) (ty := .int) (C := RX1) (T := TX1) (N := 8) hx hb hts in_X1 tyX1 tyX1_ok nmX1 hown hK hP hD hS 0 rfl rfl 0 (by decide) (hts _ q183) (fun _ h9 => h9) rfl (by decide +kernel) rfl rfl (Nat.le_of_ble_eq_true rfl) dX1_add_110 (fun H locs hP hD hS => ?_)
                  have hP : va_P D z_cl (z_w1 cA h (nI (he + 1)) (zn_F (zn_u nm he K)) (upd es he (nI k)) (upd ev he va) (nI K) (la) (pl) (ro)) H := hP
                  have hD : va_D A (z_w1 cA h (nI (he + 1)) (zn_F (zn_u nm he K)) (upd es he (nI k)) (upd ev he va) (nI K) (la) (pl) (ro)) := hD
                  refine lv_aload_n hx hb dX1_add_113 rfl (lv_at hl 0 rfl) ?_
                  refine va_get (D := D) (ci := 1) (v := .int (nI (he + 1))) (C := RX1) (T := TX1) (N := 8) hx hb hts in_X1 hown hK hP 0 rfl rfl 0 (by decide) (hts _ q183) (fun _ h9 => h9) rfl dX1_add_114 ?_
                  exact hret (nI (he + 1)) (he + 1, zn_u nm he K, upd es he (nI k), upd ev he va) _ _ _ _ dX1_add_117 rfl (Or.inl ⟨⟨z_so_n hk1 hk4, (fun _ => hi_16), by omega, hj, z_room_lt hk1 hk4 (hrm K (nI k) (z_so_n hk1 hk4)) (by omega)⟩, rfl, rfl⟩) hP hD hS
                · refine lv_iconst (v := (-1)) hx hb dX1_add_68 (by decide) ?_
                  exact hret ((-1)) (he, nm, es, ev) _ _ _ _ dX1_add_69 rfl (Or.inr ⟨fun q => by have h9 := q.2.2.2.2; rw [z_room_k hk4] at h9; split at h9 <;> omega, rfl, rfl⟩) hP hD hS
          · refine lv_iconst (v := (-1)) hx hb dX1_add_31 (by decide) ?_
            exact hret ((-1)) (he, nm, es, ev) _ _ _ _ dX1_add_32 rfl (Or.inr ⟨fun q => absurd q.2.2.1 (by omega), rfl, rfl⟩) hP hD hS
        · have hP : va_P D z_cl (z_w1 cA h (nI he) (zn_F nm) es ev (nI K) (la) (pl) (ro)) H := hP
          have hD : va_D A (z_w1 cA h (nI he) (zn_F nm) es ev (nI K) (la) (pl) (ro)) := hD
          refine zn_if_eq (tgt := 31) hx hb (a := 0) (by decide) dX1_add_19 (by decide) (fun c_19 => ?_) (fun c_19 => absurd c_19 (by decide))
          refine lv_iconst (v := (-1)) hx hb dX1_add_31 (by decide) ?_
          exact hret ((-1)) (he, nm, es, ev) _ _ _ _ dX1_add_32 rfl (Or.inr ⟨fun q => hi_16 (q.2.1 (by rw [c_12])), rfl, rfl⟩) hP hD hS
set_option maxHeartbeats 4000000 in
/-- remove(sort, value) -/
theorem zd_remove (l : Launch) (D : va_G) (cA : ClassId) (sz : Nat) (h : Nat → Nat) (he : Nat) (nm : Nat → Nat) (es ev : Nat → Int32) (K : Nat) (la pl ro : Int32) (so va : Int32) (hhe : he ≤ 24) : z_Mi (S := Nat × (Nat → Nat) × (Nat → Int32) × (Nat → Int32)) l yX1_remove cX1_remove 4 .int ({ frames := 1, cells := 0, slots := 0, locals := 24 } : Room) D cA sz [.ref (h 0), .int so, .int va] (z_w1 cA h (nI he) (zn_F nm) es ev (nI K) (la) (pl) (ro)) (fun r u => z_rem nm es ev he K so va r u) (fun u => z_w1 cA h (nI u.1) (zn_F u.2.1) u.2.2.1 u.2.2.2 (nI K) (la) (pl) (ro)) := by
  refine z_ofi (by decide) (Nat.le_of_ble_eq_true rfl) ?_
  intro p e s m below meth c A Q hx hb hml hown hts hA hret hK hP hD hS ls hl
  have hown : s.vm.findClass RX1 = some m.cls := hown
  have hl : lv_has ls 4 [(0, .ref (h 0)), (1, .int so), (2, .int va)] := hl
  refine lv_aload_n hx hb dX1_remove_0 rfl (lv_at hl 0 rfl) ?_
  refine lv_aload_n hx hb dX1_remove_1 rfl (lv_at hl 0 rfl) ?_
  refine va_get (D := D) (ci := 1) (v := .int (nI K)) (C := RX1) (T := TX1) (N := 8) hx hb hts in_X1 hown hK hP 0 rfl rfl 4 (by decide) (hts _ q187) (fun _ h9 => h9) rfl dX1_remove_2 ?_
  refine lv_iload_n hx hb dX1_remove_5 rfl (lv_at hl 1 rfl) ?_
  refine lv_iload_n hx hb dX1_remove_6 rfl (lv_at hl 2 rfl) ?_
  refine z_calli (As := [.int (nI K), .int so, .int va]) (rest := []) ⟨hx, hb, hml, hown, hts⟩ (zd_find l D cA s.heap.size h he (zn_F nm) es ev (nI K) (la) (pl) (ro) (nI K) (so) (va) hhe) (cwV 3 hts (lw_V q231 q233 qs13 q22 q234) rfl rfl rfl (by decide +kernel) ⟨Nat.le_of_ble_eq_true rfl, Nat.le_of_ble_eq_true rfl⟩) (va_recv hK hP (ci := 1) (q0 := 0) rfl rfl) hK hP hD hS hA rfl hl.1 rfl (Nat.le_of_ble_eq_true rfl) dX1_remove_7 (Nat.zero_le _) (Nat.zero_le _) (fun r_7 u_7 H locs hw_7 hP hD hS => ?_)
  rcases hw_7 with ⟨j, hj, rfl⟩ | ⟨hj, rfl⟩
  · have hjl := (z_at_spec hj).1
    have hP : va_P D z_cl (z_w1 cA h (nI he) (zn_F nm) es ev (nI K) (la) (pl) (ro)) H := hP
    have hD : va_D A (z_w1 cA h (nI he) (zn_F nm) es ev (nI K) (la) (pl) (ro)) := hD
    refine lv_istore_n (lv' := [(3, .int (nI j)), (0, .ref (h 0)), (1, .int so), (2, .int va)]) hx hb dX1_remove_10 rfl hl (by decide) rfl (fun ls hl => ?_)
    refine lv_iload_n hx hb dX1_remove_11 rfl (lv_at hl 0 rfl) ?_
    refine zn_if_ge (tgt := 17) hx hb (a := j) (by omega) dX1_remove_12 (by decide) ?_
    refine lv_aload_n hx hb dX1_remove_17 rfl (lv_at hl 1 rfl) ?_
    refine lv_dup hx hb dX1_remove_18 rfl ?_
    refine va_get (D := D) (ci := 1) (v := .int (nI he)) (C := RX1) (T := TX1) (N := 8) hx hb hts in_X1 hown hK hP 0 rfl rfl 0 (by decide) (hts _ q183) (fun _ h9 => h9) rfl dX1_remove_19 ?_
    refine lv_iconst (v := nI 1) hx hb dX1_remove_22 (by decide) ?_
    refine zn_isub hx hb (a := he) (b := 1) (by omega) dX1_remove_23 ?_
    refine va_put (D := D) (ci := 1) (v := .int (nI (he - 1))) (ty := .int) (C := RX1) (T := TX1) (N := 8) hx hb hts in_X1 tyX1 tyX1_ok nmX1 hown hK hP hD hS 0 rfl rfl 0 (by decide) (hts _ q183) (fun _ h9 => h9) rfl (by decide +kernel) rfl rfl (Nat.le_of_ble_eq_true rfl) dX1_remove_24 (fun H locs hP hD hS => ?_)
    have hP : va_P D z_cl (z_w1 cA h (nI (he - 1)) (zn_F nm) es ev (nI K) (la) (pl) (ro)) H := hP
    have hD : va_D A (z_w1 cA h (nI (he - 1)) (zn_F nm) es ev (nI K) (la) (pl) (ro)) := hD
    refine lv_aload_n hx hb dX1_remove_27 rfl (lv_at hl 1 rfl) ?_
    refine va_get (D := D) (ci := 1) (v := .ref (h 1)) (C := RX1) (T := TX1) (N := 8) hx hb hts in_X1 hown hK hP 0 rfl rfl 1 (by decide) (hts _ q184) (fun _ h9 => h9) rfl dX1_remove_28 ?_
    refine lv_iload_n hx hb dX1_remove_31 rfl (lv_at hl 0 rfl) ?_
    refine lv_aload_n hx hb dX1_remove_32 rfl (lv_at hl 1 rfl) ?_
    refine va_get (D := D) (ci := 1) (v := .ref (h 1)) (C := RX1) (T := TX1) (N := 8) hx hb hts in_X1 hown hK hP 0 rfl rfl 1 (by decide) (hts _ q184) (fun _ h9 => h9) rfl dX1_remove_33 ?_
    refine lv_aload_n hx hb dX1_remove_36 rfl (lv_at hl 1 rfl) ?_
    refine va_get (D := D) (ci := 1) (v := .int (nI (he - 1))) (C := RX1) (T := TX1) (N := 8) hx hb hts in_X1 hown hK hP 0 rfl rfl 0 (by decide) (hts _ q183) (fun _ h9 => h9) rfl dX1_remove_37 ?_
    refine zn_ald hx hb hK hP 1 0 rfl rfl (i := he - 1) (by omega) (by decide) dX1_remove_40 ?_
    refine zn_ast hx hb hK hP hD hS 1 0 rfl rfl (i := j) (x := nm (he - 1)) (by omega) (by decide) dX1_remove_41 (fun H locs hP hD hS => ?_)
    have hP : va_P D z_cl (z_w1 cA h (nI (he - 1)) (zn_F (zn_u nm j (nm (he - 1)))) es ev (nI K) (la) (pl) (ro)) H := hP
    have hD : va_D A (z_w1 cA h (nI (he - 1)) (zn_F (zn_u nm j (nm (he - 1)))) es ev (nI K) (la) (pl) (ro)) := hD
    refine lv_aload_n hx hb dX1_remove_42 rfl (lv_at hl 1 rfl) ?_
    refine va_get (D := D) (ci := 1) (v := .ref (h 2)) (C := RX1) (T := TX1) (N := 8) hx hb hts in_X1 hown hK hP 0 rfl rfl 2 (by decide) (hts _ q185) (fun _ h9 => h9) rfl dX1_remove_43 ?_
    refine lv_iload_n hx hb dX1_remove_46 rfl (lv_at hl 0 rfl) ?_
    refine lv_aload_n hx hb dX1_remove_47 rfl (lv_at hl 1 rfl) ?_
    refine va_get (D := D) (ci := 1) (v := .ref (h 2)) (C := RX1) (T := TX1) (N := 8) hx hb hts in_X1 hown hK hP 0 rfl rfl 2 (by decide) (hts _ q185) (fun _ h9 => h9) rfl dX1_remove_48 ?_
    refine lv_aload_n hx hb dX1_remove_51 rfl (lv_at hl 1 rfl) ?_
    refine va_get (D := D) (ci := 1) (v := .int (nI (he - 1))) (C := RX1) (T := TX1) (N := 8) hx hb hts in_X1 hown hK hP 0 rfl rfl 0 (by decide) (hts _ q183) (fun _ h9 => h9) rfl dX1_remove_52 ?_
    refine zn_ild hx hb hK hP 2 0 rfl rfl (i := he - 1) (by omega) (by decide) dX1_remove_55 ?_
    refine zn_ist hx hb hK hP hD hS 2 0 rfl rfl (i := j) (x := es (he - 1)) (by omega) (by decide) dX1_remove_56 (fun H locs hP hD hS => ?_)
    have hP : va_P D z_cl (z_w1 cA h (nI (he - 1)) (zn_F (zn_u nm j (nm (he - 1)))) (upd es j (es (he - 1))) ev (nI K) (la) (pl) (ro)) H := hP
    have hD : va_D A (z_w1 cA h (nI (he - 1)) (zn_F (zn_u nm j (nm (he - 1)))) (upd es j (es (he - 1))) ev (nI K) (la) (pl) (ro)) := hD
    refine lv_aload_n hx hb dX1_remove_57 rfl (lv_at hl 1 rfl) ?_
    refine va_get (D := D) (ci := 1) (v := .ref (h 3)) (C := RX1) (T := TX1) (N := 8) hx hb hts in_X1 hown hK hP 0 rfl rfl 3 (by decide) (hts _ q186) (fun _ h9 => h9) rfl dX1_remove_58 ?_
    refine lv_iload_n hx hb dX1_remove_61 rfl (lv_at hl 0 rfl) ?_
    refine lv_aload_n hx hb dX1_remove_62 rfl (lv_at hl 1 rfl) ?_
    refine va_get (D := D) (ci := 1) (v := .ref (h 3)) (C := RX1) (T := TX1) (N := 8) hx hb hts in_X1 hown hK hP 0 rfl rfl 3 (by decide) (hts _ q186) (fun _ h9 => h9) rfl dX1_remove_63 ?_
    refine lv_aload_n hx hb dX1_remove_66 rfl (lv_at hl 1 rfl) ?_
    refine va_get (D := D) (ci := 1) (v := .int (nI (he - 1))) (C := RX1) (T := TX1) (N := 8) hx hb hts in_X1 hown hK hP 0 rfl rfl 0 (by decide) (hts _ q183) (fun _ h9 => h9) rfl dX1_remove_67 ?_
    refine zn_ild hx hb hK hP 3 0 rfl rfl (i := he - 1) (by omega) (by decide) dX1_remove_70 ?_
    refine zn_ist hx hb hK hP hD hS 3 0 rfl rfl (i := j) (x := ev (he - 1)) (by omega) (by decide) dX1_remove_71 (fun H locs hP hD hS => ?_)
    have hP : va_P D z_cl (z_w1 cA h (nI (he - 1)) (zn_F (zn_u nm j (nm (he - 1)))) (upd es j (es (he - 1))) (upd ev j (ev (he - 1))) (nI K) (la) (pl) (ro)) H := hP
    have hD : va_D A (z_w1 cA h (nI (he - 1)) (zn_F (zn_u nm j (nm (he - 1)))) (upd es j (es (he - 1))) (upd ev j (ev (he - 1))) (nI K) (la) (pl) (ro)) := hD
    refine lv_aload_n hx hb dX1_remove_72 rfl (lv_at hl 1 rfl) ?_
    refine va_get (D := D) (ci := 1) (v := .int (nI (he - 1))) (C := RX1) (T := TX1) (N := 8) hx hb hts in_X1 hown hK hP 0 rfl rfl 0 (by decide) (hts _ q183) (fun _ h9 => h9) rfl dX1_remove_73 ?_
    exact hret (nI (he - 1)) (he - 1, zn_u nm j (nm (he - 1)), upd es j (es (he - 1)), upd ev j (ev (he - 1))) _ _ _ _ dX1_remove_76 rfl (Or.inl ⟨j, hj, rfl, rfl⟩) hP hD hS
  · have hP : va_P D z_cl (z_w1 cA h (nI he) (zn_F nm) es ev (nI K) (la) (pl) (ro)) H := hP
    have hD : va_D A (z_w1 cA h (nI he) (zn_F nm) es ev (nI K) (la) (pl) (ro)) := hD
    refine lv_istore_n (lv' := [(3, .int ((-1))), (0, .ref (h 0)), (1, .int so), (2, .int va)]) hx hb dX1_remove_10 rfl hl (by decide) rfl (fun ls hl => ?_)
    refine lv_iload_n hx hb dX1_remove_11 rfl (lv_at hl 0 rfl) ?_
    refine lv_if_ge (tgt := 17) (x := (-1)) hx hb dX1_remove_12 (by decide) (fun c_12 => absurd c_12 (by decide)) (fun c_12 => ?_)
    refine lv_iconst (v := (-1)) hx hb dX1_remove_15 (by decide) ?_
    exact hret ((-1)) (he, nm, es, ev) _ _ _ _ dX1_remove_16 rfl (Or.inr ⟨hj, rfl, rfl⟩) hP hD hS
end
section
/-! ZoneLookup: lookups -/
set_option maxRecDepth 100000
set_option maxHeartbeats 4000000 in
/-- decide(sort, node) -/
theorem zc_decide (l : Launch) (D : va_G) (cA : ClassId) (sz : Nat) (h : Nat → Nat) (kl : Nat) (ky ch nu be : Nat → Nat) (he : Nat) (en : Nat → Nat) (es ev : Nat → Int32) (an ap ao : Int32) (rr al : Nat) (ak : Nat → Nat) (nm : Nat → Nat) (so : Int32) (nd : Nat) (hhe : he ≤ 24) (hal : al ≤ 4) (hak : ∀ j, ak j < 8) (hrr : rr ≤ 5) (hnd : nd < 100) (hlv : z_lv be 0 nd) (hrel : ∀ e, e < he → (zn_F en e = nI nd ↔ zn_F nm e = nI (nu nd))) (hals : ∀ e, e < he → es e = nI 3 → z_isn (ev e)) : z_Mv (S := Int32 × Int32 × Int32 × Nat × (Nat → Nat)) l yX0_decide cX0_decide 4 ({ frames := 1, cells := 0, slots := 0, locals := 27 } : Room) D cA sz [.ref (h 0), .int so, .int (nI nd)] (z_w0 cA h (nI kl) (zn_F ky) (zn_F ch) (zn_F nu) (zn_F be) (nI he) (zn_F en) es ev (an) (ap) (ao) (nI rr) (nI al) (zn_F ak)) (fun u => z_O (z_dec nm es ev he so (nu nd)) rr (z_P ak al) nu be an u) (fun u => z_w0 cA h (nI kl) (zn_F ky) (zn_F ch) (zn_F nu) (zn_F be) (nI he) (zn_F en) es ev (u.1) (u.2.1) (u.2.2.1) (nI rr) (nI u.2.2.2.1) (zn_F u.2.2.2.2)) := by
  refine z_ofv (by decide) (Nat.le_of_ble_eq_true rfl) ?_
  intro p e s m below meth c A Q hx hb hml hown hts hA hret hK hP hD hS ls hl
  have hown : s.vm.findClass RX0 = some m.cls := hown
  have hl : lv_has ls 4 [(0, .ref (h 0)), (1, .int so), (2, .int (nI nd))] := hl
  refine lv_iload_n hx hb dX0_decide_0 rfl (lv_at hl 1 rfl) ?_
  refine lv_iconst (v := nI 3) hx hb dX0_decide_1 (by decide) ?_
  refine lv_icmp_eq (tgt := 52) (x := so) (y := nI 3) hx hb dX0_decide_2 (by decide) (fun c_2 => ?_) (fun c_2 => ?_)
  · have hn3 : ¬ (so ≠ nI 3 ∧ z_cnt (zn_F nm) es (nI (nu nd)) (nI 3) he ≠ 0) := fun q9 => q9.1 c_2
    refine lv_aload_n hx hb dX0_decide_52 rfl (lv_at hl 0 rfl) ?_
    refine lv_iload_n hx hb dX0_decide_53 rfl (lv_at hl 2 rfl) ?_
    refine lv_iload_n hx hb dX0_decide_54 rfl (lv_at hl 1 rfl) ?_
    refine z_calli (As := [.int (nI nd), .int so]) (rest := []) ⟨hx, hb, hml, hown, hts⟩ (zc_count l D cA s.heap.size h (nI kl) (zn_F ky) (zn_F ch) (zn_F nu) (zn_F be) he (zn_F en) es ev (an) (ap) (ao) (nI rr) (nI al) (zn_F ak) (nI nd) (so) hhe) (cwV 2 hts (lw_V q105 q107 qs1 q21 q108) rfl rfl rfl (by decide +kernel) ⟨Nat.le_of_ble_eq_true rfl, Nat.le_of_ble_eq_true rfl⟩) (va_recv hK hP (ci := 0) (q0 := 0) rfl rfl) hK hP hD hS hA rfl hl.1 rfl (Nat.le_of_ble_eq_true rfl) dX0_decide_55 (Nat.zero_le _) (Nat.zero_le _) (fun r_55 u_55 H locs hw_55 hP hD hS => ?_)
    have hw_55 : r_55 = nI (z_cnt (zn_F nm) es (nI (nu nd)) (so) he) := Eq.trans hw_55 (by rw [z_cnt_congr hrel])
    subst hw_55
    have hle_55 := z_cnt_le (zn_F nm) es (nI (nu nd)) (so) he
    have hP : va_P D z_cl (z_w0 cA h (nI kl) (zn_F ky) (zn_F ch) (zn_F nu) (zn_F be) (nI he) (zn_F en) es ev (an) (ap) (ao) (nI rr) (nI al) (zn_F ak)) H := hP
    have hD : va_D A (z_w0 cA h (nI kl) (zn_F ky) (zn_F ch) (zn_F nu) (zn_F be) (nI he) (zn_F en) es ev (an) (ap) (ao) (nI rr) (nI al) (zn_F ak)) := hD
    refine lv_istore_n (lv' := [(3, .int (nI (z_cnt (zn_F nm) es (nI (nu nd)) (so) he))), (0, .ref (h 0)), (1, .int so), (2, .int (nI nd))]) hx hb dX0_decide_58 rfl hl (by decide) rfl (fun ls hl => ?_)
    refine lv_aload_n hx hb dX0_decide_59 rfl (lv_at hl 1 rfl) ?_
    refine lv_iload_n hx hb dX0_decide_60 rfl (lv_at hl 0 rfl) ?_
    refine zn_if_le (tgt := 68) hx hb (a := z_cnt (zn_F nm) es (nI (nu nd)) (so) he) (by omega) dX0_decide_61 (by decide) (fun c_61 => ?_) (fun c_61 => ?_)
    · refine lv_iconst (v := nI 2) hx hb dX0_decide_68 (by decide) ?_
      refine lv_iload_n hx hb dX0_decide_69 rfl (lv_at hl 3 rfl) ?_
      refine z_callv (As := [.int (nI 2), .int (nI nd)]) (rest := []) ⟨hx, hb, hml, hown, hts⟩ (zc_settle l D cA H.size h (nI kl) (zn_F ky) (zn_F ch) nu (zn_F be) he (zn_F en) es ev (an) (ap) (ao) (nI rr) (nI al) (zn_F ak) (nI 2) nd hnd) (cwV 2 hts (lw_V q145 q147 qs8 q21 q148) rfl rfl rfl (by decide +kernel) ⟨Nat.le_of_ble_eq_true rfl, Nat.le_of_ble_eq_true rfl⟩) (va_recv hK hP (ci := 0) (q0 := 0) rfl rfl) hK hP hD hS hA rfl hl.1 rfl (Nat.le_of_ble_eq_true rfl) dX0_decide_70 (Nat.zero_le _) (Nat.zero_le _) (fun u_70 H locs hw_70 hP hD hS => ?_)
      have hP : va_P D z_cl (z_w0 cA h (nI kl) (zn_F ky) (zn_F ch) (zn_F nu) (zn_F be) (nI he) (zn_F en) es ev (nI 2) (nI (nu nd)) (nI nd) (nI rr) (nI al) (zn_F ak)) H := hP
      have hD : va_D A (z_w0 cA h (nI kl) (zn_F ky) (zn_F ch) (zn_F nu) (zn_F be) (nI he) (zn_F en) es ev (nI 2) (nI (nu nd)) (nI nd) (nI rr) (nI al) (zn_F ak)) := hD
      exact hret (nI 2, nI (nu nd), nI nd, al, ak) _ _ _ _ dX0_decide_73 ⟨hak, hal, Or.inr (Or.inr (by rw [z_dec_2 hn3 c_61]; exact ⟨by dsimp only; omega, rfl, rfl, Or.inr ⟨nd, rfl, hnd, hlv, rfl⟩⟩))⟩ hP hD hS
    · refine lv_iconst (v := nI 1) hx hb dX0_decide_64 (by decide) ?_
      refine lv_goto (tgt := 69) hx hb dX0_decide_65 (by decide) ?_
      refine lv_iload_n hx hb dX0_decide_69 rfl (lv_at hl 3 rfl) ?_
      refine z_callv (As := [.int (nI 1), .int (nI nd)]) (rest := []) ⟨hx, hb, hml, hown, hts⟩ (zc_settle l D cA H.size h (nI kl) (zn_F ky) (zn_F ch) nu (zn_F be) he (zn_F en) es ev (an) (ap) (ao) (nI rr) (nI al) (zn_F ak) (nI 1) nd hnd) (cwV 2 hts (lw_V q145 q147 qs8 q21 q148) rfl rfl rfl (by decide +kernel) ⟨Nat.le_of_ble_eq_true rfl, Nat.le_of_ble_eq_true rfl⟩) (va_recv hK hP (ci := 0) (q0 := 0) rfl rfl) hK hP hD hS hA rfl hl.1 rfl (Nat.le_of_ble_eq_true rfl) dX0_decide_70 (Nat.zero_le _) (Nat.zero_le _) (fun u_70 H locs hw_70 hP hD hS => ?_)
      have hP : va_P D z_cl (z_w0 cA h (nI kl) (zn_F ky) (zn_F ch) (zn_F nu) (zn_F be) (nI he) (zn_F en) es ev (nI 1) (nI (nu nd)) (nI nd) (nI rr) (nI al) (zn_F ak)) H := hP
      have hD : va_D A (z_w0 cA h (nI kl) (zn_F ky) (zn_F ch) (zn_F nu) (zn_F be) (nI he) (zn_F en) es ev (nI 1) (nI (nu nd)) (nI nd) (nI rr) (nI al) (zn_F ak)) := hD
      exact hret (nI 1, nI (nu nd), nI nd, al, ak) _ _ _ _ dX0_decide_73 ⟨hak, hal, Or.inr (Or.inr (by rw [z_dec_1 hn3 c_61]; exact ⟨by dsimp only; omega, rfl, rfl, Or.inr ⟨nd, rfl, hnd, hlv, rfl⟩⟩))⟩ hP hD hS
  · refine lv_aload_n hx hb dX0_decide_5 rfl (lv_at hl 0 rfl) ?_
    refine lv_iload_n hx hb dX0_decide_6 rfl (lv_at hl 2 rfl) ?_
    refine lv_iconst (v := nI 3) hx hb dX0_decide_7 (by decide) ?_
    refine z_calli (As := [.int (nI nd), .int (nI 3)]) (rest := []) ⟨hx, hb, hml, hown, hts⟩ (zc_count l D cA s.heap.size h (nI kl) (zn_F ky) (zn_F ch) (zn_F nu) (zn_F be) he (zn_F en) es ev (an) (ap) (ao) (nI rr) (nI al) (zn_F ak) (nI nd) (nI 3) hhe) (cwV 2 hts (lw_V q105 q107 qs1 q21 q108) rfl rfl rfl (by decide +kernel) ⟨Nat.le_of_ble_eq_true rfl, Nat.le_of_ble_eq_true rfl⟩) (va_recv hK hP (ci := 0) (q0 := 0) rfl rfl) hK hP hD hS hA rfl hl.1 rfl (Nat.le_of_ble_eq_true rfl) dX0_decide_8 (Nat.zero_le _) (Nat.zero_le _) (fun r_8 u_8 H locs hw_8 hP hD hS => ?_)
    have hw_8 : r_8 = nI (z_cnt (zn_F nm) es (nI (nu nd)) (nI 3) he) := Eq.trans hw_8 (by rw [z_cnt_congr hrel])
    subst hw_8
    have hle_8 := z_cnt_le (zn_F nm) es (nI (nu nd)) (nI 3) he
    have hP : va_P D z_cl (z_w0 cA h (nI kl) (zn_F ky) (zn_F ch) (zn_F nu) (zn_F be) (nI he) (zn_F en) es ev (an) (ap) (ao) (nI rr) (nI al) (zn_F ak)) H := hP
    have hD : va_D A (z_w0 cA h (nI kl) (zn_F ky) (zn_F ch) (zn_F nu) (zn_F be) (nI he) (zn_F en) es ev (an) (ap) (ao) (nI rr) (nI al) (zn_F ak)) := hD
    refine zn_if_le (tgt := 52) hx hb (a := z_cnt (zn_F nm) es (nI (nu nd)) (nI 3) he) (by omega) dX0_decide_11 (by decide) (fun c_11 => ?_) (fun c_11 => ?_)
    · have hn3 : ¬ (so ≠ nI 3 ∧ z_cnt (zn_F nm) es (nI (nu nd)) (nI 3) he ≠ 0) := fun q9 => q9.2 c_11
      refine lv_aload_n hx hb dX0_decide_52 rfl (lv_at hl 0 rfl) ?_
      refine lv_iload_n hx hb dX0_decide_53 rfl (lv_at hl 2 rfl) ?_
      refine lv_iload_n hx hb dX0_decide_54 rfl (lv_at hl 1 rfl) ?_
      refine z_calli (As := [.int (nI nd), .int so]) (rest := []) ⟨hx, hb, hml, hown, hts⟩ (zc_count l D cA H.size h (nI kl) (zn_F ky) (zn_F ch) (zn_F nu) (zn_F be) he (zn_F en) es ev (an) (ap) (ao) (nI rr) (nI al) (zn_F ak) (nI nd) (so) hhe) (cwV 2 hts (lw_V q105 q107 qs1 q21 q108) rfl rfl rfl (by decide +kernel) ⟨Nat.le_of_ble_eq_true rfl, Nat.le_of_ble_eq_true rfl⟩) (va_recv hK hP (ci := 0) (q0 := 0) rfl rfl) hK hP hD hS hA rfl hl.1 rfl (Nat.le_of_ble_eq_true rfl) dX0_decide_55 (Nat.zero_le _) (Nat.zero_le _) (fun r_55 u_55 H locs hw_55 hP hD hS => ?_)
      have hw_55 : r_55 = nI (z_cnt (zn_F nm) es (nI (nu nd)) (so) he) := Eq.trans hw_55 (by rw [z_cnt_congr hrel])
      subst hw_55
      have hle_55 := z_cnt_le (zn_F nm) es (nI (nu nd)) (so) he
      have hP : va_P D z_cl (z_w0 cA h (nI kl) (zn_F ky) (zn_F ch) (zn_F nu) (zn_F be) (nI he) (zn_F en) es ev (an) (ap) (ao) (nI rr) (nI al) (zn_F ak)) H := hP
      have hD : va_D A (z_w0 cA h (nI kl) (zn_F ky) (zn_F ch) (zn_F nu) (zn_F be) (nI he) (zn_F en) es ev (an) (ap) (ao) (nI rr) (nI al) (zn_F ak)) := hD
      refine lv_istore_n (lv' := [(3, .int (nI (z_cnt (zn_F nm) es (nI (nu nd)) (so) he))), (0, .ref (h 0)), (1, .int so), (2, .int (nI nd))]) hx hb dX0_decide_58 rfl hl (by decide) rfl (fun ls hl => ?_)
      refine lv_aload_n hx hb dX0_decide_59 rfl (lv_at hl 1 rfl) ?_
      refine lv_iload_n hx hb dX0_decide_60 rfl (lv_at hl 0 rfl) ?_
      refine zn_if_le (tgt := 68) hx hb (a := z_cnt (zn_F nm) es (nI (nu nd)) (so) he) (by omega) dX0_decide_61 (by decide) (fun c_61 => ?_) (fun c_61 => ?_)
      · refine lv_iconst (v := nI 2) hx hb dX0_decide_68 (by decide) ?_
        refine lv_iload_n hx hb dX0_decide_69 rfl (lv_at hl 3 rfl) ?_
        refine z_callv (As := [.int (nI 2), .int (nI nd)]) (rest := []) ⟨hx, hb, hml, hown, hts⟩ (zc_settle l D cA H.size h (nI kl) (zn_F ky) (zn_F ch) nu (zn_F be) he (zn_F en) es ev (an) (ap) (ao) (nI rr) (nI al) (zn_F ak) (nI 2) nd hnd) (cwV 2 hts (lw_V q145 q147 qs8 q21 q148) rfl rfl rfl (by decide +kernel) ⟨Nat.le_of_ble_eq_true rfl, Nat.le_of_ble_eq_true rfl⟩) (va_recv hK hP (ci := 0) (q0 := 0) rfl rfl) hK hP hD hS hA rfl hl.1 rfl (Nat.le_of_ble_eq_true rfl) dX0_decide_70 (Nat.zero_le _) (Nat.zero_le _) (fun u_70 H locs hw_70 hP hD hS => ?_)
        have hP : va_P D z_cl (z_w0 cA h (nI kl) (zn_F ky) (zn_F ch) (zn_F nu) (zn_F be) (nI he) (zn_F en) es ev (nI 2) (nI (nu nd)) (nI nd) (nI rr) (nI al) (zn_F ak)) H := hP
        have hD : va_D A (z_w0 cA h (nI kl) (zn_F ky) (zn_F ch) (zn_F nu) (zn_F be) (nI he) (zn_F en) es ev (nI 2) (nI (nu nd)) (nI nd) (nI rr) (nI al) (zn_F ak)) := hD
        exact hret (nI 2, nI (nu nd), nI nd, al, ak) _ _ _ _ dX0_decide_73 ⟨hak, hal, Or.inr (Or.inr (by rw [z_dec_2 hn3 c_61]; exact ⟨by dsimp only; omega, rfl, rfl, Or.inr ⟨nd, rfl, hnd, hlv, rfl⟩⟩))⟩ hP hD hS
      · refine lv_iconst (v := nI 1) hx hb dX0_decide_64 (by decide) ?_
        refine lv_goto (tgt := 69) hx hb dX0_decide_65 (by decide) ?_
        refine lv_iload_n hx hb dX0_decide_69 rfl (lv_at hl 3 rfl) ?_
        refine z_callv (As := [.int (nI 1), .int (nI nd)]) (rest := []) ⟨hx, hb, hml, hown, hts⟩ (zc_settle l D cA H.size h (nI kl) (zn_F ky) (zn_F ch) nu (zn_F be) he (zn_F en) es ev (an) (ap) (ao) (nI rr) (nI al) (zn_F ak) (nI 1) nd hnd) (cwV 2 hts (lw_V q145 q147 qs8 q21 q148) rfl rfl rfl (by decide +kernel) ⟨Nat.le_of_ble_eq_true rfl, Nat.le_of_ble_eq_true rfl⟩) (va_recv hK hP (ci := 0) (q0 := 0) rfl rfl) hK hP hD hS hA rfl hl.1 rfl (Nat.le_of_ble_eq_true rfl) dX0_decide_70 (Nat.zero_le _) (Nat.zero_le _) (fun u_70 H locs hw_70 hP hD hS => ?_)
        have hP : va_P D z_cl (z_w0 cA h (nI kl) (zn_F ky) (zn_F ch) (zn_F nu) (zn_F be) (nI he) (zn_F en) es ev (nI 1) (nI (nu nd)) (nI nd) (nI rr) (nI al) (zn_F ak)) H := hP
        have hD : va_D A (z_w0 cA h (nI kl) (zn_F ky) (zn_F ch) (zn_F nu) (zn_F be) (nI he) (zn_F en) es ev (nI 1) (nI (nu nd)) (nI nd) (nI rr) (nI al) (zn_F ak)) := hD
        exact hret (nI 1, nI (nu nd), nI nd, al, ak) _ _ _ _ dX0_decide_73 ⟨hak, hal, Or.inr (Or.inr (by rw [z_dec_1 hn3 c_61]; exact ⟨by dsimp only; omega, rfl, rfl, Or.inr ⟨nd, rfl, hnd, hlv, rfl⟩⟩))⟩ hP hD hS
    · refine lv_aload_n hx hb dX0_decide_14 rfl (lv_at hl 0 rfl) ?_
      refine va_get (D := D) (ci := 0) (v := .int (nI rr)) (C := RX0) (T := TX0) (N := 15) hx hb hts in_X0 hown hK hP 0 rfl rfl 12 (by decide) (hts _ q43) (fun _ h9 => h9) rfl dX0_decide_15 ?_
      refine lv_iconst (v := nI 5) hx hb dX0_decide_18 (by decide) ?_
      refine zn_icmp_ne (tgt := 38) hx hb (a := rr) (b := 5) (by omega) (by decide) dX0_decide_19 (by decide) (fun c_19 => ?_) (fun c_19 => ?_)
      · refine lv_aload_n hx hb dX0_decide_38 rfl (lv_at hl 0 rfl) ?_
        refine lv_iload_n hx hb dX0_decide_39 rfl (lv_at hl 2 rfl) ?_
        refine lv_iconst (v := nI 3) hx hb dX0_decide_40 (by decide) ?_
        refine lv_iconst (v := nI 0) hx hb dX0_decide_41 (by decide) ?_
        refine z_calli (As := [.int (nI nd), .int (nI 3), .int (nI 0)]) (rest := []) ⟨hx, hb, hml, hown, hts⟩ (zc_ranked l D cA H.size h (nI kl) (zn_F ky) (zn_F ch) (zn_F nu) (zn_F be) he (zn_F en) es ev (an) (ap) (ao) (nI rr) (nI al) (zn_F ak) (nI nd) (nI 3) (nI 0) hhe) (cwV 3 hts (lw_V q157 q159 qs11 q21 q160) rfl rfl rfl (by decide +kernel) ⟨Nat.le_of_ble_eq_true rfl, Nat.le_of_ble_eq_true rfl⟩) (va_recv hK hP (ci := 0) (q0 := 0) rfl rfl) hK hP hD hS hA rfl hl.1 rfl (Nat.le_of_ble_eq_true rfl) dX0_decide_42 (Nat.zero_le _) (Nat.zero_le _) (fun r_42 u_42 H locs hw_42 hP hD hS => ?_)
        obtain ⟨k, hk1, hk2⟩ := z_val_isn (he := he) (es := es) (ev := ev) (k := zn_F nm) (a := nI (nu nd)) hals (nI 0)
        have hw_42 : r_42 = nI k := (Eq.trans hw_42 (z_val_congr hrel)).trans hk1
        subst hw_42
        have hP : va_P D z_cl (z_w0 cA h (nI kl) (zn_F ky) (zn_F ch) (zn_F nu) (zn_F be) (nI he) (zn_F en) es ev (an) (ap) (ao) (nI rr) (nI al) (zn_F ak)) H := hP
        have hD : va_D A (z_w0 cA h (nI kl) (zn_F ky) (zn_F ch) (zn_F nu) (zn_F be) (nI he) (zn_F en) es ev (an) (ap) (ao) (nI rr) (nI al) (zn_F ak)) := hD
        refine lv_istore_n (lv' := [(3, .int (nI k)), (0, .ref (h 0)), (1, .int so), (2, .int (nI nd))]) hx hb dX0_decide_45 rfl hl (by decide) rfl (fun ls hl => ?_)
        refine lv_aload_n hx hb dX0_decide_46 rfl (lv_at hl 1 rfl) ?_
        refine lv_iload_n hx hb dX0_decide_47 rfl (lv_at hl 0 rfl) ?_
        refine z_callv (As := [.int (nI k)]) (rest := []) ⟨hx, hb, hml, hown, hts⟩ (zc_askNumber l D cA H.size h (nI kl) (zn_F ky) (zn_F ch) (zn_F nu) (zn_F be) he (zn_F en) es ev (an) (ap) (ao) (nI rr) al ak k hk2 hak) (cwV 1 hts (lw_V q161 q163 qs12 q21 q164) rfl rfl rfl (by decide +kernel) ⟨Nat.le_of_ble_eq_true rfl, Nat.le_of_ble_eq_true rfl⟩) (va_recv hK hP (ci := 0) (q0 := 0) rfl rfl) hK hP hD hS hA rfl hl.1 rfl (Nat.le_of_ble_eq_true rfl) dX0_decide_48 (Nat.zero_le _) (Nat.zero_le _) (fun u_48 H locs hw_48 hP hD hS => ?_)
        have hP : va_P D z_cl (z_w0 cA h (nI kl) (zn_F ky) (zn_F ch) (zn_F nu) (zn_F be) (nI he) (zn_F en) es ev (an) (ap) (ao) (nI rr) (nI u_48.1) (zn_F u_48.2)) H := hP
        have hD : va_D A (z_w0 cA h (nI kl) (zn_F ky) (zn_F ch) (zn_F nu) (zn_F be) (nI he) (zn_F en) es ev (an) (ap) (ao) (nI rr) (nI u_48.1) (zn_F u_48.2)) := hD
        exact hret (an, ap, ao, u_48.1, u_48.2) _ _ _ _ dX0_decide_51 ⟨hw_48.2.1, hw_48.1, Or.inr (Or.inl ⟨by rw [z_dec_0 c_2 c_11 hk1 (by have := hk2.1; omega)], c_19, rfl, by rw [z_dec_0 c_2 c_11 hk1 (by have := hk2.1; omega)]; exact hw_48.2.2⟩)⟩ hP hD hS
      · refine lv_aload_n hx hb dX0_decide_22 rfl (lv_at hl 0 rfl) ?_
        refine lv_iconst (v := nI 5) hx hb dX0_decide_23 (by decide) ?_
        refine va_put (D := D) (ci := 0) (v := .int (nI 5)) (ty := .int) (C := RX0) (T := TX0) (N := 15) hx hb hts in_X0 tyX0 tyX0_ok nmX0 hown hK hP hD hS 0 rfl rfl 9 (by decide) (hts _ q40) (fun _ h9 => h9) rfl (by decide +kernel) rfl rfl (Nat.le_of_ble_eq_true rfl) dX0_decide_24 (fun H locs hP hD hS => ?_)
        have hP : va_P D z_cl (z_w0 cA h (nI kl) (zn_F ky) (zn_F ch) (zn_F nu) (zn_F be) (nI he) (zn_F en) es ev (nI 5) (ap) (ao) (nI rr) (nI al) (zn_F ak)) H := hP
        have hD : va_D A (z_w0 cA h (nI kl) (zn_F ky) (zn_F ch) (zn_F nu) (zn_F be) (nI he) (zn_F en) es ev (nI 5) (ap) (ao) (nI rr) (nI al) (zn_F ak)) := hD
        refine lv_aload_n hx hb dX0_decide_27 rfl (lv_at hl 0 rfl) ?_
        refine lv_aload_n hx hb dX0_decide_28 rfl (lv_at hl 0 rfl) ?_
        refine z_calli (As := []) (rest := [.ref (h 0)]) ⟨hx, hb, hml, hown, hts⟩ (zc_askedNumber l D cA H.size h (nI kl) (zn_F ky) (zn_F ch) (zn_F nu) (zn_F be) he (zn_F en) es ev (nI 5) (ap) (ao) (nI rr) al ak hal) (cwV 0 hts (lw_V q149 q151 qs9 q21 q152) rfl rfl rfl (by decide +kernel) ⟨Nat.le_of_ble_eq_true rfl, Nat.le_of_ble_eq_true rfl⟩) (va_recv hK hP (ci := 0) (q0 := 0) rfl rfl) hK hP hD hS hA rfl hl.1 rfl (Nat.le_of_ble_eq_true rfl) dX0_decide_29 (Nat.zero_le _) (Nat.zero_le _) (fun r_29 u_29 H locs hw_29 hP hD hS => ?_)
        have hw_29 : r_29 = nI (z_P ak al) := hw_29
        subst hw_29
        have hP : va_P D z_cl (z_w0 cA h (nI kl) (zn_F ky) (zn_F ch) (zn_F nu) (zn_F be) (nI he) (zn_F en) es ev (nI 5) (ap) (ao) (nI rr) (nI al) (zn_F ak)) H := hP
        have hD : va_D A (z_w0 cA h (nI kl) (zn_F ky) (zn_F ch) (zn_F nu) (zn_F be) (nI he) (zn_F en) es ev (nI 5) (ap) (ao) (nI rr) (nI al) (zn_F ak)) := hD
        refine va_put (D := D) (ci := 0) (v := .int (nI (z_P ak al))) (ty := .int) (C := RX0) (T := TX0) (N := 15) hx hb hts in_X0 tyX0 tyX0_ok nmX0 hown hK hP hD hS 0 rfl rfl 10 (by decide) (hts _ q41) (fun _ h9 => h9) rfl (by decide +kernel) rfl rfl (Nat.le_of_ble_eq_true rfl) dX0_decide_32 (fun H locs hP hD hS => ?_)
        have hP : va_P D z_cl (z_w0 cA h (nI kl) (zn_F ky) (zn_F ch) (zn_F nu) (zn_F be) (nI he) (zn_F en) es ev (nI 5) (nI (z_P ak al)) (ao) (nI rr) (nI al) (zn_F ak)) H := hP
        have hD : va_D A (z_w0 cA h (nI kl) (zn_F ky) (zn_F ch) (zn_F nu) (zn_F be) (nI he) (zn_F en) es ev (nI 5) (nI (z_P ak al)) (ao) (nI rr) (nI al) (zn_F ak)) := hD
        refine lv_goto (tgt := 51) hx hb dX0_decide_35 (by decide) ?_
        obtain ⟨k, hk1, hk2⟩ := z_val_isn (he := he) (es := es) (ev := ev) (k := zn_F nm) (a := nI (nu nd)) hals (nI 0)
        exact hret (nI 5, nI (z_P ak al), ao, al, ak) _ _ _ _ dX0_decide_51 ⟨hak, hal, Or.inl ⟨by rw [z_dec_0 c_2 c_11 hk1 (by have := hk2.1; omega)], c_19, rfl, rfl⟩⟩ hP hD hS
set_option maxHeartbeats 4000000 in
/-- walk(sort) -/
theorem zc_walk (l : Launch) (D : va_G) (cA : ClassId) (sz : Nat) (h : Nat → Nat) (kl : Nat) (ky ch nu be : Nat → Nat) (he : Nat) (en : Nat → Nat) (es ev : Nat → Int32) (an ap ao : Int32) (rr al : Nat) (ak : Nat → Nat) (nm : Nat → Nat) (so : Int32) (hhe : he ≤ 24) (hal : al ≤ 4) (hak : ∀ j, ak j < 8) (hrr : rr ≤ 5) (hT : z_T ch nu be (fun p => z_pc nm p he) 0) (hnm : ∀ j, nm j < 6561) (hen : ∀ e, e < he → en e < 100 ∧ z_lv be 0 (en e) ∧ nu (en e) = nm e) (hals : ∀ e, e < he → es e = nI 3 → z_isn (ev e)) : z_Mv (S := Int32 × Int32 × Int32 × Nat × (Nat → Nat)) l yX0_walk cX0_walk 7 ({ frames := 2, cells := 0, slots := 0, locals := 50 } : Room) D cA sz [.ref (h 0), .int so] (z_w0 cA h (nI kl) (zn_F ky) (zn_F ch) (zn_F nu) (zn_F be) (nI he) (zn_F en) es ev (an) (ap) (ao) (nI rr) (nI al) (zn_F ak)) (fun u => z_O (z_rnd nm es ev he so (z_P ak al)) rr (z_P ak al) nu be an u) (fun u => z_w0 cA h (nI kl) (zn_F ky) (zn_F ch) (zn_F nu) (zn_F be) (nI he) (zn_F en) es ev (u.1) (u.2.1) (u.2.2.1) (nI rr) (nI u.2.2.2.1) (zn_F u.2.2.2.2)) := by
  refine z_ofv (by decide) (Nat.le_of_ble_eq_true rfl) ?_
  intro p e s m below meth c A Q hx hb hml hown hts hA hret hK hP hD hS ls hl
  have hown : s.vm.findClass RX0 = some m.cls := hown
  have hl : lv_has ls 7 [(0, .ref (h 0)), (1, .int so)] := hl
  refine lv_iconst (v := nI 0) hx hb dX0_walk_0 (by decide) ?_
  refine lv_istore_n (lv' := [(2, .int (nI 0)), (0, .ref (h 0)), (1, .int so)]) hx hb dX0_walk_1 rfl hl (by decide) rfl (fun ls hl => ?_)
  refine lv_iconst (v := nI 0) hx hb dX0_walk_2 (by decide) ?_
  refine lv_istore_n (lv' := [(3, .int (nI 0)), (2, .int (nI 0)), (0, .ref (h 0)), (1, .int so)]) hx hb dX0_walk_3 rfl hl (by decide) rfl (fun ls hl => ?_)
  refine lv_iconst (v := nI 1) hx hb dX0_walk_4 (by decide) ?_
  refine lv_istore (lv' := [(4, .int (nI 1)), (3, .int (nI 0)), (2, .int (nI 0)), (0, .ref (h 0)), (1, .int so)]) hx hb dX0_walk_5 hl (by decide) rfl (fun ls hl => ?_)
  refine lv_iconst (v := nI 0) hx hb dX0_walk_7 (by decide) ?_
  refine lv_istore (lv' := [(5, .int (nI 0)), (4, .int (nI 1)), (3, .int (nI 0)), (2, .int (nI 0)), (0, .ref (h 0)), (1, .int so)]) hx hb dX0_walk_8 hl (by decide) rfl (fun ls hl => ?_)
  have LA : ∀ (n : Nat) (k : Nat) (d : Nat) (nd : Nat) (o : Nat), (k ≤ al) → (al < k + n) → (nd < 100) → (z_lv be 0 nd) → (nu nd = z_P ak d) → (d ≤ k) → ((o = 1 ∧ d = k) ∨ (o = 0 ∧ k = d + 1 ∧ z_pc nm (z_P ak (d + 1)) he = 0)) → (so ≠ nI 4 → ∀ j, 1 ≤ j → j ≤ d → z_cnt (zn_F nm) es (nI (z_P ak j)) (nI 4) he = 0) → ∀ (H : Heap) (locs : List Loc), va_P D z_cl (z_w0 cA h (nI kl) (zn_F ky) (zn_F ch) (zn_F nu) (zn_F be) (nI he) (zn_F en) es ev (an) (ap) (ao) (nI rr) (nI al) (zn_F ak)) H → va_D A (z_w0 cA h (nI kl) (zn_F ky) (zn_F ch) (zn_F nu) (zn_F be) (nI he) (zn_F en) es ev (an) (ap) (ao) (nI rr) (nI al) (zn_F ak)) → va_S A s.heap H locs → ∀ ls : Array Slot, lv_has ls 7 [(0, .ref (h 0)), (1, .int so), (2, .int (nI nd)), (3, .int (nI d)), (4, .int (nI o)), (5, .int (nI k))] → W p l e ({ frames := 2, cells := 0, slots := 0, locals := 50 } : Room) s m ([.ref (h 0), .int so] : List Value).toArray below meth c H locs 0 0 Q (F0 m 10 ls []) := by
    intro n
    induction n with
    | zero =>
      intro k d nd o hk hn hnd hlv hnu hdk ho hno
      exact absurd hn (by omega)
    | succ n ih_LA =>
      intro k d nd o hk hn hnd hlv hnu hdk ho hno H locs hP hD hS ls hl
      refine lv_iload hx hb dX0_walk_10 (lv_at hl 5 rfl) ?_
      refine lv_aload_n hx hb dX0_walk_12 rfl (lv_at hl 0 rfl) ?_
      refine va_get (D := D) (ci := 0) (v := .int (nI al)) (C := RX0) (T := TX0) (N := 15) hx hb hts in_X0 hown hK hP 0 rfl rfl 13 (by decide) (hts _ q44) (fun _ h9 => h9) rfl dX0_walk_13 ?_
      refine zn_icmp_ge (tgt := 93) hx hb (a := k) (b := al) (by omega) (by omega) dX0_walk_16 (by decide) (fun c_16 => ?_) (fun c_16 => ?_)
      · refine lv_iload_n hx hb dX0_walk_93 rfl (lv_at hl 3 rfl) ?_
        refine lv_aload_n hx hb dX0_walk_94 rfl (lv_at hl 0 rfl) ?_
        refine va_get (D := D) (ci := 0) (v := .int (nI al)) (C := RX0) (T := TX0) (N := 15) hx hb hts in_X0 hown hK hP 0 rfl rfl 13 (by decide) (hts _ q44) (fun _ h9 => h9) rfl dX0_walk_95 ?_
        refine zn_icmp_ge (tgt := 132) hx hb (a := d) (b := al) (by omega) (by omega) dX0_walk_98 (by decide) (fun c_98 => ?_) (fun c_98 => ?_)
        · have hdl : d = al := by omega
          have hno9 : ¬ (so ≠ nI 4 ∧ z_hd nm es he (z_P ak al) 4 ≠ 0) := fun q9 => q9.2 (z_hd_0 hak (fun j h1 h2 => hno q9.1 j h1 (by omega)))
          have ha9 : z_ans nm he (z_P ak al) = some (nu nd) := by rw [hnu, hdl]; exact z_ans_y (by rw [← hdl, ← hnu]; exact z_live_thr hT hnd hlv)
          refine lv_aload_n hx hb dX0_walk_132 rfl (lv_at hl 0 rfl) ?_
          refine lv_iload_n hx hb dX0_walk_133 rfl (lv_at hl 1 rfl) ?_
          refine lv_iload_n hx hb dX0_walk_134 rfl (lv_at hl 2 rfl) ?_
          refine z_callv (As := [.int so, .int (nI nd)]) (rest := []) ⟨hx, hb, hml, hown, hts⟩ (zc_decide l D cA H.size h kl ky ch nu be he en es ev (an) (ap) (ao) rr al ak nm so nd hhe hal hak hrr hnd hlv (z_rel hT hnm hen hnd hlv (by rw [hnu]; exact z_P_lt4 hak (by omega))) hals) (cwV 2 hts (lw_V q153 q155 qs10 q21 q156) rfl rfl rfl (by decide +kernel) ⟨Nat.le_of_ble_eq_true rfl, Nat.le_of_ble_eq_true rfl⟩) (va_recv hK hP (ci := 0) (q0 := 0) rfl rfl) hK hP hD hS hA rfl hl.1 rfl (Nat.le_of_ble_eq_true rfl) dX0_walk_135 (Nat.zero_le _) (Nat.zero_le _) (fun u_135 H locs hw_135 hP hD hS => ?_)
          have hP : va_P D z_cl (z_w0 cA h (nI kl) (zn_F ky) (zn_F ch) (zn_F nu) (zn_F be) (nI he) (zn_F en) es ev (u_135.1) (u_135.2.1) (u_135.2.2.1) (nI rr) (nI u_135.2.2.2.1) (zn_F u_135.2.2.2.2)) H := hP
          have hD : va_D A (z_w0 cA h (nI kl) (zn_F ky) (zn_F ch) (zn_F nu) (zn_F be) (nI he) (zn_F en) es ev (u_135.1) (u_135.2.1) (u_135.2.2.1) (nI rr) (nI u_135.2.2.2.1) (zn_F u_135.2.2.2.2)) := hD
          exact hret u_135 _ _ _ _ dX0_walk_138 (by rw [z_rnd_an hno9 ha9]; exact hw_135) hP hD hS
        · have hz : z_pc nm (z_P ak (d + 1)) he = 0 := by rcases ho with q9 | q9; exact absurd q9.2 (by omega); exact q9.2.2
          obtain ⟨hp1, hp2⟩ := z_ans_P hnm hak hal c_98 (by rw [← hnu]; exact z_live_thr hT hnd hlv) hz
          have hno9 : ¬ (so ≠ nI 4 ∧ z_hd nm es he (z_P ak al) 4 ≠ 0) := fun q9 => q9.2 (z_hd_0 hak (fun j h1 h2 => by rcases Nat.lt_or_ge d j with q8 | q8; exact z_cnt_none hnm (z_P_lt4 hak (by omega)) (z_pc_down hnm hak hz q8); exact hno q9.1 j h1 q8))
          have hchb := hT.2.1 (8 * nd + 7)
          refine lv_aload_n hx hb dX0_walk_101 rfl (lv_at hl 0 rfl) ?_
          refine va_get (D := D) (ci := 0) (v := .ref (h 2)) (C := RX0) (T := TX0) (N := 15) hx hb hts in_X0 hown hK hP 0 rfl rfl 2 (by decide) (hts _ q33) (fun _ h9 => h9) rfl dX0_walk_102 ?_
          refine lv_bipush (v := nI 8) hx hb dX0_walk_105 (by decide) ?_
          refine lv_iload_n hx hb dX0_walk_107 rfl (lv_at hl 2 rfl) ?_
          refine zn_imul hx hb (a := 8) (b := nd) dX0_walk_108 ?_
          refine lv_bipush (v := nI 7) hx hb dX0_walk_109 (by decide) ?_
          refine zn_iadd hx hb (a := 8 * nd) (b := 7) dX0_walk_111 ?_
          refine zn_ald hx hb hK hP 2 0 rfl rfl (i := (8 * nd) + 7) (by omega) (by decide) dX0_walk_112 ?_
          refine lv_istore_n (lv' := [(2, .int (nI (ch ((8 * nd) + 7)))), (0, .ref (h 0)), (1, .int so), (3, .int (nI d)), (4, .int (nI o)), (5, .int (nI k))]) hx hb dX0_walk_113 rfl hl (by decide) rfl (fun ls hl => ?_)
          refine lv_iload_n hx hb dX0_walk_114 rfl (lv_at hl 0 rfl) ?_
          refine zn_if_ne (tgt := 132) hx hb (a := ch ((8 * nd) + 7)) (by omega) dX0_walk_115 (by decide) (fun c_115 => ?_) (fun c_115 => ?_)
          · obtain ⟨hs0, hs3⟩ := hT.2.2.1 nd hnd hlv 7 (by decide) c_115
            have hs1 : ch (8 * nd + 7) < 100 := hT.2.1 _
            have hs2 : z_lv be 0 (ch (8 * nd + 7)) := Or.inr (Or.inr hs0)
            have hs4 : 9 * nu nd + 7 + 1 < 6561 := by have := z_P_lt3 hak (show d < 4 by omega); omega
            have ha9 : z_ans nm he (z_P ak al) = some (nu (ch (8 * nd + 7))) := by rw [hs3, hnu, ← hp2]; exact z_ans_s hp1 (by rw [hp2, ← hnu, ← hs3]; exact z_live_thr hT hs1 hs2)
            refine lv_aload_n hx hb dX0_walk_132 rfl (lv_at hl 1 rfl) ?_
            refine lv_iload_n hx hb dX0_walk_133 rfl (lv_at hl 2 rfl) ?_
            refine lv_iload_n hx hb dX0_walk_134 rfl (lv_at hl 0 rfl) ?_
            refine z_callv (As := [.int so, .int (nI (ch ((8 * nd) + 7)))]) (rest := []) ⟨hx, hb, hml, hown, hts⟩ (zc_decide l D cA H.size h kl ky ch nu be he en es ev (an) (ap) (ao) rr al ak nm so (ch ((8 * nd) + 7)) hhe hal hak hrr hs1 hs2 (z_rel hT hnm hen hs1 hs2 (by rw [hs3]; exact hs4)) hals) (cwV 2 hts (lw_V q153 q155 qs10 q21 q156) rfl rfl rfl (by decide +kernel) ⟨Nat.le_of_ble_eq_true rfl, Nat.le_of_ble_eq_true rfl⟩) (va_recv hK hP (ci := 0) (q0 := 0) rfl rfl) hK hP hD hS hA rfl hl.1 rfl (Nat.le_of_ble_eq_true rfl) dX0_walk_135 (Nat.zero_le _) (Nat.zero_le _) (fun u_135 H locs hw_135 hP hD hS => ?_)
            have hP : va_P D z_cl (z_w0 cA h (nI kl) (zn_F ky) (zn_F ch) (zn_F nu) (zn_F be) (nI he) (zn_F en) es ev (u_135.1) (u_135.2.1) (u_135.2.2.1) (nI rr) (nI u_135.2.2.2.1) (zn_F u_135.2.2.2.2)) H := hP
            have hD : va_D A (z_w0 cA h (nI kl) (zn_F ky) (zn_F ch) (zn_F nu) (zn_F be) (nI he) (zn_F en) es ev (u_135.1) (u_135.2.1) (u_135.2.2.1) (nI rr) (nI u_135.2.2.2.1) (zn_F u_135.2.2.2.2)) := hD
            exact hret u_135 _ _ _ _ dX0_walk_138 (by rw [z_rnd_an hno9 ha9]; exact hw_135) hP hD hS
          · have ha9 : z_ans nm he (z_P ak al) = none := z_ans_n hp1 (fun q9 => by rw [hp2, ← hnu] at q9; rcases q9 with q9 | q9; omega; exact hT.2.2.2.2.2.1 nd hnd hlv 7 (by decide) q9 c_115)
            refine lv_aload_n hx hb dX0_walk_118 rfl (lv_at hl 1 rfl) ?_
            refine lv_iconst (v := nI 3) hx hb dX0_walk_119 (by decide) ?_
            refine va_put (D := D) (ci := 0) (v := .int (nI 3)) (ty := .int) (C := RX0) (T := TX0) (N := 15) hx hb hts in_X0 tyX0 tyX0_ok nmX0 hown hK hP hD hS 0 rfl rfl 9 (by decide) (hts _ q40) (fun _ h9 => h9) rfl (by decide +kernel) rfl rfl (Nat.le_of_ble_eq_true rfl) dX0_walk_120 (fun H locs hP hD hS => ?_)
            have hP : va_P D z_cl (z_w0 cA h (nI kl) (zn_F ky) (zn_F ch) (zn_F nu) (zn_F be) (nI he) (zn_F en) es ev (nI 3) (ap) (ao) (nI rr) (nI al) (zn_F ak)) H := hP
            have hD : va_D A (z_w0 cA h (nI kl) (zn_F ky) (zn_F ch) (zn_F nu) (zn_F be) (nI he) (zn_F en) es ev (nI 3) (ap) (ao) (nI rr) (nI al) (zn_F ak)) := hD
            refine lv_aload_n hx hb dX0_walk_123 rfl (lv_at hl 1 rfl) ?_
            refine lv_aload_n hx hb dX0_walk_124 rfl (lv_at hl 1 rfl) ?_
            refine z_calli (As := []) (rest := [.ref (h 0)]) ⟨hx, hb, hml, hown, hts⟩ (zc_askedNumber l D cA H.size h (nI kl) (zn_F ky) (zn_F ch) (zn_F nu) (zn_F be) he (zn_F en) es ev (nI 3) (ap) (ao) (nI rr) al ak hal) (cwV 0 hts (lw_V q149 q151 qs9 q21 q152) rfl rfl rfl (by decide +kernel) ⟨Nat.le_of_ble_eq_true rfl, Nat.le_of_ble_eq_true rfl⟩) (va_recv hK hP (ci := 0) (q0 := 0) rfl rfl) hK hP hD hS hA rfl hl.1 rfl (Nat.le_of_ble_eq_true rfl) dX0_walk_125 (Nat.zero_le _) (Nat.zero_le _) (fun r_125 u_125 H locs hw_125 hP hD hS => ?_)
            have hw_125 : r_125 = nI (z_P ak al) := hw_125
            subst hw_125
            have hP : va_P D z_cl (z_w0 cA h (nI kl) (zn_F ky) (zn_F ch) (zn_F nu) (zn_F be) (nI he) (zn_F en) es ev (nI 3) (ap) (ao) (nI rr) (nI al) (zn_F ak)) H := hP
            have hD : va_D A (z_w0 cA h (nI kl) (zn_F ky) (zn_F ch) (zn_F nu) (zn_F be) (nI he) (zn_F en) es ev (nI 3) (ap) (ao) (nI rr) (nI al) (zn_F ak)) := hD
            refine va_put (D := D) (ci := 0) (v := .int (nI (z_P ak al))) (ty := .int) (C := RX0) (T := TX0) (N := 15) hx hb hts in_X0 tyX0 tyX0_ok nmX0 hown hK hP hD hS 0 rfl rfl 10 (by decide) (hts _ q41) (fun _ h9 => h9) rfl (by decide +kernel) rfl rfl (Nat.le_of_ble_eq_true rfl) dX0_walk_128 (fun H locs hP hD hS => ?_)
            have hP : va_P D z_cl (z_w0 cA h (nI kl) (zn_F ky) (zn_F ch) (zn_F nu) (zn_F be) (nI he) (zn_F en) es ev (nI 3) (nI (z_P ak al)) (ao) (nI rr) (nI al) (zn_F ak)) H := hP
            have hD : va_D A (z_w0 cA h (nI kl) (zn_F ky) (zn_F ch) (zn_F nu) (zn_F be) (nI he) (zn_F en) es ev (nI 3) (nI (z_P ak al)) (ao) (nI rr) (nI al) (zn_F ak)) := hD
            exact hret (nI 3, nI (z_P ak al), ao, al, ak) _ _ _ _ dX0_walk_131 ⟨hak, hal, Or.inr (Or.inr (by rw [z_rnd_no hno9 ha9]; exact ⟨by dsimp only; omega, rfl, rfl, Or.inl rfl⟩))⟩ hP hD hS
      · refine lv_iload hx hb dX0_walk_19 (lv_at hl 4 rfl) ?_
        refine zn_if_eq (tgt := 93) hx hb (a := o) (by omega) dX0_walk_21 (by decide) (fun c_21 => ?_) (fun c_21 => ?_)
        · refine lv_iload_n hx hb dX0_walk_93 rfl (lv_at hl 3 rfl) ?_
          refine lv_aload_n hx hb dX0_walk_94 rfl (lv_at hl 0 rfl) ?_
          refine va_get (D := D) (ci := 0) (v := .int (nI al)) (C := RX0) (T := TX0) (N := 15) hx hb hts in_X0 hown hK hP 0 rfl rfl 13 (by decide) (hts _ q44) (fun _ h9 => h9) rfl dX0_walk_95 ?_
          refine zn_icmp_ge (tgt := 132) hx hb (a := d) (b := al) (by omega) (by omega) dX0_walk_98 (by decide) (fun c_98 => ?_) (fun c_98 => ?_)
          · have hdl : d = al := by omega
            have hno9 : ¬ (so ≠ nI 4 ∧ z_hd nm es he (z_P ak al) 4 ≠ 0) := fun q9 => q9.2 (z_hd_0 hak (fun j h1 h2 => hno q9.1 j h1 (by omega)))
            have ha9 : z_ans nm he (z_P ak al) = some (nu nd) := by rw [hnu, hdl]; exact z_ans_y (by rw [← hdl, ← hnu]; exact z_live_thr hT hnd hlv)
            refine lv_aload_n hx hb dX0_walk_132 rfl (lv_at hl 0 rfl) ?_
            refine lv_iload_n hx hb dX0_walk_133 rfl (lv_at hl 1 rfl) ?_
            refine lv_iload_n hx hb dX0_walk_134 rfl (lv_at hl 2 rfl) ?_
            refine z_callv (As := [.int so, .int (nI nd)]) (rest := []) ⟨hx, hb, hml, hown, hts⟩ (zc_decide l D cA H.size h kl ky ch nu be he en es ev (an) (ap) (ao) rr al ak nm so nd hhe hal hak hrr hnd hlv (z_rel hT hnm hen hnd hlv (by rw [hnu]; exact z_P_lt4 hak (by omega))) hals) (cwV 2 hts (lw_V q153 q155 qs10 q21 q156) rfl rfl rfl (by decide +kernel) ⟨Nat.le_of_ble_eq_true rfl, Nat.le_of_ble_eq_true rfl⟩) (va_recv hK hP (ci := 0) (q0 := 0) rfl rfl) hK hP hD hS hA rfl hl.1 rfl (Nat.le_of_ble_eq_true rfl) dX0_walk_135 (Nat.zero_le _) (Nat.zero_le _) (fun u_135 H locs hw_135 hP hD hS => ?_)
            have hP : va_P D z_cl (z_w0 cA h (nI kl) (zn_F ky) (zn_F ch) (zn_F nu) (zn_F be) (nI he) (zn_F en) es ev (u_135.1) (u_135.2.1) (u_135.2.2.1) (nI rr) (nI u_135.2.2.2.1) (zn_F u_135.2.2.2.2)) H := hP
            have hD : va_D A (z_w0 cA h (nI kl) (zn_F ky) (zn_F ch) (zn_F nu) (zn_F be) (nI he) (zn_F en) es ev (u_135.1) (u_135.2.1) (u_135.2.2.1) (nI rr) (nI u_135.2.2.2.1) (zn_F u_135.2.2.2.2)) := hD
            exact hret u_135 _ _ _ _ dX0_walk_138 (by rw [z_rnd_an hno9 ha9]; exact hw_135) hP hD hS
          · have hz : z_pc nm (z_P ak (d + 1)) he = 0 := by rcases ho with q9 | q9; exact absurd q9.2 (by omega); exact q9.2.2
            obtain ⟨hp1, hp2⟩ := z_ans_P hnm hak hal c_98 (by rw [← hnu]; exact z_live_thr hT hnd hlv) hz
            have hno9 : ¬ (so ≠ nI 4 ∧ z_hd nm es he (z_P ak al) 4 ≠ 0) := fun q9 => q9.2 (z_hd_0 hak (fun j h1 h2 => by rcases Nat.lt_or_ge d j with q8 | q8; exact z_cnt_none hnm (z_P_lt4 hak (by omega)) (z_pc_down hnm hak hz q8); exact hno q9.1 j h1 q8))
            have hchb := hT.2.1 (8 * nd + 7)
            refine lv_aload_n hx hb dX0_walk_101 rfl (lv_at hl 0 rfl) ?_
            refine va_get (D := D) (ci := 0) (v := .ref (h 2)) (C := RX0) (T := TX0) (N := 15) hx hb hts in_X0 hown hK hP 0 rfl rfl 2 (by decide) (hts _ q33) (fun _ h9 => h9) rfl dX0_walk_102 ?_
            refine lv_bipush (v := nI 8) hx hb dX0_walk_105 (by decide) ?_
            refine lv_iload_n hx hb dX0_walk_107 rfl (lv_at hl 2 rfl) ?_
            refine zn_imul hx hb (a := 8) (b := nd) dX0_walk_108 ?_
            refine lv_bipush (v := nI 7) hx hb dX0_walk_109 (by decide) ?_
            refine zn_iadd hx hb (a := 8 * nd) (b := 7) dX0_walk_111 ?_
            refine zn_ald hx hb hK hP 2 0 rfl rfl (i := (8 * nd) + 7) (by omega) (by decide) dX0_walk_112 ?_
            refine lv_istore_n (lv' := [(2, .int (nI (ch ((8 * nd) + 7)))), (0, .ref (h 0)), (1, .int so), (3, .int (nI d)), (4, .int (nI o)), (5, .int (nI k))]) hx hb dX0_walk_113 rfl hl (by decide) rfl (fun ls hl => ?_)
            refine lv_iload_n hx hb dX0_walk_114 rfl (lv_at hl 0 rfl) ?_
            refine zn_if_ne (tgt := 132) hx hb (a := ch ((8 * nd) + 7)) (by omega) dX0_walk_115 (by decide) (fun c_115 => ?_) (fun c_115 => ?_)
            · obtain ⟨hs0, hs3⟩ := hT.2.2.1 nd hnd hlv 7 (by decide) c_115
              have hs1 : ch (8 * nd + 7) < 100 := hT.2.1 _
              have hs2 : z_lv be 0 (ch (8 * nd + 7)) := Or.inr (Or.inr hs0)
              have hs4 : 9 * nu nd + 7 + 1 < 6561 := by have := z_P_lt3 hak (show d < 4 by omega); omega
              have ha9 : z_ans nm he (z_P ak al) = some (nu (ch (8 * nd + 7))) := by rw [hs3, hnu, ← hp2]; exact z_ans_s hp1 (by rw [hp2, ← hnu, ← hs3]; exact z_live_thr hT hs1 hs2)
              refine lv_aload_n hx hb dX0_walk_132 rfl (lv_at hl 1 rfl) ?_
              refine lv_iload_n hx hb dX0_walk_133 rfl (lv_at hl 2 rfl) ?_
              refine lv_iload_n hx hb dX0_walk_134 rfl (lv_at hl 0 rfl) ?_
              refine z_callv (As := [.int so, .int (nI (ch ((8 * nd) + 7)))]) (rest := []) ⟨hx, hb, hml, hown, hts⟩ (zc_decide l D cA H.size h kl ky ch nu be he en es ev (an) (ap) (ao) rr al ak nm so (ch ((8 * nd) + 7)) hhe hal hak hrr hs1 hs2 (z_rel hT hnm hen hs1 hs2 (by rw [hs3]; exact hs4)) hals) (cwV 2 hts (lw_V q153 q155 qs10 q21 q156) rfl rfl rfl (by decide +kernel) ⟨Nat.le_of_ble_eq_true rfl, Nat.le_of_ble_eq_true rfl⟩) (va_recv hK hP (ci := 0) (q0 := 0) rfl rfl) hK hP hD hS hA rfl hl.1 rfl (Nat.le_of_ble_eq_true rfl) dX0_walk_135 (Nat.zero_le _) (Nat.zero_le _) (fun u_135 H locs hw_135 hP hD hS => ?_)
              have hP : va_P D z_cl (z_w0 cA h (nI kl) (zn_F ky) (zn_F ch) (zn_F nu) (zn_F be) (nI he) (zn_F en) es ev (u_135.1) (u_135.2.1) (u_135.2.2.1) (nI rr) (nI u_135.2.2.2.1) (zn_F u_135.2.2.2.2)) H := hP
              have hD : va_D A (z_w0 cA h (nI kl) (zn_F ky) (zn_F ch) (zn_F nu) (zn_F be) (nI he) (zn_F en) es ev (u_135.1) (u_135.2.1) (u_135.2.2.1) (nI rr) (nI u_135.2.2.2.1) (zn_F u_135.2.2.2.2)) := hD
              exact hret u_135 _ _ _ _ dX0_walk_138 (by rw [z_rnd_an hno9 ha9]; exact hw_135) hP hD hS
            · have ha9 : z_ans nm he (z_P ak al) = none := z_ans_n hp1 (fun q9 => by rw [hp2, ← hnu] at q9; rcases q9 with q9 | q9; omega; exact hT.2.2.2.2.2.1 nd hnd hlv 7 (by decide) q9 c_115)
              refine lv_aload_n hx hb dX0_walk_118 rfl (lv_at hl 1 rfl) ?_
              refine lv_iconst (v := nI 3) hx hb dX0_walk_119 (by decide) ?_
              refine va_put (D := D) (ci := 0) (v := .int (nI 3)) (ty := .int) (C := RX0) (T := TX0) (N := 15) hx hb hts in_X0 tyX0 tyX0_ok nmX0 hown hK hP hD hS 0 rfl rfl 9 (by decide) (hts _ q40) (fun _ h9 => h9) rfl (by decide +kernel) rfl rfl (Nat.le_of_ble_eq_true rfl) dX0_walk_120 (fun H locs hP hD hS => ?_)
              have hP : va_P D z_cl (z_w0 cA h (nI kl) (zn_F ky) (zn_F ch) (zn_F nu) (zn_F be) (nI he) (zn_F en) es ev (nI 3) (ap) (ao) (nI rr) (nI al) (zn_F ak)) H := hP
              have hD : va_D A (z_w0 cA h (nI kl) (zn_F ky) (zn_F ch) (zn_F nu) (zn_F be) (nI he) (zn_F en) es ev (nI 3) (ap) (ao) (nI rr) (nI al) (zn_F ak)) := hD
              refine lv_aload_n hx hb dX0_walk_123 rfl (lv_at hl 1 rfl) ?_
              refine lv_aload_n hx hb dX0_walk_124 rfl (lv_at hl 1 rfl) ?_
              refine z_calli (As := []) (rest := [.ref (h 0)]) ⟨hx, hb, hml, hown, hts⟩ (zc_askedNumber l D cA H.size h (nI kl) (zn_F ky) (zn_F ch) (zn_F nu) (zn_F be) he (zn_F en) es ev (nI 3) (ap) (ao) (nI rr) al ak hal) (cwV 0 hts (lw_V q149 q151 qs9 q21 q152) rfl rfl rfl (by decide +kernel) ⟨Nat.le_of_ble_eq_true rfl, Nat.le_of_ble_eq_true rfl⟩) (va_recv hK hP (ci := 0) (q0 := 0) rfl rfl) hK hP hD hS hA rfl hl.1 rfl (Nat.le_of_ble_eq_true rfl) dX0_walk_125 (Nat.zero_le _) (Nat.zero_le _) (fun r_125 u_125 H locs hw_125 hP hD hS => ?_)
              have hw_125 : r_125 = nI (z_P ak al) := hw_125
              subst hw_125
              have hP : va_P D z_cl (z_w0 cA h (nI kl) (zn_F ky) (zn_F ch) (zn_F nu) (zn_F be) (nI he) (zn_F en) es ev (nI 3) (ap) (ao) (nI rr) (nI al) (zn_F ak)) H := hP
              have hD : va_D A (z_w0 cA h (nI kl) (zn_F ky) (zn_F ch) (zn_F nu) (zn_F be) (nI he) (zn_F en) es ev (nI 3) (ap) (ao) (nI rr) (nI al) (zn_F ak)) := hD
              refine va_put (D := D) (ci := 0) (v := .int (nI (z_P ak al))) (ty := .int) (C := RX0) (T := TX0) (N := 15) hx hb hts in_X0 tyX0 tyX0_ok nmX0 hown hK hP hD hS 0 rfl rfl 10 (by decide) (hts _ q41) (fun _ h9 => h9) rfl (by decide +kernel) rfl rfl (Nat.le_of_ble_eq_true rfl) dX0_walk_128 (fun H locs hP hD hS => ?_)
              have hP : va_P D z_cl (z_w0 cA h (nI kl) (zn_F ky) (zn_F ch) (zn_F nu) (zn_F be) (nI he) (zn_F en) es ev (nI 3) (nI (z_P ak al)) (ao) (nI rr) (nI al) (zn_F ak)) H := hP
              have hD : va_D A (z_w0 cA h (nI kl) (zn_F ky) (zn_F ch) (zn_F nu) (zn_F be) (nI he) (zn_F en) es ev (nI 3) (nI (z_P ak al)) (ao) (nI rr) (nI al) (zn_F ak)) := hD
              exact hret (nI 3, nI (z_P ak al), ao, al, ak) _ _ _ _ dX0_walk_131 ⟨hak, hal, Or.inr (Or.inr (by rw [z_rnd_no hno9 ha9]; exact ⟨by dsimp only; omega, rfl, rfl, Or.inl rfl⟩))⟩ hP hD hS
        · have hdk2 : d = k := by rcases ho with q9 | q9; exact q9.2; exact absurd q9.1 c_21
          have hakk := hak k
          have hchb := hT.2.1 (8 * nd + ak k)
          refine lv_aload_n hx hb dX0_walk_24 rfl (lv_at hl 0 rfl) ?_
          refine va_get (D := D) (ci := 0) (v := .ref (h 2)) (C := RX0) (T := TX0) (N := 15) hx hb hts in_X0 hown hK hP 0 rfl rfl 2 (by decide) (hts _ q33) (fun _ h9 => h9) rfl dX0_walk_25 ?_
          refine lv_bipush (v := nI 8) hx hb dX0_walk_28 (by decide) ?_
          refine lv_iload_n hx hb dX0_walk_30 rfl (lv_at hl 2 rfl) ?_
          refine zn_imul hx hb (a := 8) (b := nd) dX0_walk_31 ?_
          refine lv_aload_n hx hb dX0_walk_32 rfl (lv_at hl 0 rfl) ?_
          refine va_get (D := D) (ci := 0) (v := .ref (h 8)) (C := RX0) (T := TX0) (N := 15) hx hb hts in_X0 hown hK hP 0 rfl rfl 14 (by decide) (hts _ q45) (fun _ h9 => h9) rfl dX0_walk_33 ?_
          refine lv_iload hx hb dX0_walk_36 (lv_at hl 5 rfl) ?_
          refine zn_ald hx hb hK hP 8 0 rfl rfl (i := k) (by omega) (by decide) dX0_walk_38 ?_
          refine zn_iadd hx hb (a := 8 * nd) (b := ak k) dX0_walk_39 ?_
          refine zn_ald hx hb hK hP 2 0 rfl rfl (i := (8 * nd) + (ak k)) (by omega) (by decide) dX0_walk_40 ?_
          refine lv_istore (lv' := [(6, .int (nI (ch ((8 * nd) + (ak k))))), (0, .ref (h 0)), (1, .int so), (2, .int (nI nd)), (3, .int (nI d)), (4, .int (nI o)), (5, .int (nI k))]) hx hb dX0_walk_41 hl (by decide) rfl (fun ls hl => ?_)
          refine lv_iload hx hb dX0_walk_43 (lv_at hl 0 rfl) ?_
          refine zn_if_le (tgt := 52) hx hb (a := ch ((8 * nd) + (ak k))) (by omega) dX0_walk_45 (by decide) (fun c_45 => ?_) (fun c_45 => ?_)
          · refine lv_iconst (v := nI 0) hx hb dX0_walk_52 (by decide) ?_
            refine lv_istore (lv' := [(4, .int (nI 0)), (6, .int (nI (ch ((8 * nd) + (ak k))))), (0, .ref (h 0)), (1, .int so), (2, .int (nI nd)), (3, .int (nI d)), (5, .int (nI k))]) hx hb dX0_walk_53 hl (by decide) rfl (fun ls hl => ?_)
            refine lv_iload hx hb dX0_walk_55 (lv_at hl 0 rfl) ?_
            refine zn_if_eq (tgt := 87) hx hb (a := 0) (by decide) dX0_walk_57 (by decide) (fun c_57 => ?_) (fun c_57 => absurd c_57 (by decide))
            refine lv_iinc (v := nI (k + 1)) (lv' := [(5, .int (nI (k + 1))), (4, .int (nI 0)), (6, .int (nI (ch ((8 * nd) + (ak k))))), (0, .ref (h 0)), (1, .int so), (2, .int (nI nd)), (3, .int (nI d))]) hx hb dX0_walk_87 hl (k := 6) rfl (nI_add k 1) (by decide) rfl (fun ls hl => ?_)
            refine lv_goto (tgt := 10) hx hb dX0_walk_90 (by decide) ?_
            exact ih_LA (k + 1) d nd 0 (by omega) (by omega) hnd hlv hnu (by omega) (Or.inr ⟨rfl, by omega, z_step_n hT hak hnd hlv hnu hdk2 c_45⟩) hno _ _ hP hD hS ls (lv_sub hl [3, 4, 5, 6, 1, 0] rfl)
          · refine lv_iconst (v := nI 1) hx hb dX0_walk_48 (by decide) ?_
            refine lv_goto (tgt := 53) hx hb dX0_walk_49 (by decide) ?_
            refine lv_istore (lv' := [(4, .int (nI 1)), (6, .int (nI (ch ((8 * nd) + (ak k))))), (0, .ref (h 0)), (1, .int so), (2, .int (nI nd)), (3, .int (nI d)), (5, .int (nI k))]) hx hb dX0_walk_53 hl (by decide) rfl (fun ls hl => ?_)
            refine lv_iload hx hb dX0_walk_55 (lv_at hl 0 rfl) ?_
            refine zn_if_eq (tgt := 87) hx hb (a := 1) (by decide) dX0_walk_57 (by decide) (fun c_57 => absurd c_57 (by decide)) (fun c_57 => ?_)
            obtain ⟨hy1, hy2, hy3⟩ := z_step_y hT hak hnd hlv hnu hdk2 c_45
            have hy4 : nu (ch (8 * nd + ak k)) < 6561 := by rw [hy3]; exact z_P_lt4 hak (by omega)
            refine lv_iload hx hb dX0_walk_60 (lv_at hl 1 rfl) ?_
            refine lv_istore_n (lv' := [(2, .int (nI (ch ((8 * nd) + (ak k))))), (4, .int (nI 1)), (6, .int (nI (ch ((8 * nd) + (ak k))))), (0, .ref (h 0)), (1, .int so), (3, .int (nI d)), (5, .int (nI k))]) hx hb dX0_walk_62 rfl hl (by decide) rfl (fun ls hl => ?_)
            refine lv_iinc (v := nI (d + 1)) (lv' := [(3, .int (nI (d + 1))), (2, .int (nI (ch ((8 * nd) + (ak k))))), (4, .int (nI 1)), (6, .int (nI (ch ((8 * nd) + (ak k))))), (0, .ref (h 0)), (1, .int so), (5, .int (nI k))]) hx hb dX0_walk_63 hl (k := 5) rfl (nI_add d 1) (by decide) rfl (fun ls hl => ?_)
            refine lv_iload_n hx hb dX0_walk_66 rfl (lv_at hl 5 rfl) ?_
            refine lv_iconst (v := nI 4) hx hb dX0_walk_67 (by decide) ?_
            refine lv_icmp_eq (tgt := 87) (x := so) (y := nI 4) hx hb dX0_walk_68 (by decide) (fun c_68 => ?_) (fun c_68 => ?_)
            · refine lv_iinc (v := nI (k + 1)) (lv' := [(5, .int (nI (k + 1))), (3, .int (nI (d + 1))), (2, .int (nI (ch ((8 * nd) + (ak k))))), (4, .int (nI 1)), (6, .int (nI (ch ((8 * nd) + (ak k))))), (0, .ref (h 0)), (1, .int so)]) hx hb dX0_walk_87 hl (k := 6) rfl (nI_add k 1) (by decide) rfl (fun ls hl => ?_)
              refine lv_goto (tgt := 10) hx hb dX0_walk_90 (by decide) ?_
              exact ih_LA (k + 1) (d + 1) (ch (8 * nd + ak k)) 1 (by omega) (by omega) hy1 hy2 hy3 (by omega) (Or.inl ⟨rfl, by omega⟩) (fun q9 => absurd c_68 q9) _ _ hP hD hS ls (lv_sub hl [5, 6, 2, 1, 3, 0] rfl)
            · refine lv_aload_n hx hb dX0_walk_71 rfl (lv_at hl 4 rfl) ?_
              refine lv_iload_n hx hb dX0_walk_72 rfl (lv_at hl 1 rfl) ?_
              refine lv_iconst (v := nI 4) hx hb dX0_walk_73 (by decide) ?_
              refine z_calli (As := [.int (nI (ch ((8 * nd) + (ak k)))), .int (nI 4)]) (rest := []) ⟨hx, hb, hml, hown, hts⟩ (zc_count l D cA H.size h (nI kl) (zn_F ky) (zn_F ch) (zn_F nu) (zn_F be) he (zn_F en) es ev (an) (ap) (ao) (nI rr) (nI al) (zn_F ak) (nI (ch ((8 * nd) + (ak k)))) (nI 4) hhe) (cwV 2 hts (lw_V q105 q107 qs1 q21 q108) rfl rfl rfl (by decide +kernel) ⟨Nat.le_of_ble_eq_true rfl, Nat.le_of_ble_eq_true rfl⟩) (va_recv hK hP (ci := 0) (q0 := 0) rfl rfl) hK hP hD hS hA rfl hl.1 rfl (Nat.le_of_ble_eq_true rfl) dX0_walk_74 (Nat.zero_le _) (Nat.zero_le _) (fun r_74 u_74 H locs hw_74 hP hD hS => ?_)
              have hw_74 : r_74 = nI (z_cnt (zn_F nm) es (nI (z_P ak (d + 1))) (nI 4) he) := Eq.trans hw_74 (by rw [z_cnt_congr (z_rel hT hnm hen hy1 hy2 hy4), hy3])
              subst hw_74
              have hle_74 := z_cnt_le (zn_F nm) es (nI (z_P ak (d + 1))) (nI 4) he
              have hP : va_P D z_cl (z_w0 cA h (nI kl) (zn_F ky) (zn_F ch) (zn_F nu) (zn_F be) (nI he) (zn_F en) es ev (an) (ap) (ao) (nI rr) (nI al) (zn_F ak)) H := hP
              have hD : va_D A (z_w0 cA h (nI kl) (zn_F ky) (zn_F ch) (zn_F nu) (zn_F be) (nI he) (zn_F en) es ev (an) (ap) (ao) (nI rr) (nI al) (zn_F ak)) := hD
              refine zn_if_le (tgt := 87) hx hb (a := z_cnt (zn_F nm) es (nI (z_P ak (d + 1))) (nI 4) he) (by omega) dX0_walk_77 (by decide) (fun c_77 => ?_) (fun c_77 => ?_)
              · refine lv_iinc (v := nI (k + 1)) (lv' := [(5, .int (nI (k + 1))), (3, .int (nI (d + 1))), (2, .int (nI (ch ((8 * nd) + (ak k))))), (4, .int (nI 1)), (6, .int (nI (ch ((8 * nd) + (ak k))))), (0, .ref (h 0)), (1, .int so)]) hx hb dX0_walk_87 hl (k := 6) rfl (nI_add k 1) (by decide) rfl (fun ls hl => ?_)
                refine lv_goto (tgt := 10) hx hb dX0_walk_90 (by decide) ?_
                exact ih_LA (k + 1) (d + 1) (ch (8 * nd + ak k)) 1 (by omega) (by omega) hy1 hy2 hy3 (by omega) (Or.inl ⟨rfl, by omega⟩) (fun q9 j h1 h2 => by rcases Nat.lt_or_ge d j with q8 | q8; rw [show j = d + 1 by omega]; exact c_77; exact hno q9 j h1 q8) _ _ hP hD hS ls (lv_sub hl [5, 6, 2, 1, 3, 0] rfl)
              · refine lv_aload_n hx hb dX0_walk_80 rfl (lv_at hl 4 rfl) ?_
                refine lv_iconst (v := nI 4) hx hb dX0_walk_81 (by decide) ?_
                refine lv_iload_n hx hb dX0_walk_82 rfl (lv_at hl 1 rfl) ?_
                refine z_callv (As := [.int (nI 4), .int (nI (ch ((8 * nd) + (ak k))))]) (rest := []) ⟨hx, hb, hml, hown, hts⟩ (zc_settle l D cA H.size h (nI kl) (zn_F ky) (zn_F ch) nu (zn_F be) he (zn_F en) es ev (an) (ap) (ao) (nI rr) (nI al) (zn_F ak) (nI 4) (ch ((8 * nd) + (ak k))) hy1) (cwV 2 hts (lw_V q145 q147 qs8 q21 q148) rfl rfl rfl (by decide +kernel) ⟨Nat.le_of_ble_eq_true rfl, Nat.le_of_ble_eq_true rfl⟩) (va_recv hK hP (ci := 0) (q0 := 0) rfl rfl) hK hP hD hS hA rfl hl.1 rfl (Nat.le_of_ble_eq_true rfl) dX0_walk_83 (Nat.zero_le _) (Nat.zero_le _) (fun u_83 H locs hw_83 hP hD hS => ?_)
                have hP : va_P D z_cl (z_w0 cA h (nI kl) (zn_F ky) (zn_F ch) (zn_F nu) (zn_F be) (nI he) (zn_F en) es ev (nI 4) (nI (nu (ch ((8 * nd) + (ak k))))) (nI (ch ((8 * nd) + (ak k)))) (nI rr) (nI al) (zn_F ak)) H := hP
                have hD : va_D A (z_w0 cA h (nI kl) (zn_F ky) (zn_F ch) (zn_F nu) (zn_F be) (nI he) (zn_F en) es ev (nI 4) (nI (nu (ch ((8 * nd) + (ak k))))) (nI (ch ((8 * nd) + (ak k)))) (nI rr) (nI al) (zn_F ak)) := hD
                exact hret (nI 4, nI (nu (ch (8 * nd + ak k))), nI (ch (8 * nd + ak k)), al, ak) _ _ _ _ dX0_walk_86 ⟨hak, hal, Or.inr (Or.inr (by rw [z_rnd_hd c_68 (by rw [z_hd_P hak hal (show d < al by omega) (hno c_68) c_77]; exact z_P_ne (by omega)), z_hd_P hak hal (show d < al by omega) (hno c_68) c_77]; exact ⟨by dsimp only; omega, rfl, by rw [hy3], Or.inr ⟨_, rfl, hy1, hy2, hy3⟩⟩))⟩ hP hD hS
  exact LA (al + 1) 0 0 0 1 (Nat.zero_le _) (by omega) (by decide) (Or.inl rfl) hT.1 (Nat.le_refl _) (Or.inl ⟨rfl, rfl⟩) (fun _ j h1 h2 => absurd h1 (by omega)) _ _ hP hD hS ls (lv_sub hl [4, 5, 3, 2, 1, 0] rfl)
set_option maxHeartbeats 4000000 in
/-- lookUp(sort) -/
theorem zc_lookUp (l : Launch) (D : va_G) (cA : ClassId) (sz : Nat) (h : Nat → Nat) (kl : Nat) (ky ch nu be : Nat → Nat) (he : Nat) (en : Nat → Nat) (es ev : Nat → Int32) (an ap ao ar : Int32) (al : Nat) (ak : Nat → Nat) (nm : Nat → Nat) (so : Int32) (hhe : he ≤ 24) (hkl : kl ≤ 4) (hky : ∀ j, ky j < 8) (hak : ∀ j, ak j < 8) (hT : z_T ch nu be (fun p => z_pc nm p he) 0) (hnm : ∀ j, nm j < 6561) (hen : ∀ e, e < he → en e < 100 ∧ z_lv be 0 (en e) ∧ nu (en e) = nm e) (hals : ∀ e, e < he → es e = nI 3 → z_isn (ev e)) : z_Mv (S := Int32 × Int32 × Int32 × Int32 × Nat × (Nat → Nat)) l yX0_lookUp cX0_lookUp 3 ({ frames := 3, cells := 0, slots := 0, locals := 76 } : Room) D cA sz [.ref (h 0), .int so] (z_w0 cA h (nI kl) (zn_F ky) (zn_F ch) (zn_F nu) (zn_F be) (nI he) (zn_F en) es ev (an) (ap) (ao) (ar) (nI al) (zn_F ak)) (fun u => z_D (z_lk nm es ev he so 5 (z_P ky kl) 1) nu be u) (fun u => z_w0 cA h (nI kl) (zn_F ky) (zn_F ch) (zn_F nu) (zn_F be) (nI he) (zn_F en) es ev (u.1) (u.2.1) (u.2.2.1) (u.2.2.2.1) (nI u.2.2.2.2.1) (zn_F u.2.2.2.2.2)) := by
  refine z_ofv (by decide) (Nat.le_of_ble_eq_true rfl) ?_
  intro p e s m below meth c A Q hx hb hml hown hts hA hret hK hP hD hS ls hl
  have hown : s.vm.findClass RX0 = some m.cls := hown
  have hl : lv_has ls 3 [(0, .ref (h 0)), (1, .int so)] := hl
  refine lv_aload_n hx hb dX0_lookUp_0 rfl (lv_at hl 0 rfl) ?_
  refine lv_aload_n hx hb dX0_lookUp_1 rfl (lv_at hl 0 rfl) ?_
  refine va_get (D := D) (ci := 0) (v := .int (nI kl)) (C := RX0) (T := TX0) (N := 15) hx hb hts in_X0 hown hK hP 0 rfl rfl 0 (by decide) (hts _ q31) (fun _ h9 => h9) rfl dX0_lookUp_2 ?_
  refine va_put (D := D) (ci := 0) (v := .int (nI kl)) (ty := .int) (C := RX0) (T := TX0) (N := 15) hx hb hts in_X0 tyX0 tyX0_ok nmX0 hown hK hP hD hS 0 rfl rfl 13 (by decide) (hts _ q44) (fun _ h9 => h9) rfl (by decide +kernel) rfl rfl (Nat.le_of_ble_eq_true rfl) dX0_lookUp_5 (fun H locs hP hD hS => ?_)
  have hP : va_P D z_cl (z_w0 cA h (nI kl) (zn_F ky) (zn_F ch) (zn_F nu) (zn_F be) (nI he) (zn_F en) es ev (an) (ap) (ao) (ar) (nI kl) (zn_F ak)) H := hP
  have hD : va_D A (z_w0 cA h (nI kl) (zn_F ky) (zn_F ch) (zn_F nu) (zn_F be) (nI he) (zn_F en) es ev (an) (ap) (ao) (ar) (nI kl) (zn_F ak)) := hD
  refine lv_iconst (v := nI 0) hx hb dX0_lookUp_8 (by decide) ?_
  refine lv_istore_n (lv' := [(2, .int (nI 0)), (0, .ref (h 0)), (1, .int so)]) hx hb dX0_lookUp_9 rfl hl (by decide) rfl (fun ls hl => ?_)
  have LA : ∀ (n : Nat) (i : Nat) (ak1 : Nat → Nat), (i ≤ kl) → (kl < i + n) → (∀ j, ak1 j < 8) → (∀ j, j < i → ak1 j = ky j) → ∀ (H : Heap) (locs : List Loc), va_P D z_cl (z_w0 cA h (nI kl) (zn_F ky) (zn_F ch) (zn_F nu) (zn_F be) (nI he) (zn_F en) es ev (an) (ap) (ao) (ar) (nI kl) (zn_F ak1)) H → va_D A (z_w0 cA h (nI kl) (zn_F ky) (zn_F ch) (zn_F nu) (zn_F be) (nI he) (zn_F en) es ev (an) (ap) (ao) (ar) (nI kl) (zn_F ak1)) → va_S A s.heap H locs → ∀ ls : Array Slot, lv_has ls 3 [(0, .ref (h 0)), (1, .int so), (2, .int (nI i))] → W p l e ({ frames := 3, cells := 0, slots := 0, locals := 76 } : Room) s m ([.ref (h 0), .int so] : List Value).toArray below meth c H locs 0 0 Q (F0 m 10 ls []) := by
    intro n
    induction n with
    | zero =>
      intro i ak1 hi hn h8 heq
      exact absurd hn (by omega)
    | succ n ih_LA =>
      intro i ak1 hi hn h8 heq H locs hP hD hS ls hl
      refine lv_iload_n hx hb dX0_lookUp_10 rfl (lv_at hl 2 rfl) ?_
      refine lv_aload_n hx hb dX0_lookUp_11 rfl (lv_at hl 0 rfl) ?_
      refine va_get (D := D) (ci := 0) (v := .int (nI kl)) (C := RX0) (T := TX0) (N := 15) hx hb hts in_X0 hown hK hP 0 rfl rfl 0 (by decide) (hts _ q31) (fun _ h9 => h9) rfl dX0_lookUp_12 ?_
      refine zn_icmp_ge (tgt := 36) hx hb (a := i) (b := kl) (by omega) (by omega) dX0_lookUp_15 (by decide) (fun c_15 => ?_) (fun c_15 => ?_)
      · have hPP : z_P ak1 kl = z_P ky kl := z_P_congr (fun j h => heq j (by omega))
        refine lv_aload_n hx hb dX0_lookUp_36 rfl (lv_at hl 0 rfl) ?_
        refine lv_iconst (v := nI 0) hx hb dX0_lookUp_37 (by decide) ?_
        refine va_put (D := D) (ci := 0) (v := .int (nI 0)) (ty := .int) (C := RX0) (T := TX0) (N := 15) hx hb hts in_X0 tyX0 tyX0_ok nmX0 hown hK hP hD hS 0 rfl rfl 9 (by decide) (hts _ q40) (fun _ h9 => h9) rfl (by decide +kernel) rfl rfl (Nat.le_of_ble_eq_true rfl) dX0_lookUp_38 (fun H locs hP hD hS => ?_)
        have hP : va_P D z_cl (z_w0 cA h (nI kl) (zn_F ky) (zn_F ch) (zn_F nu) (zn_F be) (nI he) (zn_F en) es ev (nI 0) (ap) (ao) (ar) (nI kl) (zn_F ak1)) H := hP
        have hD : va_D A (z_w0 cA h (nI kl) (zn_F ky) (zn_F ch) (zn_F nu) (zn_F be) (nI he) (zn_F en) es ev (nI 0) (ap) (ao) (ar) (nI kl) (zn_F ak1)) := hD
        refine lv_aload_n hx hb dX0_lookUp_41 rfl (lv_at hl 0 rfl) ?_
        refine lv_iconst (v := nI 0) hx hb dX0_lookUp_42 (by decide) ?_
        refine va_put (D := D) (ci := 0) (v := .int (nI 0)) (ty := .int) (C := RX0) (T := TX0) (N := 15) hx hb hts in_X0 tyX0 tyX0_ok nmX0 hown hK hP hD hS 0 rfl rfl 12 (by decide) (hts _ q43) (fun _ h9 => h9) rfl (by decide +kernel) rfl rfl (Nat.le_of_ble_eq_true rfl) dX0_lookUp_43 (fun H locs hP hD hS => ?_)
        have hP : va_P D z_cl (z_w0 cA h (nI kl) (zn_F ky) (zn_F ch) (zn_F nu) (zn_F be) (nI he) (zn_F en) es ev (nI 0) (ap) (ao) (nI 0) (nI kl) (zn_F ak1)) H := hP
        have hD : va_D A (z_w0 cA h (nI kl) (zn_F ky) (zn_F ch) (zn_F nu) (zn_F be) (nI he) (zn_F en) es ev (nI 0) (ap) (ao) (nI 0) (nI kl) (zn_F ak1)) := hD
        refine lv_iconst (v := nI 1) hx hb dX0_lookUp_46 (by decide) ?_
        refine lv_istore_n (lv' := [(2, .int (nI 1)), (0, .ref (h 0)), (1, .int so)]) hx hb dX0_lookUp_47 rfl hl (by decide) rfl (fun ls hl => ?_)
        have LB : ∀ (n : Nat) (r : Nat) (an1 : Int32) (ap1 : Int32) (ao1 : Int32) (ar1 : Int32) (al1 : Nat) (ak2 : Nat → Nat), (1 ≤ r) → (r ≤ 6) → (6 < r + n) → (z_R nm es ev he so (z_P ky kl) nu be r (an1, ap1, ao1, ar1, al1, ak2)) → ∀ (H : Heap) (locs : List Loc), va_P D z_cl (z_w0 cA h (nI kl) (zn_F ky) (zn_F ch) (zn_F nu) (zn_F be) (nI he) (zn_F en) es ev (an1) (ap1) (ao1) (ar1) (nI al1) (zn_F ak2)) H → va_D A (z_w0 cA h (nI kl) (zn_F ky) (zn_F ch) (zn_F nu) (zn_F be) (nI he) (zn_F en) es ev (an1) (ap1) (ao1) (ar1) (nI al1) (zn_F ak2)) → va_S A s.heap H locs → ∀ ls : Array Slot, lv_has ls 3 [(0, .ref (h 0)), (1, .int so), (2, .int (nI r))] → W p l e ({ frames := 3, cells := 0, slots := 0, locals := 76 } : Room) s m ([.ref (h 0), .int so] : List Value).toArray below meth c H locs 0 0 Q (F0 m 48 ls []) := by
          intro n
          induction n with
          | zero =>
            intro r an1 ap1 ao1 ar1 al1 ak2 hr1 hr6 hn hR
            exact absurd hn (by omega)
          | succ n ih_LB =>
            intro r an1 ap1 ao1 ar1 al1 ak2 hr1 hr6 hn hR H locs hP hD hS ls hl
            refine lv_iload_n hx hb dX0_lookUp_48 rfl (lv_at hl 2 rfl) ?_
            refine lv_iconst (v := nI 5) hx hb dX0_lookUp_49 (by decide) ?_
            refine zn_icmp_gt (tgt := 76) hx hb (a := r) (b := 5) (by omega) (by decide) dX0_lookUp_50 (by decide) (fun c_50 => ?_) (fun c_50 => ?_)
            · exact hret (an1, ap1, ao1, ar1, al1, ak2) _ _ _ _ dX0_lookUp_76 (z_R_done hR (Or.inl c_50)) hP hD hS
            · refine lv_aload_n hx hb dX0_lookUp_53 rfl (lv_at hl 0 rfl) ?_
              refine va_get (D := D) (ci := 0) (v := .int an1) (C := RX0) (T := TX0) (N := 15) hx hb hts in_X0 hown hK hP 0 rfl rfl 9 (by decide) (hts _ q40) (fun _ h9 => h9) rfl dX0_lookUp_54 ?_
              refine lv_if_ne (tgt := 76) (x := an1) hx hb dX0_lookUp_57 (by decide) (fun c_57 => ?_) (fun c_57 => ?_)
              · exact hret (an1, ap1, ao1, ar1, al1, ak2) _ _ _ _ dX0_lookUp_76 (z_R_done hR (Or.inr c_57)) hP hD hS
              · refine lv_aload_n hx hb dX0_lookUp_60 rfl (lv_at hl 0 rfl) ?_
                refine lv_iload_n hx hb dX0_lookUp_61 rfl (lv_at hl 2 rfl) ?_
                refine va_put (D := D) (ci := 0) (v := .int (nI r)) (ty := .int) (C := RX0) (T := TX0) (N := 15) hx hb hts in_X0 tyX0 tyX0_ok nmX0 hown hK hP hD hS 0 rfl rfl 12 (by decide) (hts _ q43) (fun _ h9 => h9) rfl (by decide +kernel) rfl rfl (Nat.le_of_ble_eq_true rfl) dX0_lookUp_62 (fun H locs hP hD hS => ?_)
                have hP : va_P D z_cl (z_w0 cA h (nI kl) (zn_F ky) (zn_F ch) (zn_F nu) (zn_F be) (nI he) (zn_F en) es ev (an1) (ap1) (ao1) (nI r) (nI al1) (zn_F ak2)) H := hP
                have hD : va_D A (z_w0 cA h (nI kl) (zn_F ky) (zn_F ch) (zn_F nu) (zn_F be) (nI he) (zn_F en) es ev (an1) (ap1) (ao1) (nI r) (nI al1) (zn_F ak2)) := hD
                refine lv_aload_n hx hb dX0_lookUp_65 rfl (lv_at hl 0 rfl) ?_
                refine lv_iload_n hx hb dX0_lookUp_66 rfl (lv_at hl 1 rfl) ?_
                refine z_callv (As := [.int so]) (rest := []) ⟨hx, hb, hml, hown, hts⟩ (zc_walk l D cA H.size h kl ky ch nu be he en es ev (an1) (ap1) (ao1) r al1 ak2 nm so hhe hR.2.1 hR.1 (by omega) hT hnm hen hals) (cwV 1 hts (lw_V q141 q143 qs7 q21 q144) rfl rfl rfl (by decide +kernel) ⟨Nat.le_of_ble_eq_true rfl, Nat.le_of_ble_eq_true rfl⟩) (va_recv hK hP (ci := 0) (q0 := 0) rfl rfl) hK hP hD hS hA rfl hl.1 rfl (Nat.le_of_ble_eq_true rfl) dX0_lookUp_67 (Nat.zero_le _) (Nat.zero_le _) (fun u_67 H locs hw_67 hP hD hS => ?_)
                have hP : va_P D z_cl (z_w0 cA h (nI kl) (zn_F ky) (zn_F ch) (zn_F nu) (zn_F be) (nI he) (zn_F en) es ev (u_67.1) (u_67.2.1) (u_67.2.2.1) (nI r) (nI u_67.2.2.2.1) (zn_F u_67.2.2.2.2)) H := hP
                have hD : va_D A (z_w0 cA h (nI kl) (zn_F ky) (zn_F ch) (zn_F nu) (zn_F be) (nI he) (zn_F en) es ev (u_67.1) (u_67.2.1) (u_67.2.2.1) (nI r) (nI u_67.2.2.2.1) (zn_F u_67.2.2.2.2)) := hD
                refine lv_iinc (v := nI (r + 1)) (lv' := [(2, .int (nI (r + 1))), (0, .ref (h 0)), (1, .int so)]) hx hb dX0_lookUp_70 hl (k := 2) rfl (nI_add r 1) (by decide) rfl (fun ls hl => ?_)
                refine lv_goto (tgt := 48) hx hb dX0_lookUp_73 (by decide) ?_
                exact ih_LB (r + 1) _ _ _ _ _ _ (by omega) (by omega) (by omega) (z_R_step (by omega) c_57 (z_R_run hR c_57) hw_67) _ _ hP hD hS ls (lv_sub hl [1, 2, 0] rfl)
        exact LB 6 1 _ _ _ _ _ _ (by omega) (by omega) (by omega) ⟨h8, hkl, Or.inl ⟨by omega, rfl, by rw [← hPP]⟩⟩ _ _ hP hD hS ls (lv_sub hl [1, 2, 0] rfl)
      · refine lv_aload_n hx hb dX0_lookUp_18 rfl (lv_at hl 0 rfl) ?_
        refine va_get (D := D) (ci := 0) (v := .ref (h 8)) (C := RX0) (T := TX0) (N := 15) hx hb hts in_X0 hown hK hP 0 rfl rfl 14 (by decide) (hts _ q45) (fun _ h9 => h9) rfl dX0_lookUp_19 ?_
        refine lv_iload_n hx hb dX0_lookUp_22 rfl (lv_at hl 2 rfl) ?_
        refine lv_aload_n hx hb dX0_lookUp_23 rfl (lv_at hl 0 rfl) ?_
        refine va_get (D := D) (ci := 0) (v := .ref (h 1)) (C := RX0) (T := TX0) (N := 15) hx hb hts in_X0 hown hK hP 0 rfl rfl 1 (by decide) (hts _ q32) (fun _ h9 => h9) rfl dX0_lookUp_24 ?_
        refine lv_iload_n hx hb dX0_lookUp_27 rfl (lv_at hl 2 rfl) ?_
        refine zn_ald hx hb hK hP 1 0 rfl rfl (i := i) (by omega) (by decide) dX0_lookUp_28 ?_
        refine zn_ast hx hb hK hP hD hS 8 0 rfl rfl (i := i) (x := ky i) (by omega) (by decide) dX0_lookUp_29 (fun H locs hP hD hS => ?_)
        have hP : va_P D z_cl (z_w0 cA h (nI kl) (zn_F ky) (zn_F ch) (zn_F nu) (zn_F be) (nI he) (zn_F en) es ev (an) (ap) (ao) (ar) (nI kl) (zn_F (zn_u ak1 i (ky i)))) H := hP
        have hD : va_D A (z_w0 cA h (nI kl) (zn_F ky) (zn_F ch) (zn_F nu) (zn_F be) (nI he) (zn_F en) es ev (an) (ap) (ao) (ar) (nI kl) (zn_F (zn_u ak1 i (ky i)))) := hD
        refine lv_iinc (v := nI (i + 1)) (lv' := [(2, .int (nI (i + 1))), (0, .ref (h 0)), (1, .int so)]) hx hb dX0_lookUp_30 hl (k := 2) rfl (nI_add i 1) (by decide) rfl (fun ls hl => ?_)
        refine lv_goto (tgt := 10) hx hb dX0_lookUp_33 (by decide) ?_
        exact ih_LA (i + 1) (zn_u ak1 i (ky i)) (by omega) (by omega) (fun j => by by_cases h9 : j = i; rw [h9, zn_us]; exact hky i; rw [zn_un h9]; exact h8 j) (fun j h => by by_cases h9 : j = i; rw [h9, zn_us]; rw [zn_un h9]; exact heq j (by omega)) _ _ hP hD hS ls (lv_sub hl [1, 2, 0] rfl)
  exact LA (kl + 1) 0 ak (Nat.zero_le _) (by omega) hak (fun j h => absurd h (by omega)) _ _ hP hD hS ls (lv_sub hl [1, 2, 0] rfl)
end
section
/-! ZoneLookup: its public methods -/
set_option maxRecDepth 100000
set_option maxHeartbeats 4000000 in
/-- look(sort) -/
theorem zc_look (l : Launch) (D : va_G) (cA : ClassId) (sz : Nat) (h : Nat → Nat) (kl : Nat) (ky ch nu be : Nat → Nat) (he : Nat) (en : Nat → Nat) (es ev : Nat → Int32) (an ap ao ar : Int32) (al : Nat) (ak : Nat → Nat) (so : Int32) (nm : Nat → Nat) (hI : z_I kl ky ch nu be he en es ev nm) (hak : ∀ j, ak j < 8) : z_Mi (S := Int32 × Int32 × Int32 × Int32 × Nat × (Nat → Nat)) l yX0_look cX0_look 2 .int ({ frames := 4, cells := 0, slots := 0, locals := 98 } : Room) D cA sz [.ref (h 0), .int so] (z_w0 cA h (nI kl) (zn_F ky) (zn_F ch) (zn_F nu) (zn_F be) (nI he) (zn_F en) es ev (an) (ap) (ao) (ar) (nI al) (zn_F ak)) (fun r (u : Int32 × Int32 × Int32 × Int32 × Nat × (Nat → Nat)) => (∀ j, u.2.2.2.2.2 j < 8) ∧ ((z_so so ∧ r = nI (z_lk nm es ev he so 5 (z_P ky kl) 1).1) ∨ (¬ z_so so ∧ r = (-1)))) (fun u => z_w0 cA h (nI kl) (zn_F ky) (zn_F ch) (zn_F nu) (zn_F be) (nI he) (zn_F en) es ev (u.1) (u.2.1) (u.2.2.1) (u.2.2.2.1) (nI u.2.2.2.2.1) (zn_F u.2.2.2.2.2)) := by
  obtain ⟨hkl, hky, hhe, hnm, hT, hsb, hen, hals, hrm⟩ := id hI
  refine z_ofi (by decide) (Nat.le_of_ble_eq_true rfl) ?_
  intro p e s m below meth c A Q hx hb hml hown hts hA hret hK hP hD hS ls hl
  have hown : s.vm.findClass RX0 = some m.cls := hown
  have hl : lv_has ls 2 [(0, .ref (h 0)), (1, .int so)] := hl
  refine lv_iload_n hx hb dX0_look_0 rfl (lv_at hl 1 rfl) ?_
  refine lv_iconst (v := nI 1) hx hb dX0_look_1 (by decide) ?_
  refine lv_icmp_lt (tgt := 10) (x := so) (y := nI 1) hx hb dX0_look_2 (by decide) (fun c_2 => ?_) (fun c_2 => ?_)
  · refine lv_iconst (v := (-1)) hx hb dX0_look_10 (by decide) ?_
    exact hret ((-1)) (an, ap, ao, ar, al, ak) _ _ _ _ dX0_look_11 rfl ⟨hak, Or.inr ⟨(fun q => q.1 c_2), rfl⟩⟩ hP hD hS
  · refine lv_iload_n hx hb dX0_look_5 rfl (lv_at hl 1 rfl) ?_
    refine lv_iconst (v := nI 4) hx hb dX0_look_6 (by decide) ?_
    refine lv_icmp_le (tgt := 12) (x := so) (y := nI 4) hx hb dX0_look_7 (by decide) (fun c_7 => ?_) (fun c_7 => ?_)
    · refine lv_aload_n hx hb dX0_look_12 rfl (lv_at hl 0 rfl) ?_
      refine lv_iload_n hx hb dX0_look_13 rfl (lv_at hl 1 rfl) ?_
      refine z_callv (As := [.int so]) (rest := []) ⟨hx, hb, hml, hown, hts⟩ (zc_lookUp l D cA s.heap.size h kl ky ch nu be he en es ev (an) (ap) (ao) (ar) al ak nm so hhe hkl hky hak hT hnm hen hals) (cwV 1 hts (lw_V q137 q139 qs6 q21 q140) rfl rfl rfl (by decide +kernel) ⟨Nat.le_of_ble_eq_true rfl, Nat.le_of_ble_eq_true rfl⟩) (va_recv hK hP (ci := 0) (q0 := 0) rfl rfl) hK hP hD hS hA rfl hl.1 rfl (Nat.le_of_ble_eq_true rfl) dX0_look_14 (Nat.zero_le _) (Nat.zero_le _) (fun u_14 H locs hw_14 hP hD hS => ?_)
      obtain ⟨an1, ap1, ao1, ar1, al1, ak1⟩ := u_14
      obtain ⟨g1, g2, g3, g4, g5, g6⟩ := hw_14
      have g3 : an1 = nI (z_lk nm es ev he so 5 (z_P ky kl) 1).1 := g3
      have g4 : ap1 = nI (z_lk nm es ev he so 5 (z_P ky kl) 1).2.1 := g4
      have g5 : ar1 = nI (z_lk nm es ev he so 5 (z_P ky kl) 1).2.2 := g5
      subst g3
      subst g4
      subst g5
      have hle := z_lk_le nm es ev he so 5 (z_P ky kl) 1
      have hP : va_P D z_cl (z_w0 cA h (nI kl) (zn_F ky) (zn_F ch) (zn_F nu) (zn_F be) (nI he) (zn_F en) es ev (nI ((z_lk nm es ev he so 5 (z_P ky kl) 1).1)) (nI ((z_lk nm es ev he so 5 (z_P ky kl) 1).2.1)) (ao1) (nI ((z_lk nm es ev he so 5 (z_P ky kl) 1).2.2)) (nI al1) (zn_F ak1)) H := hP
      have hD : va_D A (z_w0 cA h (nI kl) (zn_F ky) (zn_F ch) (zn_F nu) (zn_F be) (nI he) (zn_F en) es ev (nI ((z_lk nm es ev he so 5 (z_P ky kl) 1).1)) (nI ((z_lk nm es ev he so 5 (z_P ky kl) 1).2.1)) (ao1) (nI ((z_lk nm es ev he so 5 (z_P ky kl) 1).2.2)) (nI al1) (zn_F ak1)) := hD
      refine lv_aload_n hx hb dX0_look_17 rfl (lv_at hl 0 rfl) ?_
      refine va_get (D := D) (ci := 0) (v := .int (nI ((z_lk nm es ev he so 5 (z_P ky kl) 1).1))) (C := RX0) (T := TX0) (N := 15) hx hb hts in_X0 hown hK hP 0 rfl rfl 9 (by decide) (hts _ q40) (fun _ h9 => h9) rfl dX0_look_18 ?_
      exact hret (nI ((z_lk nm es ev he so 5 (z_P ky kl) 1).1)) (nI (z_lk nm es ev he so 5 (z_P ky kl) 1).1, nI (z_lk nm es ev he so 5 (z_P ky kl) 1).2.1, ao1, nI (z_lk nm es ev he so 5 (z_P ky kl) 1).2.2, al1, ak1) _ _ _ _ dX0_look_21 rfl ⟨g1, Or.inl ⟨⟨c_2, c_7⟩, rfl⟩⟩ hP hD hS
    · refine lv_iconst (v := (-1)) hx hb dX0_look_10 (by decide) ?_
      exact hret ((-1)) (an, ap, ao, ar, al, ak) _ _ _ _ dX0_look_11 rfl ⟨hak, Or.inr ⟨(fun q => c_7 q.2), rfl⟩⟩ hP hD hS
set_option maxHeartbeats 4000000 in
/-- place(sort) -/
theorem zc_place (l : Launch) (D : va_G) (cA : ClassId) (sz : Nat) (h : Nat → Nat) (kl : Nat) (ky ch nu be : Nat → Nat) (he : Nat) (en : Nat → Nat) (es ev : Nat → Int32) (an ap ao ar : Int32) (al : Nat) (ak : Nat → Nat) (so : Int32) (nm : Nat → Nat) (hI : z_I kl ky ch nu be he en es ev nm) (hak : ∀ j, ak j < 8) : z_Mi (S := Int32 × Int32 × Int32 × Int32 × Nat × (Nat → Nat)) l yX0_place cX0_place 2 .int ({ frames := 4, cells := 0, slots := 0, locals := 98 } : Room) D cA sz [.ref (h 0), .int so] (z_w0 cA h (nI kl) (zn_F ky) (zn_F ch) (zn_F nu) (zn_F be) (nI he) (zn_F en) es ev (an) (ap) (ao) (ar) (nI al) (zn_F ak)) (fun r (u : Int32 × Int32 × Int32 × Int32 × Nat × (Nat → Nat)) => (∀ j, u.2.2.2.2.2 j < 8) ∧ ((z_so so ∧ r = nI (z_lk nm es ev he so 5 (z_P ky kl) 1).2.1) ∨ (¬ z_so so ∧ r = (-1)))) (fun u => z_w0 cA h (nI kl) (zn_F ky) (zn_F ch) (zn_F nu) (zn_F be) (nI he) (zn_F en) es ev (u.1) (u.2.1) (u.2.2.1) (u.2.2.2.1) (nI u.2.2.2.2.1) (zn_F u.2.2.2.2.2)) := by
  obtain ⟨hkl, hky, hhe, hnm, hT, hsb, hen, hals, hrm⟩ := id hI
  refine z_ofi (by decide) (Nat.le_of_ble_eq_true rfl) ?_
  intro p e s m below meth c A Q hx hb hml hown hts hA hret hK hP hD hS ls hl
  have hown : s.vm.findClass RX0 = some m.cls := hown
  have hl : lv_has ls 2 [(0, .ref (h 0)), (1, .int so)] := hl
  refine lv_iload_n hx hb dX0_place_0 rfl (lv_at hl 1 rfl) ?_
  refine lv_iconst (v := nI 1) hx hb dX0_place_1 (by decide) ?_
  refine lv_icmp_lt (tgt := 10) (x := so) (y := nI 1) hx hb dX0_place_2 (by decide) (fun c_2 => ?_) (fun c_2 => ?_)
  · refine lv_iconst (v := (-1)) hx hb dX0_place_10 (by decide) ?_
    exact hret ((-1)) (an, ap, ao, ar, al, ak) _ _ _ _ dX0_place_11 rfl ⟨hak, Or.inr ⟨(fun q => q.1 c_2), rfl⟩⟩ hP hD hS
  · refine lv_iload_n hx hb dX0_place_5 rfl (lv_at hl 1 rfl) ?_
    refine lv_iconst (v := nI 4) hx hb dX0_place_6 (by decide) ?_
    refine lv_icmp_le (tgt := 12) (x := so) (y := nI 4) hx hb dX0_place_7 (by decide) (fun c_7 => ?_) (fun c_7 => ?_)
    · refine lv_aload_n hx hb dX0_place_12 rfl (lv_at hl 0 rfl) ?_
      refine lv_iload_n hx hb dX0_place_13 rfl (lv_at hl 1 rfl) ?_
      refine z_callv (As := [.int so]) (rest := []) ⟨hx, hb, hml, hown, hts⟩ (zc_lookUp l D cA s.heap.size h kl ky ch nu be he en es ev (an) (ap) (ao) (ar) al ak nm so hhe hkl hky hak hT hnm hen hals) (cwV 1 hts (lw_V q137 q139 qs6 q21 q140) rfl rfl rfl (by decide +kernel) ⟨Nat.le_of_ble_eq_true rfl, Nat.le_of_ble_eq_true rfl⟩) (va_recv hK hP (ci := 0) (q0 := 0) rfl rfl) hK hP hD hS hA rfl hl.1 rfl (Nat.le_of_ble_eq_true rfl) dX0_place_14 (Nat.zero_le _) (Nat.zero_le _) (fun u_14 H locs hw_14 hP hD hS => ?_)
      obtain ⟨an1, ap1, ao1, ar1, al1, ak1⟩ := u_14
      obtain ⟨g1, g2, g3, g4, g5, g6⟩ := hw_14
      have g3 : an1 = nI (z_lk nm es ev he so 5 (z_P ky kl) 1).1 := g3
      have g4 : ap1 = nI (z_lk nm es ev he so 5 (z_P ky kl) 1).2.1 := g4
      have g5 : ar1 = nI (z_lk nm es ev he so 5 (z_P ky kl) 1).2.2 := g5
      subst g3
      subst g4
      subst g5
      have hle := z_lk_le nm es ev he so 5 (z_P ky kl) 1
      have hP : va_P D z_cl (z_w0 cA h (nI kl) (zn_F ky) (zn_F ch) (zn_F nu) (zn_F be) (nI he) (zn_F en) es ev (nI ((z_lk nm es ev he so 5 (z_P ky kl) 1).1)) (nI ((z_lk nm es ev he so 5 (z_P ky kl) 1).2.1)) (ao1) (nI ((z_lk nm es ev he so 5 (z_P ky kl) 1).2.2)) (nI al1) (zn_F ak1)) H := hP
      have hD : va_D A (z_w0 cA h (nI kl) (zn_F ky) (zn_F ch) (zn_F nu) (zn_F be) (nI he) (zn_F en) es ev (nI ((z_lk nm es ev he so 5 (z_P ky kl) 1).1)) (nI ((z_lk nm es ev he so 5 (z_P ky kl) 1).2.1)) (ao1) (nI ((z_lk nm es ev he so 5 (z_P ky kl) 1).2.2)) (nI al1) (zn_F ak1)) := hD
      refine lv_aload_n hx hb dX0_place_17 rfl (lv_at hl 0 rfl) ?_
      refine va_get (D := D) (ci := 0) (v := .int (nI ((z_lk nm es ev he so 5 (z_P ky kl) 1).2.1))) (C := RX0) (T := TX0) (N := 15) hx hb hts in_X0 hown hK hP 0 rfl rfl 10 (by decide) (hts _ q41) (fun _ h9 => h9) rfl dX0_place_18 ?_
      exact hret (nI ((z_lk nm es ev he so 5 (z_P ky kl) 1).2.1)) (nI (z_lk nm es ev he so 5 (z_P ky kl) 1).1, nI (z_lk nm es ev he so 5 (z_P ky kl) 1).2.1, ao1, nI (z_lk nm es ev he so 5 (z_P ky kl) 1).2.2, al1, ak1) _ _ _ _ dX0_place_21 rfl ⟨g1, Or.inl ⟨⟨c_2, c_7⟩, rfl⟩⟩ hP hD hS
    · refine lv_iconst (v := (-1)) hx hb dX0_place_10 (by decide) ?_
      exact hret ((-1)) (an, ap, ao, ar, al, ak) _ _ _ _ dX0_place_11 rfl ⟨hak, Or.inr ⟨(fun q => c_7 q.2), rfl⟩⟩ hP hD hS
set_option maxHeartbeats 4000000 in
/-- rounds(sort) -/
theorem zc_rounds (l : Launch) (D : va_G) (cA : ClassId) (sz : Nat) (h : Nat → Nat) (kl : Nat) (ky ch nu be : Nat → Nat) (he : Nat) (en : Nat → Nat) (es ev : Nat → Int32) (an ap ao ar : Int32) (al : Nat) (ak : Nat → Nat) (so : Int32) (nm : Nat → Nat) (hI : z_I kl ky ch nu be he en es ev nm) (hak : ∀ j, ak j < 8) : z_Mi (S := Int32 × Int32 × Int32 × Int32 × Nat × (Nat → Nat)) l yX0_rounds cX0_rounds 2 .int ({ frames := 4, cells := 0, slots := 0, locals := 98 } : Room) D cA sz [.ref (h 0), .int so] (z_w0 cA h (nI kl) (zn_F ky) (zn_F ch) (zn_F nu) (zn_F be) (nI he) (zn_F en) es ev (an) (ap) (ao) (ar) (nI al) (zn_F ak)) (fun r (u : Int32 × Int32 × Int32 × Int32 × Nat × (Nat → Nat)) => (∀ j, u.2.2.2.2.2 j < 8) ∧ ((z_so so ∧ r = nI (z_lk nm es ev he so 5 (z_P ky kl) 1).2.2) ∨ (¬ z_so so ∧ r = (-1)))) (fun u => z_w0 cA h (nI kl) (zn_F ky) (zn_F ch) (zn_F nu) (zn_F be) (nI he) (zn_F en) es ev (u.1) (u.2.1) (u.2.2.1) (u.2.2.2.1) (nI u.2.2.2.2.1) (zn_F u.2.2.2.2.2)) := by
  obtain ⟨hkl, hky, hhe, hnm, hT, hsb, hen, hals, hrm⟩ := id hI
  refine z_ofi (by decide) (Nat.le_of_ble_eq_true rfl) ?_
  intro p e s m below meth c A Q hx hb hml hown hts hA hret hK hP hD hS ls hl
  have hown : s.vm.findClass RX0 = some m.cls := hown
  have hl : lv_has ls 2 [(0, .ref (h 0)), (1, .int so)] := hl
  refine lv_iload_n hx hb dX0_rounds_0 rfl (lv_at hl 1 rfl) ?_
  refine lv_iconst (v := nI 1) hx hb dX0_rounds_1 (by decide) ?_
  refine lv_icmp_lt (tgt := 10) (x := so) (y := nI 1) hx hb dX0_rounds_2 (by decide) (fun c_2 => ?_) (fun c_2 => ?_)
  · refine lv_iconst (v := (-1)) hx hb dX0_rounds_10 (by decide) ?_
    exact hret ((-1)) (an, ap, ao, ar, al, ak) _ _ _ _ dX0_rounds_11 rfl ⟨hak, Or.inr ⟨(fun q => q.1 c_2), rfl⟩⟩ hP hD hS
  · refine lv_iload_n hx hb dX0_rounds_5 rfl (lv_at hl 1 rfl) ?_
    refine lv_iconst (v := nI 4) hx hb dX0_rounds_6 (by decide) ?_
    refine lv_icmp_le (tgt := 12) (x := so) (y := nI 4) hx hb dX0_rounds_7 (by decide) (fun c_7 => ?_) (fun c_7 => ?_)
    · refine lv_aload_n hx hb dX0_rounds_12 rfl (lv_at hl 0 rfl) ?_
      refine lv_iload_n hx hb dX0_rounds_13 rfl (lv_at hl 1 rfl) ?_
      refine z_callv (As := [.int so]) (rest := []) ⟨hx, hb, hml, hown, hts⟩ (zc_lookUp l D cA s.heap.size h kl ky ch nu be he en es ev (an) (ap) (ao) (ar) al ak nm so hhe hkl hky hak hT hnm hen hals) (cwV 1 hts (lw_V q137 q139 qs6 q21 q140) rfl rfl rfl (by decide +kernel) ⟨Nat.le_of_ble_eq_true rfl, Nat.le_of_ble_eq_true rfl⟩) (va_recv hK hP (ci := 0) (q0 := 0) rfl rfl) hK hP hD hS hA rfl hl.1 rfl (Nat.le_of_ble_eq_true rfl) dX0_rounds_14 (Nat.zero_le _) (Nat.zero_le _) (fun u_14 H locs hw_14 hP hD hS => ?_)
      obtain ⟨an1, ap1, ao1, ar1, al1, ak1⟩ := u_14
      obtain ⟨g1, g2, g3, g4, g5, g6⟩ := hw_14
      have g3 : an1 = nI (z_lk nm es ev he so 5 (z_P ky kl) 1).1 := g3
      have g4 : ap1 = nI (z_lk nm es ev he so 5 (z_P ky kl) 1).2.1 := g4
      have g5 : ar1 = nI (z_lk nm es ev he so 5 (z_P ky kl) 1).2.2 := g5
      subst g3
      subst g4
      subst g5
      have hle := z_lk_le nm es ev he so 5 (z_P ky kl) 1
      have hP : va_P D z_cl (z_w0 cA h (nI kl) (zn_F ky) (zn_F ch) (zn_F nu) (zn_F be) (nI he) (zn_F en) es ev (nI ((z_lk nm es ev he so 5 (z_P ky kl) 1).1)) (nI ((z_lk nm es ev he so 5 (z_P ky kl) 1).2.1)) (ao1) (nI ((z_lk nm es ev he so 5 (z_P ky kl) 1).2.2)) (nI al1) (zn_F ak1)) H := hP
      have hD : va_D A (z_w0 cA h (nI kl) (zn_F ky) (zn_F ch) (zn_F nu) (zn_F be) (nI he) (zn_F en) es ev (nI ((z_lk nm es ev he so 5 (z_P ky kl) 1).1)) (nI ((z_lk nm es ev he so 5 (z_P ky kl) 1).2.1)) (ao1) (nI ((z_lk nm es ev he so 5 (z_P ky kl) 1).2.2)) (nI al1) (zn_F ak1)) := hD
      refine lv_aload_n hx hb dX0_rounds_17 rfl (lv_at hl 0 rfl) ?_
      refine va_get (D := D) (ci := 0) (v := .int (nI ((z_lk nm es ev he so 5 (z_P ky kl) 1).2.2))) (C := RX0) (T := TX0) (N := 15) hx hb hts in_X0 hown hK hP 0 rfl rfl 12 (by decide) (hts _ q43) (fun _ h9 => h9) rfl dX0_rounds_18 ?_
      exact hret (nI ((z_lk nm es ev he so 5 (z_P ky kl) 1).2.2)) (nI (z_lk nm es ev he so 5 (z_P ky kl) 1).1, nI (z_lk nm es ev he so 5 (z_P ky kl) 1).2.1, ao1, nI (z_lk nm es ev he so 5 (z_P ky kl) 1).2.2, al1, ak1) _ _ _ _ dX0_rounds_21 rfl ⟨g1, Or.inl ⟨⟨c_2, c_7⟩, rfl⟩⟩ hP hD hS
    · refine lv_iconst (v := (-1)) hx hb dX0_rounds_10 (by decide) ?_
      exact hret ((-1)) (an, ap, ao, ar, al, ak) _ _ _ _ dX0_rounds_11 rfl ⟨hak, Or.inr ⟨(fun q => c_7 q.2), rfl⟩⟩ hP hD hS
set_option maxHeartbeats 4000000 in
/-- value(sort, index) -/
theorem zc_value (l : Launch) (D : va_G) (cA : ClassId) (sz : Nat) (h : Nat → Nat) (kl : Nat) (ky ch nu be : Nat → Nat) (he : Nat) (en : Nat → Nat) (es ev : Nat → Int32) (an ap ao ar : Int32) (al : Nat) (ak : Nat → Nat) (so ix : Int32) (nm : Nat → Nat) (hI : z_I kl ky ch nu be he en es ev nm) (hak : ∀ j, ak j < 8) : z_Mi (S := Int32 × Int32 × Int32 × Int32 × Nat × (Nat → Nat)) l yX0_value cX0_value 3 .int ({ frames := 4, cells := 0, slots := 0, locals := 98 } : Room) D cA sz [.ref (h 0), .int so, .int ix] (z_w0 cA h (nI kl) (zn_F ky) (zn_F ch) (zn_F nu) (zn_F be) (nI he) (zn_F en) es ev (an) (ap) (ao) (ar) (nI al) (zn_F ak)) (fun r (u : Int32 × Int32 × Int32 × Int32 × Nat × (Nat → Nat)) => (∀ j, u.2.2.2.2.2 j < 8) ∧ ((z_so so ∧ r = z_vl nm es ev he (z_P ky kl) so ix) ∨ (¬ z_so so ∧ r = nI 0))) (fun u => z_w0 cA h (nI kl) (zn_F ky) (zn_F ch) (zn_F nu) (zn_F be) (nI he) (zn_F en) es ev (u.1) (u.2.1) (u.2.2.1) (u.2.2.2.1) (nI u.2.2.2.2.1) (zn_F u.2.2.2.2.2)) := by
  obtain ⟨hkl, hky, hhe, hnm, hT, hsb, hen, hals, hrm⟩ := id hI
  refine z_ofi (by decide) (Nat.le_of_ble_eq_true rfl) ?_
  intro p e s m below meth c A Q hx hb hml hown hts hA hret hK hP hD hS ls hl
  have hown : s.vm.findClass RX0 = some m.cls := hown
  have hl : lv_has ls 3 [(0, .ref (h 0)), (1, .int so), (2, .int ix)] := hl
  refine lv_iload_n hx hb dX0_value_0 rfl (lv_at hl 1 rfl) ?_
  refine lv_iconst (v := nI 1) hx hb dX0_value_1 (by decide) ?_
  refine lv_icmp_lt (tgt := 10) (x := so) (y := nI 1) hx hb dX0_value_2 (by decide) (fun c_2 => ?_) (fun c_2 => ?_)
  · refine lv_iconst (v := nI 0) hx hb dX0_value_10 (by decide) ?_
    exact hret (nI 0) (an, ap, ao, ar, al, ak) _ _ _ _ dX0_value_11 rfl ⟨hak, Or.inr ⟨(fun q => q.1 c_2), rfl⟩⟩ hP hD hS
  · refine lv_iload_n hx hb dX0_value_5 rfl (lv_at hl 1 rfl) ?_
    refine lv_iconst (v := nI 4) hx hb dX0_value_6 (by decide) ?_
    refine lv_icmp_le (tgt := 12) (x := so) (y := nI 4) hx hb dX0_value_7 (by decide) (fun c_7 => ?_) (fun c_7 => ?_)
    · refine lv_aload_n hx hb dX0_value_12 rfl (lv_at hl 0 rfl) ?_
      refine lv_iload_n hx hb dX0_value_13 rfl (lv_at hl 1 rfl) ?_
      refine z_callv (As := [.int so]) (rest := []) ⟨hx, hb, hml, hown, hts⟩ (zc_lookUp l D cA s.heap.size h kl ky ch nu be he en es ev (an) (ap) (ao) (ar) al ak nm so hhe hkl hky hak hT hnm hen hals) (cwV 1 hts (lw_V q137 q139 qs6 q21 q140) rfl rfl rfl (by decide +kernel) ⟨Nat.le_of_ble_eq_true rfl, Nat.le_of_ble_eq_true rfl⟩) (va_recv hK hP (ci := 0) (q0 := 0) rfl rfl) hK hP hD hS hA rfl hl.1 rfl (Nat.le_of_ble_eq_true rfl) dX0_value_14 (Nat.zero_le _) (Nat.zero_le _) (fun u_14 H locs hw_14 hP hD hS => ?_)
      obtain ⟨an1, ap1, ao1, ar1, al1, ak1⟩ := u_14
      obtain ⟨g1, g2, g3, g4, g5, g6⟩ := hw_14
      have g3 : an1 = nI (z_lk nm es ev he so 5 (z_P ky kl) 1).1 := g3
      have g4 : ap1 = nI (z_lk nm es ev he so 5 (z_P ky kl) 1).2.1 := g4
      have g5 : ar1 = nI (z_lk nm es ev he so 5 (z_P ky kl) 1).2.2 := g5
      subst g3
      subst g4
      subst g5
      have hle := z_lk_le nm es ev he so 5 (z_P ky kl) 1
      have hP : va_P D z_cl (z_w0 cA h (nI kl) (zn_F ky) (zn_F ch) (zn_F nu) (zn_F be) (nI he) (zn_F en) es ev (nI ((z_lk nm es ev he so 5 (z_P ky kl) 1).1)) (nI ((z_lk nm es ev he so 5 (z_P ky kl) 1).2.1)) (ao1) (nI ((z_lk nm es ev he so 5 (z_P ky kl) 1).2.2)) (nI al1) (zn_F ak1)) H := hP
      have hD : va_D A (z_w0 cA h (nI kl) (zn_F ky) (zn_F ch) (zn_F nu) (zn_F be) (nI he) (zn_F en) es ev (nI ((z_lk nm es ev he so 5 (z_P ky kl) 1).1)) (nI ((z_lk nm es ev he so 5 (z_P ky kl) 1).2.1)) (ao1) (nI ((z_lk nm es ev he so 5 (z_P ky kl) 1).2.2)) (nI al1) (zn_F ak1)) := hD
      refine lv_aload_n hx hb dX0_value_17 rfl (lv_at hl 0 rfl) ?_
      refine va_get (D := D) (ci := 0) (v := .int (nI ((z_lk nm es ev he so 5 (z_P ky kl) 1).1))) (C := RX0) (T := TX0) (N := 15) hx hb hts in_X0 hown hK hP 0 rfl rfl 9 (by decide) (hts _ q40) (fun _ h9 => h9) rfl dX0_value_18 ?_
      refine lv_iconst (v := nI 4) hx hb dX0_value_21 (by decide) ?_
      refine zn_icmp_ne (tgt := 44) hx hb (a := (z_lk nm es ev he so 5 (z_P ky kl) 1).1) (b := 4) (by omega) (by decide) dX0_value_22 (by decide) (fun c_22 => ?_) (fun c_22 => ?_)
      · refine lv_aload_n hx hb dX0_value_44 rfl (lv_at hl 0 rfl) ?_
        refine va_get (D := D) (ci := 0) (v := .int (nI ((z_lk nm es ev he so 5 (z_P ky kl) 1).1))) (C := RX0) (T := TX0) (N := 15) hx hb hts in_X0 hown hK hP 0 rfl rfl 9 (by decide) (hts _ q40) (fun _ h9 => h9) rfl dX0_value_45 ?_
        refine lv_iconst (v := nI 1) hx hb dX0_value_48 (by decide) ?_
        refine zn_icmp_ne (tgt := 82) hx hb (a := (z_lk nm es ev he so 5 (z_P ky kl) 1).1) (b := 1) (by omega) (by decide) dX0_value_49 (by decide) (fun c_49 => ?_) (fun c_49 => ?_)
        · refine lv_iconst (v := nI 0) hx hb dX0_value_82 (by decide) ?_
          exact hret (nI 0) (nI (z_lk nm es ev he so 5 (z_P ky kl) 1).1, nI (z_lk nm es ev he so 5 (z_P ky kl) 1).2.1, ao1, nI (z_lk nm es ev he so 5 (z_P ky kl) 1).2.2, al1, ak1) _ _ _ _ dX0_value_83 rfl ⟨g1, Or.inl ⟨⟨c_2, c_7⟩, by simp only [z_vl]; rw [if_neg c_49, if_neg (fun q => c_22 q.1)]⟩⟩ hP hD hS
        · refine lv_iload_n hx hb dX0_value_52 rfl (lv_at hl 2 rfl) ?_
          refine lv_if_lt (tgt := 82) (x := ix) hx hb dX0_value_53 (by decide) (fun c_53 => ?_) (fun c_53 => ?_)
          · refine lv_iconst (v := nI 0) hx hb dX0_value_82 (by decide) ?_
            exact hret (nI 0) (nI (z_lk nm es ev he so 5 (z_P ky kl) 1).1, nI (z_lk nm es ev he so 5 (z_P ky kl) 1).2.1, ao1, nI (z_lk nm es ev he so 5 (z_P ky kl) 1).2.2, al1, ak1) _ _ _ _ dX0_value_83 rfl ⟨g1, Or.inl ⟨⟨c_2, c_7⟩, by simp only [z_vl]; rw [if_pos c_49]; exact (z_val_out (by omega) (Or.inl c_53)).symm⟩⟩ hP hD hS
          · obtain ⟨nd, hnd0, hnd1, hnd2, hnd3⟩ := g6 (Or.inl c_49)
            have hgr : ∀ e, e < he → (zn_F en e = ao1 ↔ zn_F nm e = nI (z_lk nm es ev he so 5 (z_P ky kl) 1).2.1) := by have hnd0 : ao1 = nI nd := hnd0; rw [hnd0, ← hnd3]; exact z_I_rel hI hnd1 hnd2 (by rw [hnd3]; exact z_lk_pl hI hals)
            refine lv_iload_n hx hb dX0_value_56 rfl (lv_at hl 2 rfl) ?_
            refine lv_aload_n hx hb dX0_value_57 rfl (lv_at hl 0 rfl) ?_
            refine lv_aload_n hx hb dX0_value_58 rfl (lv_at hl 0 rfl) ?_
            refine va_get (D := D) (ci := 0) (v := .int ao1) (C := RX0) (T := TX0) (N := 15) hx hb hts in_X0 hown hK hP 0 rfl rfl 11 (by decide) (hts _ q42) (fun _ h9 => h9) rfl dX0_value_59 ?_
            refine lv_iload_n hx hb dX0_value_62 rfl (lv_at hl 1 rfl) ?_
            refine z_calli (As := [.int ao1, .int so]) (rest := [.int ix]) ⟨hx, hb, hml, hown, hts⟩ (zc_count l D cA H.size h (nI kl) (zn_F ky) (zn_F ch) (zn_F nu) (zn_F be) he (zn_F en) es ev (nI ((z_lk nm es ev he so 5 (z_P ky kl) 1).1)) (nI ((z_lk nm es ev he so 5 (z_P ky kl) 1).2.1)) (ao1) (nI ((z_lk nm es ev he so 5 (z_P ky kl) 1).2.2)) (nI al1) (zn_F ak1) (ao1) (so) hhe) (cwV 2 hts (lw_V q105 q107 qs1 q21 q108) rfl rfl rfl (by decide +kernel) ⟨Nat.le_of_ble_eq_true rfl, Nat.le_of_ble_eq_true rfl⟩) (va_recv hK hP (ci := 0) (q0 := 0) rfl rfl) hK hP hD hS hA rfl hl.1 rfl (Nat.le_of_ble_eq_true rfl) dX0_value_63 (Nat.zero_le _) (Nat.zero_le _) (fun r_63 u_63 H locs hw_63 hP hD hS => ?_)
            have hw_63 : r_63 = nI (z_cnt (zn_F nm) es (nI (z_lk nm es ev he so 5 (z_P ky kl) 1).2.1) so he) := Eq.trans hw_63 (by rw [z_cnt_congr hgr])
            subst hw_63
            have hle_63 := z_cnt_le (zn_F nm) es (nI (z_lk nm es ev he so 5 (z_P ky kl) 1).2.1) so he
            have hP : va_P D z_cl (z_w0 cA h (nI kl) (zn_F ky) (zn_F ch) (zn_F nu) (zn_F be) (nI he) (zn_F en) es ev (nI ((z_lk nm es ev he so 5 (z_P ky kl) 1).1)) (nI ((z_lk nm es ev he so 5 (z_P ky kl) 1).2.1)) (ao1) (nI ((z_lk nm es ev he so 5 (z_P ky kl) 1).2.2)) (nI al1) (zn_F ak1)) H := hP
            have hD : va_D A (z_w0 cA h (nI kl) (zn_F ky) (zn_F ch) (zn_F nu) (zn_F be) (nI he) (zn_F en) es ev (nI ((z_lk nm es ev he so 5 (z_P ky kl) 1).1)) (nI ((z_lk nm es ev he so 5 (z_P ky kl) 1).2.1)) (ao1) (nI ((z_lk nm es ev he so 5 (z_P ky kl) 1).2.2)) (nI al1) (zn_F ak1)) := hD
            refine lv_icmp_ge (tgt := 82) (x := ix) (y := nI (z_cnt (zn_F nm) es (nI (z_lk nm es ev he so 5 (z_P ky kl) 1).2.1) so he)) hx hb dX0_value_66 (by decide) (fun c_66 => ?_) (fun c_66 => ?_)
            · refine lv_iconst (v := nI 0) hx hb dX0_value_82 (by decide) ?_
              exact hret (nI 0) (nI (z_lk nm es ev he so 5 (z_P ky kl) 1).1, nI (z_lk nm es ev he so 5 (z_P ky kl) 1).2.1, ao1, nI (z_lk nm es ev he so 5 (z_P ky kl) 1).2.2, al1, ak1) _ _ _ _ dX0_value_83 rfl ⟨g1, Or.inl ⟨⟨c_2, c_7⟩, by simp only [z_vl]; rw [if_pos c_49]; exact (z_val_out (by omega) (Or.inr c_66)).symm⟩⟩ hP hD hS
            · refine lv_aload_n hx hb dX0_value_69 rfl (lv_at hl 0 rfl) ?_
              refine lv_aload_n hx hb dX0_value_70 rfl (lv_at hl 0 rfl) ?_
              refine va_get (D := D) (ci := 0) (v := .int ao1) (C := RX0) (T := TX0) (N := 15) hx hb hts in_X0 hown hK hP 0 rfl rfl 11 (by decide) (hts _ q42) (fun _ h9 => h9) rfl dX0_value_71 ?_
              refine lv_iload_n hx hb dX0_value_74 rfl (lv_at hl 1 rfl) ?_
              refine lv_iload_n hx hb dX0_value_75 rfl (lv_at hl 2 rfl) ?_
              refine z_calli (As := [.int ao1, .int so, .int ix]) (rest := []) ⟨hx, hb, hml, hown, hts⟩ (zc_ranked l D cA H.size h (nI kl) (zn_F ky) (zn_F ch) (zn_F nu) (zn_F be) he (zn_F en) es ev (nI ((z_lk nm es ev he so 5 (z_P ky kl) 1).1)) (nI ((z_lk nm es ev he so 5 (z_P ky kl) 1).2.1)) (ao1) (nI ((z_lk nm es ev he so 5 (z_P ky kl) 1).2.2)) (nI al1) (zn_F ak1) (ao1) (so) (ix) hhe) (cwV 3 hts (lw_V q157 q159 qs11 q21 q160) rfl rfl rfl (by decide +kernel) ⟨Nat.le_of_ble_eq_true rfl, Nat.le_of_ble_eq_true rfl⟩) (va_recv hK hP (ci := 0) (q0 := 0) rfl rfl) hK hP hD hS hA rfl hl.1 rfl (Nat.le_of_ble_eq_true rfl) dX0_value_76 (Nat.zero_le _) (Nat.zero_le _) (fun r_76 u_76 H locs hw_76 hP hD hS => ?_)
              have hw_76 : r_76 = z_val (zn_F nm) es ev (nI (z_lk nm es ev he so 5 (z_P ky kl) 1).2.1) (so) (ix) he := Eq.trans hw_76 (z_val_congr hgr)
              subst hw_76
              have hP : va_P D z_cl (z_w0 cA h (nI kl) (zn_F ky) (zn_F ch) (zn_F nu) (zn_F be) (nI he) (zn_F en) es ev (nI ((z_lk nm es ev he so 5 (z_P ky kl) 1).1)) (nI ((z_lk nm es ev he so 5 (z_P ky kl) 1).2.1)) (ao1) (nI ((z_lk nm es ev he so 5 (z_P ky kl) 1).2.2)) (nI al1) (zn_F ak1)) H := hP
              have hD : va_D A (z_w0 cA h (nI kl) (zn_F ky) (zn_F ch) (zn_F nu) (zn_F be) (nI he) (zn_F en) es ev (nI ((z_lk nm es ev he so 5 (z_P ky kl) 1).1)) (nI ((z_lk nm es ev he so 5 (z_P ky kl) 1).2.1)) (ao1) (nI ((z_lk nm es ev he so 5 (z_P ky kl) 1).2.2)) (nI al1) (zn_F ak1)) := hD
              refine lv_goto (tgt := 83) hx hb dX0_value_79 (by decide) ?_
              exact hret ((z_val (zn_F nm) es ev (nI (z_lk nm es ev he so 5 (z_P ky kl) 1).2.1) (so) (ix) he)) (nI (z_lk nm es ev he so 5 (z_P ky kl) 1).1, nI (z_lk nm es ev he so 5 (z_P ky kl) 1).2.1, ao1, nI (z_lk nm es ev he so 5 (z_P ky kl) 1).2.2, al1, ak1) _ _ _ _ dX0_value_83 rfl ⟨g1, Or.inl ⟨⟨c_2, c_7⟩, by simp only [z_vl]; rw [if_pos c_49]⟩⟩ hP hD hS
      · refine lv_iload_n hx hb dX0_value_25 rfl (lv_at hl 2 rfl) ?_
        refine lv_if_ne (tgt := 42) (x := ix) hx hb dX0_value_26 (by decide) (fun c_26 => ?_) (fun c_26 => ?_)
        · refine lv_iconst (v := nI 0) hx hb dX0_value_42 (by decide) ?_
          exact hret (nI 0) (nI (z_lk nm es ev he so 5 (z_P ky kl) 1).1, nI (z_lk nm es ev he so 5 (z_P ky kl) 1).2.1, ao1, nI (z_lk nm es ev he so 5 (z_P ky kl) 1).2.2, al1, ak1) _ _ _ _ dX0_value_43 rfl ⟨g1, Or.inl ⟨⟨c_2, c_7⟩, by simp only [z_vl]; rw [if_neg (by omega), if_neg (fun q => c_26 q.2)]⟩⟩ hP hD hS
        · obtain ⟨nd, hnd0, hnd1, hnd2, hnd3⟩ := g6 (Or.inr c_22)
          have hgr : ∀ e, e < he → (zn_F en e = ao1 ↔ zn_F nm e = nI (z_lk nm es ev he so 5 (z_P ky kl) 1).2.1) := by have hnd0 : ao1 = nI nd := hnd0; rw [hnd0, ← hnd3]; exact z_I_rel hI hnd1 hnd2 (by rw [hnd3]; exact z_lk_pl hI hals)
          refine lv_aload_n hx hb dX0_value_29 rfl (lv_at hl 0 rfl) ?_
          refine lv_aload_n hx hb dX0_value_30 rfl (lv_at hl 0 rfl) ?_
          refine va_get (D := D) (ci := 0) (v := .int ao1) (C := RX0) (T := TX0) (N := 15) hx hb hts in_X0 hown hK hP 0 rfl rfl 11 (by decide) (hts _ q42) (fun _ h9 => h9) rfl dX0_value_31 ?_
          refine lv_iconst (v := nI 4) hx hb dX0_value_34 (by decide) ?_
          refine lv_iconst (v := nI 0) hx hb dX0_value_35 (by decide) ?_
          refine z_calli (As := [.int ao1, .int (nI 4), .int (nI 0)]) (rest := []) ⟨hx, hb, hml, hown, hts⟩ (zc_ranked l D cA H.size h (nI kl) (zn_F ky) (zn_F ch) (zn_F nu) (zn_F be) he (zn_F en) es ev (nI ((z_lk nm es ev he so 5 (z_P ky kl) 1).1)) (nI ((z_lk nm es ev he so 5 (z_P ky kl) 1).2.1)) (ao1) (nI ((z_lk nm es ev he so 5 (z_P ky kl) 1).2.2)) (nI al1) (zn_F ak1) (ao1) (nI 4) (nI 0) hhe) (cwV 3 hts (lw_V q157 q159 qs11 q21 q160) rfl rfl rfl (by decide +kernel) ⟨Nat.le_of_ble_eq_true rfl, Nat.le_of_ble_eq_true rfl⟩) (va_recv hK hP (ci := 0) (q0 := 0) rfl rfl) hK hP hD hS hA rfl hl.1 rfl (Nat.le_of_ble_eq_true rfl) dX0_value_36 (Nat.zero_le _) (Nat.zero_le _) (fun r_36 u_36 H locs hw_36 hP hD hS => ?_)
          have hw_36 : r_36 = z_val (zn_F nm) es ev (nI (z_lk nm es ev he so 5 (z_P ky kl) 1).2.1) (nI 4) (nI 0) he := Eq.trans hw_36 (z_val_congr hgr)
          subst hw_36
          have hP : va_P D z_cl (z_w0 cA h (nI kl) (zn_F ky) (zn_F ch) (zn_F nu) (zn_F be) (nI he) (zn_F en) es ev (nI ((z_lk nm es ev he so 5 (z_P ky kl) 1).1)) (nI ((z_lk nm es ev he so 5 (z_P ky kl) 1).2.1)) (ao1) (nI ((z_lk nm es ev he so 5 (z_P ky kl) 1).2.2)) (nI al1) (zn_F ak1)) H := hP
          have hD : va_D A (z_w0 cA h (nI kl) (zn_F ky) (zn_F ch) (zn_F nu) (zn_F be) (nI he) (zn_F en) es ev (nI ((z_lk nm es ev he so 5 (z_P ky kl) 1).1)) (nI ((z_lk nm es ev he so 5 (z_P ky kl) 1).2.1)) (ao1) (nI ((z_lk nm es ev he so 5 (z_P ky kl) 1).2.2)) (nI al1) (zn_F ak1)) := hD
          refine lv_goto (tgt := 43) hx hb dX0_value_39 (by decide) ?_
          exact hret ((z_val (zn_F nm) es ev (nI (z_lk nm es ev he so 5 (z_P ky kl) 1).2.1) (nI 4) (nI 0) he)) (nI (z_lk nm es ev he so 5 (z_P ky kl) 1).1, nI (z_lk nm es ev he so 5 (z_P ky kl) 1).2.1, ao1, nI (z_lk nm es ev he so 5 (z_P ky kl) 1).2.2, al1, ak1) _ _ _ _ dX0_value_43 rfl ⟨g1, Or.inl ⟨⟨c_2, c_7⟩, by simp only [z_vl]; rw [if_neg (by omega), if_pos ⟨c_22, c_26⟩]⟩⟩ hP hD hS
    · refine lv_iconst (v := nI 0) hx hb dX0_value_10 (by decide) ?_
      exact hret (nI 0) (an, ap, ao, ar, al, ak) _ _ _ _ dX0_value_11 rfl ⟨hak, Or.inr ⟨(fun q => c_7 q.2), rfl⟩⟩ hP hD hS
set_option maxHeartbeats 4000000 in
/-- exists() -/
theorem zc_exists (l : Launch) (D : va_G) (cA : ClassId) (sz : Nat) (h : Nat → Nat) (kl : Nat) (ky ch nu be : Nat → Nat) (he : Nat) (en : Nat → Nat) (es ev : Nat → Int32) (an ap ao ar : Int32) (al : Nat) (ak : Nat → Nat) (nm : Nat → Nat) (hI : z_I kl ky ch nu be he en es ev nm) (hak : ∀ j, ak j < 8) : z_Mi (S := Unit) l yX0_exists cX0_exists 1 .int ({ frames := 1, cells := 0, slots := 0, locals := 22 } : Room) D cA sz [.ref (h 0)] (z_w0 cA h (nI kl) (zn_F ky) (zn_F ch) (zn_F nu) (zn_F be) (nI he) (zn_F en) es ev (an) (ap) (ao) (ar) (nI al) (zn_F ak)) (fun r _ => (r = nI 1 ∧ z_thr nm he (z_P ky kl)) ∨ (r = nI 0 ∧ ¬ z_thr nm he (z_P ky kl))) (fun _ => z_w0 cA h (nI kl) (zn_F ky) (zn_F ch) (zn_F nu) (zn_F be) (nI he) (zn_F en) es ev (an) (ap) (ao) (ar) (nI al) (zn_F ak)) := by
  obtain ⟨hkl, hky, hhe, hnm, hT, hsb, hen, hals, hrm⟩ := id hI
  refine z_ofi (by decide) (Nat.le_of_ble_eq_true rfl) ?_
  intro p e s m below meth c A Q hx hb hml hown hts hA hret hK hP hD hS ls hl
  have hown : s.vm.findClass RX0 = some m.cls := hown
  have hl : lv_has ls 1 [(0, .ref (h 0))] := hl
  refine lv_aload_n hx hb dX0_exists_0 rfl (lv_at hl 0 rfl) ?_
  refine z_calli (As := []) (rest := []) ⟨hx, hb, hml, hown, hts⟩ (zc_findNode l D cA s.heap.size h kl ky ch (zn_F nu) (zn_F be) he (zn_F en) es ev (an) (ap) (ao) (ar) (nI al) (zn_F ak) hkl hky hT.2.1) (cwV 0 hts (lw_V q101 q103 qs0 q21 q104) rfl rfl rfl (by decide +kernel) ⟨Nat.le_of_ble_eq_true rfl, Nat.le_of_ble_eq_true rfl⟩) (va_recv hK hP (ci := 0) (q0 := 0) rfl rfl) hK hP hD hS hA rfl hl.1 rfl (Nat.le_of_ble_eq_true rfl) dX0_exists_1 (Nat.zero_le _) (Nat.zero_le _) (fun r_1 u_1 H locs hw_1 hP hD hS => ?_)
  rcases hw_1 with ⟨nd, hf, rfl⟩ | ⟨hf, rfl⟩
  · obtain ⟨hnd1, hnd2, hnd3⟩ := z_fn_some hI hf
    have hP : va_P D z_cl (z_w0 cA h (nI kl) (zn_F ky) (zn_F ch) (zn_F nu) (zn_F be) (nI he) (zn_F en) es ev (an) (ap) (ao) (ar) (nI al) (zn_F ak)) H := hP
    have hD : va_D A (z_w0 cA h (nI kl) (zn_F ky) (zn_F ch) (zn_F nu) (zn_F be) (nI he) (zn_F en) es ev (an) (ap) (ao) (ar) (nI al) (zn_F ak)) := hD
    refine zn_if_lt (tgt := 11) hx hb (a := nd) (by omega) dX0_exists_4 (by decide) ?_
    refine lv_iconst (v := nI 1) hx hb dX0_exists_7 (by decide) ?_
    refine lv_goto (tgt := 12) hx hb dX0_exists_8 (by decide) ?_
    exact hret (nI 1) () _ _ _ _ dX0_exists_12 rfl (Or.inl ⟨rfl, by rw [← hnd3]; exact z_live_thr hT hnd1 hnd2⟩) hP hD hS
  · obtain ⟨hkl1, hpz⟩ := z_fn_none hI hf
    have hP : va_P D z_cl (z_w0 cA h (nI kl) (zn_F ky) (zn_F ch) (zn_F nu) (zn_F be) (nI he) (zn_F en) es ev (an) (ap) (ao) (ar) (nI al) (zn_F ak)) H := hP
    have hD : va_D A (z_w0 cA h (nI kl) (zn_F ky) (zn_F ch) (zn_F nu) (zn_F be) (nI he) (zn_F en) es ev (an) (ap) (ao) (ar) (nI al) (zn_F ak)) := hD
    refine lv_if_lt (tgt := 11) (x := (-1)) hx hb dX0_exists_4 (by decide) (fun c_4 => ?_) (fun c_4 => absurd c_4 (by decide))
    refine lv_iconst (v := nI 0) hx hb dX0_exists_11 (by decide) ?_
    exact hret (nI 0) () _ _ _ _ dX0_exists_12 rfl (Or.inr ⟨rfl, fun q => q.elim (z_P_ne hkl1) (fun q => by omega)⟩) hP hD hS
set_option maxHeartbeats 4000000 in
/-- add(sort, value) -/
theorem zc_add (l : Launch) (D : va_G) (cA : ClassId) (sz : Nat) (h : Nat → Nat) (kl : Nat) (ky ch nu be : Nat → Nat) (he : Nat) (en : Nat → Nat) (es ev : Nat → Int32) (an ap ao ar : Int32) (al : Nat) (ak : Nat → Nat) (so va : Int32) (nm : Nat → Nat) (hI : z_I kl ky ch nu be he en es ev nm) (hak : ∀ j, ak j < 8) : z_Mi (S := Nat × (Nat → Nat) × (Nat → Int32) × (Nat → Int32) × (Nat → Nat) × (Nat → Nat) × (Nat → Nat)) l yX0_add cX0_add 5 .int ({ frames := 2, cells := 0, slots := 0, locals := 44 } : Room) D cA sz [.ref (h 0), .int so, .int va] (z_w0 cA h (nI kl) (zn_F ky) (zn_F ch) (zn_F nu) (zn_F be) (nI he) (zn_F en) es ev (an) (ap) (ao) (ar) (nI al) (zn_F ak)) (fun r (u : Nat × (Nat → Nat) × (Nat → Int32) × (Nat → Int32) × (Nat → Nat) × (Nat → Nat) × (Nat → Nat)) => ∃ nm2, z_add nm es ev he (z_P ky kl) so va r (u.1, nm2, u.2.2.1, u.2.2.2.1) ∧ z_I kl ky u.2.2.2.2.1 u.2.2.2.2.2.1 u.2.2.2.2.2.2 u.1 u.2.1 u.2.2.1 u.2.2.2.1 nm2) (fun u => z_w0 cA h (nI kl) (zn_F ky) (zn_F u.2.2.2.2.1) (zn_F u.2.2.2.2.2.1) (zn_F u.2.2.2.2.2.2) (nI u.1) (zn_F u.2.1) u.2.2.1 u.2.2.2.1 (an) (ap) (ao) (ar) (nI al) (zn_F ak)) := by
  obtain ⟨hkl, hky, hhe, hnm, hT, hsb, hen, hals, hrm⟩ := id hI
  refine z_ofi (by decide) (Nat.le_of_ble_eq_true rfl) ?_
  intro p e s m below meth c A Q hx hb hml hown hts hA hret hK hP hD hS ls hl
  have hown : s.vm.findClass RX0 = some m.cls := hown
  have hl : lv_has ls 5 [(0, .ref (h 0)), (1, .int so), (2, .int va)] := hl
  refine lv_iload_n hx hb dX0_add_0 rfl (lv_at hl 1 rfl) ?_
  refine lv_iconst (v := nI 1) hx hb dX0_add_1 (by decide) ?_
  refine lv_icmp_lt (tgt := 31) (x := so) (y := nI 1) hx hb dX0_add_2 (by decide) (fun c_2 => ?_) (fun c_2 => ?_)
  · refine lv_iconst (v := (-1)) hx hb dX0_add_31 (by decide) ?_
    exact hret ((-1)) (he, en, es, ev, ch, nu, be) _ _ _ _ dX0_add_32 rfl ⟨nm, Or.inr ⟨fun q => q.1.1 c_2, rfl, rfl⟩, hI⟩ hP hD hS
  · refine lv_iload_n hx hb dX0_add_5 rfl (lv_at hl 1 rfl) ?_
    refine lv_iconst (v := nI 4) hx hb dX0_add_6 (by decide) ?_
    refine lv_icmp_gt (tgt := 31) (x := so) (y := nI 4) hx hb dX0_add_7 (by decide) (fun c_7 => ?_) (fun c_7 => ?_)
    · refine lv_iconst (v := (-1)) hx hb dX0_add_31 (by decide) ?_
      exact hret ((-1)) (he, en, es, ev, ch, nu, be) _ _ _ _ dX0_add_32 rfl ⟨nm, Or.inr ⟨fun q => Int32.not_lt.mpr q.1.2 c_7, rfl, rfl⟩, hI⟩ hP hD hS
    · obtain ⟨k, hk1, hk4, rfl⟩ := z_so_k c_2 c_7
      refine lv_aload_n hx hb dX0_add_10 rfl (lv_at hl 0 rfl) ?_
      refine va_get (D := D) (ci := 0) (v := .int (nI he)) (C := RX0) (T := TX0) (N := 15) hx hb hts in_X0 hown hK hP 0 rfl rfl 5 (by decide) (hts _ q36) (fun _ h9 => h9) rfl dX0_add_11 ?_
      refine lv_bipush (v := nI 24) hx hb dX0_add_14 (by decide) ?_
      refine zn_icmp_ge (tgt := 31) hx hb (a := he) (b := 24) (by omega) (by decide) dX0_add_16 (by decide) (fun c_16 => ?_) (fun c_16 => ?_)
      · refine lv_iconst (v := (-1)) hx hb dX0_add_31 (by decide) ?_
        exact hret ((-1)) (he, en, es, ev, ch, nu, be) _ _ _ _ dX0_add_32 rfl ⟨nm, Or.inr ⟨fun q => absurd q.2.2.1 (by omega), rfl, rfl⟩, hI⟩ hP hD hS
      · refine lv_iload_n hx hb dX0_add_19 rfl (lv_at hl 1 rfl) ?_
        refine lv_iconst (v := nI 3) hx hb dX0_add_20 (by decide) ?_
        refine zn_icmp_ne (tgt := 33) hx hb (a := k) (b := 3) (by omega) (by decide) dX0_add_21 (by decide) (fun c_21 => ?_) (fun c_21 => ?_)
        · refine lv_aload_n hx hb dX0_add_33 rfl (lv_at hl 0 rfl) ?_
          refine z_calli (As := []) (rest := []) ⟨hx, hb, hml, hown, hts⟩ (zc_findNode l D cA s.heap.size h kl ky ch (zn_F nu) (zn_F be) he (zn_F en) es ev (an) (ap) (ao) (ar) (nI al) (zn_F ak) hkl hky hT.2.1) (cwV 0 hts (lw_V q101 q103 qs0 q21 q104) rfl rfl rfl (by decide +kernel) ⟨Nat.le_of_ble_eq_true rfl, Nat.le_of_ble_eq_true rfl⟩) (va_recv hK hP (ci := 0) (q0 := 0) rfl rfl) hK hP hD hS hA rfl hl.1 rfl (Nat.le_of_ble_eq_true rfl) dX0_add_34 (Nat.zero_le _) (Nat.zero_le _) (fun r_34 u_34 H locs hw_34 hP hD hS => ?_)
          rcases hw_34 with ⟨nd, hf, rfl⟩ | ⟨hf, rfl⟩
          · obtain ⟨hnd1, hnd2, hnd3⟩ := z_fn_some hI hf
            have hP : va_P D z_cl (z_w0 cA h (nI kl) (zn_F ky) (zn_F ch) (zn_F nu) (zn_F be) (nI he) (zn_F en) es ev (an) (ap) (ao) (ar) (nI al) (zn_F ak)) H := hP
            have hD : va_D A (z_w0 cA h (nI kl) (zn_F ky) (zn_F ch) (zn_F nu) (zn_F be) (nI he) (zn_F en) es ev (an) (ap) (ao) (ar) (nI al) (zn_F ak)) := hD
            refine lv_istore_n (lv' := [(3, .int (nI nd)), (0, .ref (h 0)), (1, .int (nI k)), (2, .int va)]) hx hb dX0_add_37 rfl hl (by decide) rfl (fun ls hl => ?_)
            refine lv_iload_n hx hb dX0_add_38 rfl (lv_at hl 2 rfl) ?_
            refine lv_iconst (v := nI 3) hx hb dX0_add_39 (by decide) ?_
            refine zn_icmp_eq (tgt := 48) hx hb (a := k) (b := 3) (by omega) (by decide) dX0_add_40 (by decide) (fun c_40 => absurd c_40 c_21) (fun c_40 => ?_)
            refine lv_iload_n hx hb dX0_add_43 rfl (lv_at hl 2 rfl) ?_
            refine lv_iconst (v := nI 4) hx hb dX0_add_44 (by decide) ?_
            refine zn_icmp_ne (tgt := 52) hx hb (a := k) (b := 4) (by omega) (by decide) dX0_add_45 (by decide) (fun c_45 => ?_) (fun c_45 => ?_)
            · refine lv_iconst (v := nI 3) hx hb dX0_add_52 (by decide) ?_
              refine lv_istore (lv' := [(4, .int (nI 3)), (3, .int (nI nd)), (0, .ref (h 0)), (1, .int (nI k)), (2, .int va)]) hx hb dX0_add_53 hl (by decide) rfl (fun ls hl => ?_)
              refine lv_iload_n hx hb dX0_add_55 rfl (lv_at hl 1 rfl) ?_
              refine zn_if_lt (tgt := 82) hx hb (a := nd) (by omega) dX0_add_56 (by decide) ?_
              have hgr : ∀ e, e < he → (zn_F en e = nI nd ↔ zn_F nm e = nI (z_P ky kl)) := by rw [← hnd3]; exact z_I_rel hI hnd1 hnd2 (by rw [hnd3]; exact z_P_lt4 hky hkl)
              refine lv_aload_n hx hb dX0_add_59 rfl (lv_at hl 2 rfl) ?_
              refine lv_iload_n hx hb dX0_add_60 rfl (lv_at hl 1 rfl) ?_
              refine lv_iload_n hx hb dX0_add_61 rfl (lv_at hl 3 rfl) ?_
              refine z_calli (As := [.int (nI nd), .int (nI k)]) (rest := []) ⟨hx, hb, hml, hown, hts⟩ (zc_count l D cA H.size h (nI kl) (zn_F ky) (zn_F ch) (zn_F nu) (zn_F be) he (zn_F en) es ev (an) (ap) (ao) (ar) (nI al) (zn_F ak) (nI nd) (nI k) hhe) (cwV 2 hts (lw_V q105 q107 qs1 q21 q108) rfl rfl rfl (by decide +kernel) ⟨Nat.le_of_ble_eq_true rfl, Nat.le_of_ble_eq_true rfl⟩) (va_recv hK hP (ci := 0) (q0 := 0) rfl rfl) hK hP hD hS hA rfl hl.1 rfl (Nat.le_of_ble_eq_true rfl) dX0_add_62 (Nat.zero_le _) (Nat.zero_le _) (fun r_62 u_62 H locs hw_62 hP hD hS => ?_)
              have hw_62 : r_62 = nI (z_cnt (zn_F nm) es (nI (z_P ky kl)) (nI k) he) := Eq.trans hw_62 (by rw [z_cnt_congr hgr])
              subst hw_62
              have hle_62 := z_cnt_le (zn_F nm) es (nI (z_P ky kl)) (nI k) he
              have hP : va_P D z_cl (z_w0 cA h (nI kl) (zn_F ky) (zn_F ch) (zn_F nu) (zn_F be) (nI he) (zn_F en) es ev (an) (ap) (ao) (ar) (nI al) (zn_F ak)) H := hP
              have hD : va_D A (z_w0 cA h (nI kl) (zn_F ky) (zn_F ch) (zn_F nu) (zn_F be) (nI he) (zn_F en) es ev (an) (ap) (ao) (ar) (nI al) (zn_F ak)) := hD
              refine lv_iload hx hb dX0_add_65 (lv_at hl 0 rfl) ?_
              refine zn_icmp_ge (tgt := 80) hx hb (a := z_cnt (zn_F nm) es (nI (z_P ky kl)) (nI k) he) (b := 3) (by omega) (by decide) dX0_add_67 (by decide) (fun c_67 => ?_) (fun c_67 => ?_)
              · refine lv_iconst (v := (-1)) hx hb dX0_add_80 (by decide) ?_
                exact hret ((-1)) (he, en, es, ev, ch, nu, be) _ _ _ _ dX0_add_81 rfl ⟨nm, Or.inr ⟨fun q => by have h9 := q.2.2.2.2; rw [z_room_k hk4] at h9; split at h9 <;> omega, rfl, rfl⟩, hI⟩ hP hD hS
              · refine lv_aload_n hx hb dX0_add_70 rfl (lv_at hl 2 rfl) ?_
                refine lv_iload_n hx hb dX0_add_71 rfl (lv_at hl 1 rfl) ?_
                refine lv_iload_n hx hb dX0_add_72 rfl (lv_at hl 3 rfl) ?_
                refine lv_iload_n hx hb dX0_add_73 rfl (lv_at hl 4 rfl) ?_
                refine z_calli (As := [.int (nI nd), .int (nI k), .int va]) (rest := []) ⟨hx, hb, hml, hown, hts⟩ (zc_entryAt l D cA H.size h (nI kl) (zn_F ky) (zn_F ch) (zn_F nu) (zn_F be) he (zn_F en) es ev (an) (ap) (ao) (ar) (nI al) (zn_F ak) (nI nd) (nI k) (va) hhe) (cwV 3 hts (lw_V q109 q111 qs2 q21 q112) rfl rfl rfl (by decide +kernel) ⟨Nat.le_of_ble_eq_true rfl, Nat.le_of_ble_eq_true rfl⟩) (va_recv hK hP (ci := 0) (q0 := 0) rfl rfl) hK hP hD hS hA rfl hl.1 rfl (Nat.le_of_ble_eq_true rfl) dX0_add_74 (Nat.zero_le _) (Nat.zero_le _) (fun r_74 u_74 H locs hw_74 hP hD hS => ?_)
                rcases hw_74 with ⟨j, hj, rfl⟩ | ⟨hj, rfl⟩
                · rw [z_at_congr hgr] at hj
                  have hjl := (z_at_spec hj).1
                  have hP : va_P D z_cl (z_w0 cA h (nI kl) (zn_F ky) (zn_F ch) (zn_F nu) (zn_F be) (nI he) (zn_F en) es ev (an) (ap) (ao) (ar) (nI al) (zn_F ak)) H := hP
                  have hD : va_D A (z_w0 cA h (nI kl) (zn_F ky) (zn_F ch) (zn_F nu) (zn_F be) (nI he) (zn_F en) es ev (an) (ap) (ao) (ar) (nI al) (zn_F ak)) := hD
                  refine zn_if_lt (tgt := 82) hx hb (a := j) (by omega) dX0_add_77 (by decide) ?_
                  refine lv_iconst (v := (-1)) hx hb dX0_add_80 (by decide) ?_
                  exact hret ((-1)) (he, en, es, ev, ch, nu, be) _ _ _ _ dX0_add_81 rfl ⟨nm, Or.inr ⟨fun q => by have h9 := q.2.2.2.1; rw [hj] at h9; exact absurd h9 (by simp), rfl, rfl⟩, hI⟩ hP hD hS
                · rw [z_at_congr hgr] at hj
                  have hP : va_P D z_cl (z_w0 cA h (nI kl) (zn_F ky) (zn_F ch) (zn_F nu) (zn_F be) (nI he) (zn_F en) es ev (an) (ap) (ao) (ar) (nI al) (zn_F ak)) H := hP
                  have hD : va_D A (z_w0 cA h (nI kl) (zn_F ky) (zn_F ch) (zn_F nu) (zn_F be) (nI he) (zn_F en) es ev (an) (ap) (ao) (ar) (nI al) (zn_F ak)) := hD
                  refine lv_if_lt (tgt := 82) (x := (-1)) hx hb dX0_add_77 (by decide) (fun c_77 => ?_) (fun c_77 => absurd c_77 (by decide))
                  refine lv_aload_n hx hb dX0_add_82 rfl (lv_at hl 2 rfl) ?_
                  refine va_get (D := D) (ci := 0) (v := .ref (h 5)) (C := RX0) (T := TX0) (N := 15) hx hb hts in_X0 hown hK hP 0 rfl rfl 6 (by decide) (hts _ q37) (fun _ h9 => h9) rfl dX0_add_83 ?_
                  refine lv_aload_n hx hb dX0_add_86 rfl (lv_at hl 2 rfl) ?_
                  refine va_get (D := D) (ci := 0) (v := .int (nI he)) (C := RX0) (T := TX0) (N := 15) hx hb hts in_X0 hown hK hP 0 rfl rfl 5 (by decide) (hts _ q36) (fun _ h9 => h9) rfl dX0_add_87 ?_
                  refine lv_aload_n hx hb dX0_add_90 rfl (lv_at hl 2 rfl) ?_
                  refine z_calli (As := []) (rest := [.int (nI he), .ref (h 5)]) ⟨hx, hb, hml, hown, hts⟩ (zc_growNode l D cA H.size h kl ky ch nu be he (zn_F en) es ev (an) (ap) (ao) (ar) (nI al) (zn_F ak) (fun p => z_pc nm p he) hkl hky hT (z_pc_M hnm he) (by have := z_dp_sum nm he; omega)) (cwV 0 hts (lw_V q113 q115 qs3 q21 q116) rfl rfl rfl (by decide +kernel) ⟨Nat.le_of_ble_eq_true rfl, Nat.le_of_ble_eq_true rfl⟩) (va_recv hK hP (ci := 0) (q0 := 0) rfl rfl) hK hP hD hS hA rfl hl.1 rfl (Nat.le_of_ble_eq_true rfl) dX0_add_91 (Nat.zero_le _) (Nat.zero_le _) (fun r_91 u_91 H locs hw_91 hP hD hS => ?_)
                  obtain ⟨ch1, nu1, be1⟩ := u_91
                  obtain ⟨nd1, hr_91, hG⟩ := hw_91
                  subst hr_91
                  have hP : va_P D z_cl (z_w0 cA h (nI kl) (zn_F ky) (zn_F ch1) (zn_F nu1) (zn_F be1) (nI he) (zn_F en) es ev (an) (ap) (ao) (ar) (nI al) (zn_F ak)) H := hP
                  have hD : va_D A (z_w0 cA h (nI kl) (zn_F ky) (zn_F ch1) (zn_F nu1) (zn_F be1) (nI he) (zn_F en) es ev (an) (ap) (ao) (ar) (nI al) (zn_F ak)) := hD
                  refine zn_ast hx hb hK hP hD hS 5 0 rfl rfl (i := he) (x := nd1) (by omega) (by decide) dX0_add_94 (fun H locs hP hD hS => ?_)
                  have hP : va_P D z_cl (z_w0 cA h (nI kl) (zn_F ky) (zn_F ch1) (zn_F nu1) (zn_F be1) (nI he) (zn_F (zn_u en he nd1)) es ev (an) (ap) (ao) (ar) (nI al) (zn_F ak)) H := hP
                  have hD : va_D A (z_w0 cA h (nI kl) (zn_F ky) (zn_F ch1) (zn_F nu1) (zn_F be1) (nI he) (zn_F (zn_u en he nd1)) es ev (an) (ap) (ao) (ar) (nI al) (zn_F ak)) := hD
                  refine lv_aload_n hx hb dX0_add_95 rfl (lv_at hl 2 rfl) ?_
                  refine va_get (D := D) (ci := 0) (v := .ref (h 6)) (C := RX0) (T := TX0) (N := 15) hx hb hts in_X0 hown hK hP 0 rfl rfl 7 (by decide) (hts _ q38) (fun _ h9 => h9) rfl dX0_add_96 ?_
                  refine lv_aload_n hx hb dX0_add_99 rfl (lv_at hl 2 rfl) ?_
                  refine va_get (D := D) (ci := 0) (v := .int (nI he)) (C := RX0) (T := TX0) (N := 15) hx hb hts in_X0 hown hK hP 0 rfl rfl 5 (by decide) (hts _ q36) (fun _ h9 => h9) rfl dX0_add_100 ?_
                  refine lv_iload_n hx hb dX0_add_103 rfl (lv_at hl 3 rfl) ?_
                  refine zn_ist hx hb hK hP hD hS 6 0 rfl rfl (i := he) (x := nI k) (by omega) (by decide) dX0_add_104 (fun H locs hP hD hS => ?_)
                  have hP : va_P D z_cl (z_w0 cA h (nI kl) (zn_F ky) (zn_F ch1) (zn_F nu1) (zn_F be1) (nI he) (zn_F (zn_u en he nd1)) (upd es he (nI k)) ev (an) (ap) (ao) (ar) (nI al) (zn_F ak)) H := hP
                  have hD : va_D A (z_w0 cA h (nI kl) (zn_F ky) (zn_F ch1) (zn_F nu1) (zn_F be1) (nI he) (zn_F (zn_u en he nd1)) (upd es he (nI k)) ev (an) (ap) (ao) (ar) (nI al) (zn_F ak)) := hD
                  refine lv_aload_n hx hb dX0_add_105 rfl (lv_at hl 2 rfl) ?_
                  refine va_get (D := D) (ci := 0) (v := .ref (h 7)) (C := RX0) (T := TX0) (N := 15) hx hb hts in_X0 hown hK hP 0 rfl rfl 8 (by decide) (hts _ q39) (fun _ h9 => h9) rfl dX0_add_106 ?_
                  refine lv_aload_n hx hb dX0_add_109 rfl (lv_at hl 2 rfl) ?_
                  refine va_get (D := D) (ci := 0) (v := .int (nI he)) (C := RX0) (T := TX0) (N := 15) hx hb hts in_X0 hown hK hP 0 rfl rfl 5 (by decide) (hts _ q36) (fun _ h9 => h9) rfl dX0_add_110 ?_
                  refine lv_iload_n hx hb dX0_add_113 rfl (lv_at hl 4 rfl) ?_
                  refine zn_ist hx hb hK hP hD hS 7 0 rfl rfl (i := he) (x := va) (by omega) (by decide) dX0_add_114 (fun H locs hP hD hS => ?_)
                  have hP : va_P D z_cl (z_w0 cA h (nI kl) (zn_F ky) (zn_F ch1) (zn_F nu1) (zn_F be1) (nI he) (zn_F (zn_u en he nd1)) (upd es he (nI k)) (upd ev he va) (an) (ap) (ao) (ar) (nI al) (zn_F ak)) H := hP
                  have hD : va_D A (z_w0 cA h (nI kl) (zn_F ky) (zn_F ch1) (zn_F nu1) (zn_F be1) (nI he) (zn_F (zn_u en he nd1)) (upd es he (nI k)) (upd ev he va) (an) (ap) (ao) (ar) (nI al) (zn_F ak)) := hD
                  refine lv_aload_n hx hb dX0_add_115 rfl (lv_at hl 2 rfl) ?_
                  refine lv_dup hx hb dX0_add_116 rfl ?_
                  refine va_get (D := D) (ci := 0) (v := .int (nI he)) (C := RX0) (T := TX0) (N := 15) hx hb hts in_X0 hown hK hP 0 rfl rfl 5 (by decide) (hts _ q36) (fun _ h9 => h9) rfl dX0_add_117 ?_
                  refine lv_iconst (v := nI 1) hx hb dX0_add_120 (by decide) ?_
                  refine zn_iadd hx hb (a := he) (b := 1) dX0_add_121 ?_
                  refine va_put (D := D) (ci := 0) (v := .int (nI (he + 1))) (ty := .int) (C := RX0) (T := TX0) (N := 15) hx hb hts in_X0 tyX0 tyX0_ok nmX0 hown hK hP hD hS 0 rfl rfl 5 (by decide) (hts _ q36) (fun _ h9 => h9) rfl (by decide +kernel) rfl rfl (Nat.le_of_ble_eq_true rfl) dX0_add_122 (fun H locs hP hD hS => ?_)
                  have hP : va_P D z_cl (z_w0 cA h (nI kl) (zn_F ky) (zn_F ch1) (zn_F nu1) (zn_F be1) (nI (he + 1)) (zn_F (zn_u en he nd1)) (upd es he (nI k)) (upd ev he va) (an) (ap) (ao) (ar) (nI al) (zn_F ak)) H := hP
                  have hD : va_D A (z_w0 cA h (nI kl) (zn_F ky) (zn_F ch1) (zn_F nu1) (zn_F be1) (nI (he + 1)) (zn_F (zn_u en he nd1)) (upd es he (nI k)) (upd ev he va) (an) (ap) (ao) (ar) (nI al) (zn_F ak)) := hD
                  refine lv_aload_n hx hb dX0_add_125 rfl (lv_at hl 2 rfl) ?_
                  refine va_get (D := D) (ci := 0) (v := .int (nI (he + 1))) (C := RX0) (T := TX0) (N := 15) hx hb hts in_X0 hown hK hP 0 rfl rfl 5 (by decide) (hts _ q36) (fun _ h9 => h9) rfl dX0_add_126 ?_
                  have hok : z_aok nm es ev he (z_P ky kl) (nI k) va := ⟨z_so_n hk1 hk4, (fun q => absurd ((nI_eq (by omega) (by decide)).mp q) c_21), by omega, hj, by rw [z_room_k hk4]; split <;> omega⟩
                  exact hret (nI (he + 1)) (he + 1, zn_u en he nd1, upd es he (nI k), upd ev he va, ch1, nu1, be1) _ _ _ _ dX0_add_129 rfl ⟨zn_u nm he (z_P ky kl), Or.inl ⟨hok, rfl, rfl⟩, z_I_add hI hok hG⟩ hP hD hS
            · refine lv_iconst (v := nI 1) hx hb dX0_add_48 (by decide) ?_
              refine lv_goto (tgt := 53) hx hb dX0_add_49 (by decide) ?_
              refine lv_istore (lv' := [(4, .int (nI 1)), (3, .int (nI nd)), (0, .ref (h 0)), (1, .int (nI k)), (2, .int va)]) hx hb dX0_add_53 hl (by decide) rfl (fun ls hl => ?_)
              refine lv_iload_n hx hb dX0_add_55 rfl (lv_at hl 1 rfl) ?_
              refine zn_if_lt (tgt := 82) hx hb (a := nd) (by omega) dX0_add_56 (by decide) ?_
              have hgr : ∀ e, e < he → (zn_F en e = nI nd ↔ zn_F nm e = nI (z_P ky kl)) := by rw [← hnd3]; exact z_I_rel hI hnd1 hnd2 (by rw [hnd3]; exact z_P_lt4 hky hkl)
              refine lv_aload_n hx hb dX0_add_59 rfl (lv_at hl 2 rfl) ?_
              refine lv_iload_n hx hb dX0_add_60 rfl (lv_at hl 1 rfl) ?_
              refine lv_iload_n hx hb dX0_add_61 rfl (lv_at hl 3 rfl) ?_
              refine z_calli (As := [.int (nI nd), .int (nI k)]) (rest := []) ⟨hx, hb, hml, hown, hts⟩ (zc_count l D cA H.size h (nI kl) (zn_F ky) (zn_F ch) (zn_F nu) (zn_F be) he (zn_F en) es ev (an) (ap) (ao) (ar) (nI al) (zn_F ak) (nI nd) (nI k) hhe) (cwV 2 hts (lw_V q105 q107 qs1 q21 q108) rfl rfl rfl (by decide +kernel) ⟨Nat.le_of_ble_eq_true rfl, Nat.le_of_ble_eq_true rfl⟩) (va_recv hK hP (ci := 0) (q0 := 0) rfl rfl) hK hP hD hS hA rfl hl.1 rfl (Nat.le_of_ble_eq_true rfl) dX0_add_62 (Nat.zero_le _) (Nat.zero_le _) (fun r_62 u_62 H locs hw_62 hP hD hS => ?_)
              have hw_62 : r_62 = nI (z_cnt (zn_F nm) es (nI (z_P ky kl)) (nI k) he) := Eq.trans hw_62 (by rw [z_cnt_congr hgr])
              subst hw_62
              have hle_62 := z_cnt_le (zn_F nm) es (nI (z_P ky kl)) (nI k) he
              have hP : va_P D z_cl (z_w0 cA h (nI kl) (zn_F ky) (zn_F ch) (zn_F nu) (zn_F be) (nI he) (zn_F en) es ev (an) (ap) (ao) (ar) (nI al) (zn_F ak)) H := hP
              have hD : va_D A (z_w0 cA h (nI kl) (zn_F ky) (zn_F ch) (zn_F nu) (zn_F be) (nI he) (zn_F en) es ev (an) (ap) (ao) (ar) (nI al) (zn_F ak)) := hD
              refine lv_iload hx hb dX0_add_65 (lv_at hl 0 rfl) ?_
              refine zn_icmp_ge (tgt := 80) hx hb (a := z_cnt (zn_F nm) es (nI (z_P ky kl)) (nI k) he) (b := 1) (by omega) (by decide) dX0_add_67 (by decide) (fun c_67 => ?_) (fun c_67 => ?_)
              · refine lv_iconst (v := (-1)) hx hb dX0_add_80 (by decide) ?_
                exact hret ((-1)) (he, en, es, ev, ch, nu, be) _ _ _ _ dX0_add_81 rfl ⟨nm, Or.inr ⟨fun q => by have h9 := q.2.2.2.2; rw [z_room_k hk4] at h9; split at h9 <;> omega, rfl, rfl⟩, hI⟩ hP hD hS
              · refine lv_aload_n hx hb dX0_add_70 rfl (lv_at hl 2 rfl) ?_
                refine lv_iload_n hx hb dX0_add_71 rfl (lv_at hl 1 rfl) ?_
                refine lv_iload_n hx hb dX0_add_72 rfl (lv_at hl 3 rfl) ?_
                refine lv_iload_n hx hb dX0_add_73 rfl (lv_at hl 4 rfl) ?_
                refine z_calli (As := [.int (nI nd), .int (nI k), .int va]) (rest := []) ⟨hx, hb, hml, hown, hts⟩ (zc_entryAt l D cA H.size h (nI kl) (zn_F ky) (zn_F ch) (zn_F nu) (zn_F be) he (zn_F en) es ev (an) (ap) (ao) (ar) (nI al) (zn_F ak) (nI nd) (nI k) (va) hhe) (cwV 3 hts (lw_V q109 q111 qs2 q21 q112) rfl rfl rfl (by decide +kernel) ⟨Nat.le_of_ble_eq_true rfl, Nat.le_of_ble_eq_true rfl⟩) (va_recv hK hP (ci := 0) (q0 := 0) rfl rfl) hK hP hD hS hA rfl hl.1 rfl (Nat.le_of_ble_eq_true rfl) dX0_add_74 (Nat.zero_le _) (Nat.zero_le _) (fun r_74 u_74 H locs hw_74 hP hD hS => ?_)
                rcases hw_74 with ⟨j, hj, rfl⟩ | ⟨hj, rfl⟩
                · rw [z_at_congr hgr] at hj
                  have hjl := (z_at_spec hj).1
                  have hP : va_P D z_cl (z_w0 cA h (nI kl) (zn_F ky) (zn_F ch) (zn_F nu) (zn_F be) (nI he) (zn_F en) es ev (an) (ap) (ao) (ar) (nI al) (zn_F ak)) H := hP
                  have hD : va_D A (z_w0 cA h (nI kl) (zn_F ky) (zn_F ch) (zn_F nu) (zn_F be) (nI he) (zn_F en) es ev (an) (ap) (ao) (ar) (nI al) (zn_F ak)) := hD
                  refine zn_if_lt (tgt := 82) hx hb (a := j) (by omega) dX0_add_77 (by decide) ?_
                  refine lv_iconst (v := (-1)) hx hb dX0_add_80 (by decide) ?_
                  exact hret ((-1)) (he, en, es, ev, ch, nu, be) _ _ _ _ dX0_add_81 rfl ⟨nm, Or.inr ⟨fun q => by have h9 := q.2.2.2.1; rw [hj] at h9; exact absurd h9 (by simp), rfl, rfl⟩, hI⟩ hP hD hS
                · rw [z_at_congr hgr] at hj
                  have hP : va_P D z_cl (z_w0 cA h (nI kl) (zn_F ky) (zn_F ch) (zn_F nu) (zn_F be) (nI he) (zn_F en) es ev (an) (ap) (ao) (ar) (nI al) (zn_F ak)) H := hP
                  have hD : va_D A (z_w0 cA h (nI kl) (zn_F ky) (zn_F ch) (zn_F nu) (zn_F be) (nI he) (zn_F en) es ev (an) (ap) (ao) (ar) (nI al) (zn_F ak)) := hD
                  refine lv_if_lt (tgt := 82) (x := (-1)) hx hb dX0_add_77 (by decide) (fun c_77 => ?_) (fun c_77 => absurd c_77 (by decide))
                  refine lv_aload_n hx hb dX0_add_82 rfl (lv_at hl 2 rfl) ?_
                  refine va_get (D := D) (ci := 0) (v := .ref (h 5)) (C := RX0) (T := TX0) (N := 15) hx hb hts in_X0 hown hK hP 0 rfl rfl 6 (by decide) (hts _ q37) (fun _ h9 => h9) rfl dX0_add_83 ?_
                  refine lv_aload_n hx hb dX0_add_86 rfl (lv_at hl 2 rfl) ?_
                  refine va_get (D := D) (ci := 0) (v := .int (nI he)) (C := RX0) (T := TX0) (N := 15) hx hb hts in_X0 hown hK hP 0 rfl rfl 5 (by decide) (hts _ q36) (fun _ h9 => h9) rfl dX0_add_87 ?_
                  refine lv_aload_n hx hb dX0_add_90 rfl (lv_at hl 2 rfl) ?_
                  refine z_calli (As := []) (rest := [.int (nI he), .ref (h 5)]) ⟨hx, hb, hml, hown, hts⟩ (zc_growNode l D cA H.size h kl ky ch nu be he (zn_F en) es ev (an) (ap) (ao) (ar) (nI al) (zn_F ak) (fun p => z_pc nm p he) hkl hky hT (z_pc_M hnm he) (by have := z_dp_sum nm he; omega)) (cwV 0 hts (lw_V q113 q115 qs3 q21 q116) rfl rfl rfl (by decide +kernel) ⟨Nat.le_of_ble_eq_true rfl, Nat.le_of_ble_eq_true rfl⟩) (va_recv hK hP (ci := 0) (q0 := 0) rfl rfl) hK hP hD hS hA rfl hl.1 rfl (Nat.le_of_ble_eq_true rfl) dX0_add_91 (Nat.zero_le _) (Nat.zero_le _) (fun r_91 u_91 H locs hw_91 hP hD hS => ?_)
                  obtain ⟨ch1, nu1, be1⟩ := u_91
                  obtain ⟨nd1, hr_91, hG⟩ := hw_91
                  subst hr_91
                  have hP : va_P D z_cl (z_w0 cA h (nI kl) (zn_F ky) (zn_F ch1) (zn_F nu1) (zn_F be1) (nI he) (zn_F en) es ev (an) (ap) (ao) (ar) (nI al) (zn_F ak)) H := hP
                  have hD : va_D A (z_w0 cA h (nI kl) (zn_F ky) (zn_F ch1) (zn_F nu1) (zn_F be1) (nI he) (zn_F en) es ev (an) (ap) (ao) (ar) (nI al) (zn_F ak)) := hD
                  refine zn_ast hx hb hK hP hD hS 5 0 rfl rfl (i := he) (x := nd1) (by omega) (by decide) dX0_add_94 (fun H locs hP hD hS => ?_)
                  have hP : va_P D z_cl (z_w0 cA h (nI kl) (zn_F ky) (zn_F ch1) (zn_F nu1) (zn_F be1) (nI he) (zn_F (zn_u en he nd1)) es ev (an) (ap) (ao) (ar) (nI al) (zn_F ak)) H := hP
                  have hD : va_D A (z_w0 cA h (nI kl) (zn_F ky) (zn_F ch1) (zn_F nu1) (zn_F be1) (nI he) (zn_F (zn_u en he nd1)) es ev (an) (ap) (ao) (ar) (nI al) (zn_F ak)) := hD
                  refine lv_aload_n hx hb dX0_add_95 rfl (lv_at hl 2 rfl) ?_
                  refine va_get (D := D) (ci := 0) (v := .ref (h 6)) (C := RX0) (T := TX0) (N := 15) hx hb hts in_X0 hown hK hP 0 rfl rfl 7 (by decide) (hts _ q38) (fun _ h9 => h9) rfl dX0_add_96 ?_
                  refine lv_aload_n hx hb dX0_add_99 rfl (lv_at hl 2 rfl) ?_
                  refine va_get (D := D) (ci := 0) (v := .int (nI he)) (C := RX0) (T := TX0) (N := 15) hx hb hts in_X0 hown hK hP 0 rfl rfl 5 (by decide) (hts _ q36) (fun _ h9 => h9) rfl dX0_add_100 ?_
                  refine lv_iload_n hx hb dX0_add_103 rfl (lv_at hl 3 rfl) ?_
                  refine zn_ist hx hb hK hP hD hS 6 0 rfl rfl (i := he) (x := nI k) (by omega) (by decide) dX0_add_104 (fun H locs hP hD hS => ?_)
                  have hP : va_P D z_cl (z_w0 cA h (nI kl) (zn_F ky) (zn_F ch1) (zn_F nu1) (zn_F be1) (nI he) (zn_F (zn_u en he nd1)) (upd es he (nI k)) ev (an) (ap) (ao) (ar) (nI al) (zn_F ak)) H := hP
                  have hD : va_D A (z_w0 cA h (nI kl) (zn_F ky) (zn_F ch1) (zn_F nu1) (zn_F be1) (nI he) (zn_F (zn_u en he nd1)) (upd es he (nI k)) ev (an) (ap) (ao) (ar) (nI al) (zn_F ak)) := hD
                  refine lv_aload_n hx hb dX0_add_105 rfl (lv_at hl 2 rfl) ?_
                  refine va_get (D := D) (ci := 0) (v := .ref (h 7)) (C := RX0) (T := TX0) (N := 15) hx hb hts in_X0 hown hK hP 0 rfl rfl 8 (by decide) (hts _ q39) (fun _ h9 => h9) rfl dX0_add_106 ?_
                  refine lv_aload_n hx hb dX0_add_109 rfl (lv_at hl 2 rfl) ?_
                  refine va_get (D := D) (ci := 0) (v := .int (nI he)) (C := RX0) (T := TX0) (N := 15) hx hb hts in_X0 hown hK hP 0 rfl rfl 5 (by decide) (hts _ q36) (fun _ h9 => h9) rfl dX0_add_110 ?_
                  refine lv_iload_n hx hb dX0_add_113 rfl (lv_at hl 4 rfl) ?_
                  refine zn_ist hx hb hK hP hD hS 7 0 rfl rfl (i := he) (x := va) (by omega) (by decide) dX0_add_114 (fun H locs hP hD hS => ?_)
                  have hP : va_P D z_cl (z_w0 cA h (nI kl) (zn_F ky) (zn_F ch1) (zn_F nu1) (zn_F be1) (nI he) (zn_F (zn_u en he nd1)) (upd es he (nI k)) (upd ev he va) (an) (ap) (ao) (ar) (nI al) (zn_F ak)) H := hP
                  have hD : va_D A (z_w0 cA h (nI kl) (zn_F ky) (zn_F ch1) (zn_F nu1) (zn_F be1) (nI he) (zn_F (zn_u en he nd1)) (upd es he (nI k)) (upd ev he va) (an) (ap) (ao) (ar) (nI al) (zn_F ak)) := hD
                  refine lv_aload_n hx hb dX0_add_115 rfl (lv_at hl 2 rfl) ?_
                  refine lv_dup hx hb dX0_add_116 rfl ?_
                  refine va_get (D := D) (ci := 0) (v := .int (nI he)) (C := RX0) (T := TX0) (N := 15) hx hb hts in_X0 hown hK hP 0 rfl rfl 5 (by decide) (hts _ q36) (fun _ h9 => h9) rfl dX0_add_117 ?_
                  refine lv_iconst (v := nI 1) hx hb dX0_add_120 (by decide) ?_
                  refine zn_iadd hx hb (a := he) (b := 1) dX0_add_121 ?_
                  refine va_put (D := D) (ci := 0) (v := .int (nI (he + 1))) (ty := .int) (C := RX0) (T := TX0) (N := 15) hx hb hts in_X0 tyX0 tyX0_ok nmX0 hown hK hP hD hS 0 rfl rfl 5 (by decide) (hts _ q36) (fun _ h9 => h9) rfl (by decide +kernel) rfl rfl (Nat.le_of_ble_eq_true rfl) dX0_add_122 (fun H locs hP hD hS => ?_)
                  have hP : va_P D z_cl (z_w0 cA h (nI kl) (zn_F ky) (zn_F ch1) (zn_F nu1) (zn_F be1) (nI (he + 1)) (zn_F (zn_u en he nd1)) (upd es he (nI k)) (upd ev he va) (an) (ap) (ao) (ar) (nI al) (zn_F ak)) H := hP
                  have hD : va_D A (z_w0 cA h (nI kl) (zn_F ky) (zn_F ch1) (zn_F nu1) (zn_F be1) (nI (he + 1)) (zn_F (zn_u en he nd1)) (upd es he (nI k)) (upd ev he va) (an) (ap) (ao) (ar) (nI al) (zn_F ak)) := hD
                  refine lv_aload_n hx hb dX0_add_125 rfl (lv_at hl 2 rfl) ?_
                  refine va_get (D := D) (ci := 0) (v := .int (nI (he + 1))) (C := RX0) (T := TX0) (N := 15) hx hb hts in_X0 hown hK hP 0 rfl rfl 5 (by decide) (hts _ q36) (fun _ h9 => h9) rfl dX0_add_126 ?_
                  have hok : z_aok nm es ev he (z_P ky kl) (nI k) va := ⟨z_so_n hk1 hk4, (fun q => absurd ((nI_eq (by omega) (by decide)).mp q) c_21), by omega, hj, by rw [z_room_k hk4]; split <;> omega⟩
                  exact hret (nI (he + 1)) (he + 1, zn_u en he nd1, upd es he (nI k), upd ev he va, ch1, nu1, be1) _ _ _ _ dX0_add_129 rfl ⟨zn_u nm he (z_P ky kl), Or.inl ⟨hok, rfl, rfl⟩, z_I_add hI hok hG⟩ hP hD hS
          · obtain ⟨hkl1, hpz⟩ := z_fn_none hI hf
            have hP : va_P D z_cl (z_w0 cA h (nI kl) (zn_F ky) (zn_F ch) (zn_F nu) (zn_F be) (nI he) (zn_F en) es ev (an) (ap) (ao) (ar) (nI al) (zn_F ak)) H := hP
            have hD : va_D A (z_w0 cA h (nI kl) (zn_F ky) (zn_F ch) (zn_F nu) (zn_F be) (nI he) (zn_F en) es ev (an) (ap) (ao) (ar) (nI al) (zn_F ak)) := hD
            refine lv_istore_n (lv' := [(3, .int ((-1))), (0, .ref (h 0)), (1, .int (nI k)), (2, .int va)]) hx hb dX0_add_37 rfl hl (by decide) rfl (fun ls hl => ?_)
            refine lv_iload_n hx hb dX0_add_38 rfl (lv_at hl 2 rfl) ?_
            refine lv_iconst (v := nI 3) hx hb dX0_add_39 (by decide) ?_
            refine zn_icmp_eq (tgt := 48) hx hb (a := k) (b := 3) (by omega) (by decide) dX0_add_40 (by decide) (fun c_40 => absurd c_40 c_21) (fun c_40 => ?_)
            refine lv_iload_n hx hb dX0_add_43 rfl (lv_at hl 2 rfl) ?_
            refine lv_iconst (v := nI 4) hx hb dX0_add_44 (by decide) ?_
            refine zn_icmp_ne (tgt := 52) hx hb (a := k) (b := 4) (by omega) (by decide) dX0_add_45 (by decide) (fun c_45 => ?_) (fun c_45 => ?_)
            · refine lv_iconst (v := nI 3) hx hb dX0_add_52 (by decide) ?_
              refine lv_istore (lv' := [(4, .int (nI 3)), (3, .int ((-1))), (0, .ref (h 0)), (1, .int (nI k)), (2, .int va)]) hx hb dX0_add_53 hl (by decide) rfl (fun ls hl => ?_)
              refine lv_iload_n hx hb dX0_add_55 rfl (lv_at hl 1 rfl) ?_
              refine lv_if_lt (tgt := 82) (x := (-1)) hx hb dX0_add_56 (by decide) (fun c_56 => ?_) (fun c_56 => absurd c_56 (by decide))
              refine lv_aload_n hx hb dX0_add_82 rfl (lv_at hl 2 rfl) ?_
              refine va_get (D := D) (ci := 0) (v := .ref (h 5)) (C := RX0) (T := TX0) (N := 15) hx hb hts in_X0 hown hK hP 0 rfl rfl 6 (by decide) (hts _ q37) (fun _ h9 => h9) rfl dX0_add_83 ?_
              refine lv_aload_n hx hb dX0_add_86 rfl (lv_at hl 2 rfl) ?_
              refine va_get (D := D) (ci := 0) (v := .int (nI he)) (C := RX0) (T := TX0) (N := 15) hx hb hts in_X0 hown hK hP 0 rfl rfl 5 (by decide) (hts _ q36) (fun _ h9 => h9) rfl dX0_add_87 ?_
              refine lv_aload_n hx hb dX0_add_90 rfl (lv_at hl 2 rfl) ?_
              refine z_calli (As := []) (rest := [.int (nI he), .ref (h 5)]) ⟨hx, hb, hml, hown, hts⟩ (zc_growNode l D cA H.size h kl ky ch nu be he (zn_F en) es ev (an) (ap) (ao) (ar) (nI al) (zn_F ak) (fun p => z_pc nm p he) hkl hky hT (z_pc_M hnm he) (by have := z_dp_sum nm he; omega)) (cwV 0 hts (lw_V q113 q115 qs3 q21 q116) rfl rfl rfl (by decide +kernel) ⟨Nat.le_of_ble_eq_true rfl, Nat.le_of_ble_eq_true rfl⟩) (va_recv hK hP (ci := 0) (q0 := 0) rfl rfl) hK hP hD hS hA rfl hl.1 rfl (Nat.le_of_ble_eq_true rfl) dX0_add_91 (Nat.zero_le _) (Nat.zero_le _) (fun r_91 u_91 H locs hw_91 hP hD hS => ?_)
              obtain ⟨ch1, nu1, be1⟩ := u_91
              obtain ⟨nd1, hr_91, hG⟩ := hw_91
              subst hr_91
              have hP : va_P D z_cl (z_w0 cA h (nI kl) (zn_F ky) (zn_F ch1) (zn_F nu1) (zn_F be1) (nI he) (zn_F en) es ev (an) (ap) (ao) (ar) (nI al) (zn_F ak)) H := hP
              have hD : va_D A (z_w0 cA h (nI kl) (zn_F ky) (zn_F ch1) (zn_F nu1) (zn_F be1) (nI he) (zn_F en) es ev (an) (ap) (ao) (ar) (nI al) (zn_F ak)) := hD
              refine zn_ast hx hb hK hP hD hS 5 0 rfl rfl (i := he) (x := nd1) (by omega) (by decide) dX0_add_94 (fun H locs hP hD hS => ?_)
              have hP : va_P D z_cl (z_w0 cA h (nI kl) (zn_F ky) (zn_F ch1) (zn_F nu1) (zn_F be1) (nI he) (zn_F (zn_u en he nd1)) es ev (an) (ap) (ao) (ar) (nI al) (zn_F ak)) H := hP
              have hD : va_D A (z_w0 cA h (nI kl) (zn_F ky) (zn_F ch1) (zn_F nu1) (zn_F be1) (nI he) (zn_F (zn_u en he nd1)) es ev (an) (ap) (ao) (ar) (nI al) (zn_F ak)) := hD
              refine lv_aload_n hx hb dX0_add_95 rfl (lv_at hl 2 rfl) ?_
              refine va_get (D := D) (ci := 0) (v := .ref (h 6)) (C := RX0) (T := TX0) (N := 15) hx hb hts in_X0 hown hK hP 0 rfl rfl 7 (by decide) (hts _ q38) (fun _ h9 => h9) rfl dX0_add_96 ?_
              refine lv_aload_n hx hb dX0_add_99 rfl (lv_at hl 2 rfl) ?_
              refine va_get (D := D) (ci := 0) (v := .int (nI he)) (C := RX0) (T := TX0) (N := 15) hx hb hts in_X0 hown hK hP 0 rfl rfl 5 (by decide) (hts _ q36) (fun _ h9 => h9) rfl dX0_add_100 ?_
              refine lv_iload_n hx hb dX0_add_103 rfl (lv_at hl 3 rfl) ?_
              refine zn_ist hx hb hK hP hD hS 6 0 rfl rfl (i := he) (x := nI k) (by omega) (by decide) dX0_add_104 (fun H locs hP hD hS => ?_)
              have hP : va_P D z_cl (z_w0 cA h (nI kl) (zn_F ky) (zn_F ch1) (zn_F nu1) (zn_F be1) (nI he) (zn_F (zn_u en he nd1)) (upd es he (nI k)) ev (an) (ap) (ao) (ar) (nI al) (zn_F ak)) H := hP
              have hD : va_D A (z_w0 cA h (nI kl) (zn_F ky) (zn_F ch1) (zn_F nu1) (zn_F be1) (nI he) (zn_F (zn_u en he nd1)) (upd es he (nI k)) ev (an) (ap) (ao) (ar) (nI al) (zn_F ak)) := hD
              refine lv_aload_n hx hb dX0_add_105 rfl (lv_at hl 2 rfl) ?_
              refine va_get (D := D) (ci := 0) (v := .ref (h 7)) (C := RX0) (T := TX0) (N := 15) hx hb hts in_X0 hown hK hP 0 rfl rfl 8 (by decide) (hts _ q39) (fun _ h9 => h9) rfl dX0_add_106 ?_
              refine lv_aload_n hx hb dX0_add_109 rfl (lv_at hl 2 rfl) ?_
              refine va_get (D := D) (ci := 0) (v := .int (nI he)) (C := RX0) (T := TX0) (N := 15) hx hb hts in_X0 hown hK hP 0 rfl rfl 5 (by decide) (hts _ q36) (fun _ h9 => h9) rfl dX0_add_110 ?_
              refine lv_iload_n hx hb dX0_add_113 rfl (lv_at hl 4 rfl) ?_
              refine zn_ist hx hb hK hP hD hS 7 0 rfl rfl (i := he) (x := va) (by omega) (by decide) dX0_add_114 (fun H locs hP hD hS => ?_)
              have hP : va_P D z_cl (z_w0 cA h (nI kl) (zn_F ky) (zn_F ch1) (zn_F nu1) (zn_F be1) (nI he) (zn_F (zn_u en he nd1)) (upd es he (nI k)) (upd ev he va) (an) (ap) (ao) (ar) (nI al) (zn_F ak)) H := hP
              have hD : va_D A (z_w0 cA h (nI kl) (zn_F ky) (zn_F ch1) (zn_F nu1) (zn_F be1) (nI he) (zn_F (zn_u en he nd1)) (upd es he (nI k)) (upd ev he va) (an) (ap) (ao) (ar) (nI al) (zn_F ak)) := hD
              refine lv_aload_n hx hb dX0_add_115 rfl (lv_at hl 2 rfl) ?_
              refine lv_dup hx hb dX0_add_116 rfl ?_
              refine va_get (D := D) (ci := 0) (v := .int (nI he)) (C := RX0) (T := TX0) (N := 15) hx hb hts in_X0 hown hK hP 0 rfl rfl 5 (by decide) (hts _ q36) (fun _ h9 => h9) rfl dX0_add_117 ?_
              refine lv_iconst (v := nI 1) hx hb dX0_add_120 (by decide) ?_
              refine zn_iadd hx hb (a := he) (b := 1) dX0_add_121 ?_
              refine va_put (D := D) (ci := 0) (v := .int (nI (he + 1))) (ty := .int) (C := RX0) (T := TX0) (N := 15) hx hb hts in_X0 tyX0 tyX0_ok nmX0 hown hK hP hD hS 0 rfl rfl 5 (by decide) (hts _ q36) (fun _ h9 => h9) rfl (by decide +kernel) rfl rfl (Nat.le_of_ble_eq_true rfl) dX0_add_122 (fun H locs hP hD hS => ?_)
              have hP : va_P D z_cl (z_w0 cA h (nI kl) (zn_F ky) (zn_F ch1) (zn_F nu1) (zn_F be1) (nI (he + 1)) (zn_F (zn_u en he nd1)) (upd es he (nI k)) (upd ev he va) (an) (ap) (ao) (ar) (nI al) (zn_F ak)) H := hP
              have hD : va_D A (z_w0 cA h (nI kl) (zn_F ky) (zn_F ch1) (zn_F nu1) (zn_F be1) (nI (he + 1)) (zn_F (zn_u en he nd1)) (upd es he (nI k)) (upd ev he va) (an) (ap) (ao) (ar) (nI al) (zn_F ak)) := hD
              refine lv_aload_n hx hb dX0_add_125 rfl (lv_at hl 2 rfl) ?_
              refine va_get (D := D) (ci := 0) (v := .int (nI (he + 1))) (C := RX0) (T := TX0) (N := 15) hx hb hts in_X0 hown hK hP 0 rfl rfl 5 (by decide) (hts _ q36) (fun _ h9 => h9) rfl dX0_add_126 ?_
              have hok : z_aok nm es ev he (z_P ky kl) (nI k) va := ⟨z_so_n hk1 hk4, (fun q => absurd ((nI_eq (by omega) (by decide)).mp q) c_21), by omega, z_at_no hnm (z_P_lt4 hky hkl) hpz, by rw [z_cnt_none hnm (z_P_lt4 hky hkl) hpz, z_room_k hk4]; split <;> omega⟩
              exact hret (nI (he + 1)) (he + 1, zn_u en he nd1, upd es he (nI k), upd ev he va, ch1, nu1, be1) _ _ _ _ dX0_add_129 rfl ⟨zn_u nm he (z_P ky kl), Or.inl ⟨hok, rfl, rfl⟩, z_I_add hI hok hG⟩ hP hD hS
            · refine lv_iconst (v := nI 1) hx hb dX0_add_48 (by decide) ?_
              refine lv_goto (tgt := 53) hx hb dX0_add_49 (by decide) ?_
              refine lv_istore (lv' := [(4, .int (nI 1)), (3, .int ((-1))), (0, .ref (h 0)), (1, .int (nI k)), (2, .int va)]) hx hb dX0_add_53 hl (by decide) rfl (fun ls hl => ?_)
              refine lv_iload_n hx hb dX0_add_55 rfl (lv_at hl 1 rfl) ?_
              refine lv_if_lt (tgt := 82) (x := (-1)) hx hb dX0_add_56 (by decide) (fun c_56 => ?_) (fun c_56 => absurd c_56 (by decide))
              refine lv_aload_n hx hb dX0_add_82 rfl (lv_at hl 2 rfl) ?_
              refine va_get (D := D) (ci := 0) (v := .ref (h 5)) (C := RX0) (T := TX0) (N := 15) hx hb hts in_X0 hown hK hP 0 rfl rfl 6 (by decide) (hts _ q37) (fun _ h9 => h9) rfl dX0_add_83 ?_
              refine lv_aload_n hx hb dX0_add_86 rfl (lv_at hl 2 rfl) ?_
              refine va_get (D := D) (ci := 0) (v := .int (nI he)) (C := RX0) (T := TX0) (N := 15) hx hb hts in_X0 hown hK hP 0 rfl rfl 5 (by decide) (hts _ q36) (fun _ h9 => h9) rfl dX0_add_87 ?_
              refine lv_aload_n hx hb dX0_add_90 rfl (lv_at hl 2 rfl) ?_
              refine z_calli (As := []) (rest := [.int (nI he), .ref (h 5)]) ⟨hx, hb, hml, hown, hts⟩ (zc_growNode l D cA H.size h kl ky ch nu be he (zn_F en) es ev (an) (ap) (ao) (ar) (nI al) (zn_F ak) (fun p => z_pc nm p he) hkl hky hT (z_pc_M hnm he) (by have := z_dp_sum nm he; omega)) (cwV 0 hts (lw_V q113 q115 qs3 q21 q116) rfl rfl rfl (by decide +kernel) ⟨Nat.le_of_ble_eq_true rfl, Nat.le_of_ble_eq_true rfl⟩) (va_recv hK hP (ci := 0) (q0 := 0) rfl rfl) hK hP hD hS hA rfl hl.1 rfl (Nat.le_of_ble_eq_true rfl) dX0_add_91 (Nat.zero_le _) (Nat.zero_le _) (fun r_91 u_91 H locs hw_91 hP hD hS => ?_)
              obtain ⟨ch1, nu1, be1⟩ := u_91
              obtain ⟨nd1, hr_91, hG⟩ := hw_91
              subst hr_91
              have hP : va_P D z_cl (z_w0 cA h (nI kl) (zn_F ky) (zn_F ch1) (zn_F nu1) (zn_F be1) (nI he) (zn_F en) es ev (an) (ap) (ao) (ar) (nI al) (zn_F ak)) H := hP
              have hD : va_D A (z_w0 cA h (nI kl) (zn_F ky) (zn_F ch1) (zn_F nu1) (zn_F be1) (nI he) (zn_F en) es ev (an) (ap) (ao) (ar) (nI al) (zn_F ak)) := hD
              refine zn_ast hx hb hK hP hD hS 5 0 rfl rfl (i := he) (x := nd1) (by omega) (by decide) dX0_add_94 (fun H locs hP hD hS => ?_)
              have hP : va_P D z_cl (z_w0 cA h (nI kl) (zn_F ky) (zn_F ch1) (zn_F nu1) (zn_F be1) (nI he) (zn_F (zn_u en he nd1)) es ev (an) (ap) (ao) (ar) (nI al) (zn_F ak)) H := hP
              have hD : va_D A (z_w0 cA h (nI kl) (zn_F ky) (zn_F ch1) (zn_F nu1) (zn_F be1) (nI he) (zn_F (zn_u en he nd1)) es ev (an) (ap) (ao) (ar) (nI al) (zn_F ak)) := hD
              refine lv_aload_n hx hb dX0_add_95 rfl (lv_at hl 2 rfl) ?_
              refine va_get (D := D) (ci := 0) (v := .ref (h 6)) (C := RX0) (T := TX0) (N := 15) hx hb hts in_X0 hown hK hP 0 rfl rfl 7 (by decide) (hts _ q38) (fun _ h9 => h9) rfl dX0_add_96 ?_
              refine lv_aload_n hx hb dX0_add_99 rfl (lv_at hl 2 rfl) ?_
              refine va_get (D := D) (ci := 0) (v := .int (nI he)) (C := RX0) (T := TX0) (N := 15) hx hb hts in_X0 hown hK hP 0 rfl rfl 5 (by decide) (hts _ q36) (fun _ h9 => h9) rfl dX0_add_100 ?_
              refine lv_iload_n hx hb dX0_add_103 rfl (lv_at hl 3 rfl) ?_
              refine zn_ist hx hb hK hP hD hS 6 0 rfl rfl (i := he) (x := nI k) (by omega) (by decide) dX0_add_104 (fun H locs hP hD hS => ?_)
              have hP : va_P D z_cl (z_w0 cA h (nI kl) (zn_F ky) (zn_F ch1) (zn_F nu1) (zn_F be1) (nI he) (zn_F (zn_u en he nd1)) (upd es he (nI k)) ev (an) (ap) (ao) (ar) (nI al) (zn_F ak)) H := hP
              have hD : va_D A (z_w0 cA h (nI kl) (zn_F ky) (zn_F ch1) (zn_F nu1) (zn_F be1) (nI he) (zn_F (zn_u en he nd1)) (upd es he (nI k)) ev (an) (ap) (ao) (ar) (nI al) (zn_F ak)) := hD
              refine lv_aload_n hx hb dX0_add_105 rfl (lv_at hl 2 rfl) ?_
              refine va_get (D := D) (ci := 0) (v := .ref (h 7)) (C := RX0) (T := TX0) (N := 15) hx hb hts in_X0 hown hK hP 0 rfl rfl 8 (by decide) (hts _ q39) (fun _ h9 => h9) rfl dX0_add_106 ?_
              refine lv_aload_n hx hb dX0_add_109 rfl (lv_at hl 2 rfl) ?_
              refine va_get (D := D) (ci := 0) (v := .int (nI he)) (C := RX0) (T := TX0) (N := 15) hx hb hts in_X0 hown hK hP 0 rfl rfl 5 (by decide) (hts _ q36) (fun _ h9 => h9) rfl dX0_add_110 ?_
              refine lv_iload_n hx hb dX0_add_113 rfl (lv_at hl 4 rfl) ?_
              refine zn_ist hx hb hK hP hD hS 7 0 rfl rfl (i := he) (x := va) (by omega) (by decide) dX0_add_114 (fun H locs hP hD hS => ?_)
              have hP : va_P D z_cl (z_w0 cA h (nI kl) (zn_F ky) (zn_F ch1) (zn_F nu1) (zn_F be1) (nI he) (zn_F (zn_u en he nd1)) (upd es he (nI k)) (upd ev he va) (an) (ap) (ao) (ar) (nI al) (zn_F ak)) H := hP
              have hD : va_D A (z_w0 cA h (nI kl) (zn_F ky) (zn_F ch1) (zn_F nu1) (zn_F be1) (nI he) (zn_F (zn_u en he nd1)) (upd es he (nI k)) (upd ev he va) (an) (ap) (ao) (ar) (nI al) (zn_F ak)) := hD
              refine lv_aload_n hx hb dX0_add_115 rfl (lv_at hl 2 rfl) ?_
              refine lv_dup hx hb dX0_add_116 rfl ?_
              refine va_get (D := D) (ci := 0) (v := .int (nI he)) (C := RX0) (T := TX0) (N := 15) hx hb hts in_X0 hown hK hP 0 rfl rfl 5 (by decide) (hts _ q36) (fun _ h9 => h9) rfl dX0_add_117 ?_
              refine lv_iconst (v := nI 1) hx hb dX0_add_120 (by decide) ?_
              refine zn_iadd hx hb (a := he) (b := 1) dX0_add_121 ?_
              refine va_put (D := D) (ci := 0) (v := .int (nI (he + 1))) (ty := .int) (C := RX0) (T := TX0) (N := 15) hx hb hts in_X0 tyX0 tyX0_ok nmX0 hown hK hP hD hS 0 rfl rfl 5 (by decide) (hts _ q36) (fun _ h9 => h9) rfl (by decide +kernel) rfl rfl (Nat.le_of_ble_eq_true rfl) dX0_add_122 (fun H locs hP hD hS => ?_)
              have hP : va_P D z_cl (z_w0 cA h (nI kl) (zn_F ky) (zn_F ch1) (zn_F nu1) (zn_F be1) (nI (he + 1)) (zn_F (zn_u en he nd1)) (upd es he (nI k)) (upd ev he va) (an) (ap) (ao) (ar) (nI al) (zn_F ak)) H := hP
              have hD : va_D A (z_w0 cA h (nI kl) (zn_F ky) (zn_F ch1) (zn_F nu1) (zn_F be1) (nI (he + 1)) (zn_F (zn_u en he nd1)) (upd es he (nI k)) (upd ev he va) (an) (ap) (ao) (ar) (nI al) (zn_F ak)) := hD
              refine lv_aload_n hx hb dX0_add_125 rfl (lv_at hl 2 rfl) ?_
              refine va_get (D := D) (ci := 0) (v := .int (nI (he + 1))) (C := RX0) (T := TX0) (N := 15) hx hb hts in_X0 hown hK hP 0 rfl rfl 5 (by decide) (hts _ q36) (fun _ h9 => h9) rfl dX0_add_126 ?_
              have hok : z_aok nm es ev he (z_P ky kl) (nI k) va := ⟨z_so_n hk1 hk4, (fun q => absurd ((nI_eq (by omega) (by decide)).mp q) c_21), by omega, z_at_no hnm (z_P_lt4 hky hkl) hpz, by rw [z_cnt_none hnm (z_P_lt4 hky hkl) hpz, z_room_k hk4]; split <;> omega⟩
              exact hret (nI (he + 1)) (he + 1, zn_u en he nd1, upd es he (nI k), upd ev he va, ch1, nu1, be1) _ _ _ _ dX0_add_129 rfl ⟨zn_u nm he (z_P ky kl), Or.inl ⟨hok, rfl, rfl⟩, z_I_add hI hok hG⟩ hP hD hS
        · refine lv_iload_n hx hb dX0_add_24 rfl (lv_at hl 2 rfl) ?_
          refine z_calls (As := [.int va]) (rest := []) ⟨hx, hb, hml, hown, hts⟩ (zc_isNumber l D cA s.heap.size (z_w0 cA h (nI kl) (zn_F ky) (zn_F ch) (zn_F nu) (zn_F be) (nI he) (zn_F en) es ev (an) (ap) (ao) (ar) (nI al) (zn_F ak)) va) (va_cwS 1 hts (lw_S q98 q99 q21 q100) rfl rfl rfl (by decide +kernel) ⟨Nat.le_of_ble_eq_true rfl, Nat.le_of_ble_eq_true rfl⟩) hK hP hD hS hA rfl hl.1 rfl (Nat.le_of_ble_eq_true rfl) dX0_add_25 (Nat.zero_le _) (Nat.zero_le _) (fun r_25 u_25 H locs hw_25 hP hD hS => ?_)
          rcases hw_25 with ⟨rfl, hi_25⟩ | ⟨rfl, hi_25⟩
          · have hP : va_P D z_cl (z_w0 cA h (nI kl) (zn_F ky) (zn_F ch) (zn_F nu) (zn_F be) (nI he) (zn_F en) es ev (an) (ap) (ao) (ar) (nI al) (zn_F ak)) H := hP
            have hD : va_D A (z_w0 cA h (nI kl) (zn_F ky) (zn_F ch) (zn_F nu) (zn_F be) (nI he) (zn_F en) es ev (an) (ap) (ao) (ar) (nI al) (zn_F ak)) := hD
            refine zn_if_ne (tgt := 33) hx hb (a := 1) (by decide) dX0_add_28 (by decide) (fun c_28 => ?_) (fun c_28 => absurd c_28 (by decide))
            refine lv_aload_n hx hb dX0_add_33 rfl (lv_at hl 0 rfl) ?_
            refine z_calli (As := []) (rest := []) ⟨hx, hb, hml, hown, hts⟩ (zc_findNode l D cA H.size h kl ky ch (zn_F nu) (zn_F be) he (zn_F en) es ev (an) (ap) (ao) (ar) (nI al) (zn_F ak) hkl hky hT.2.1) (cwV 0 hts (lw_V q101 q103 qs0 q21 q104) rfl rfl rfl (by decide +kernel) ⟨Nat.le_of_ble_eq_true rfl, Nat.le_of_ble_eq_true rfl⟩) (va_recv hK hP (ci := 0) (q0 := 0) rfl rfl) hK hP hD hS hA rfl hl.1 rfl (Nat.le_of_ble_eq_true rfl) dX0_add_34 (Nat.zero_le _) (Nat.zero_le _) (fun r_34 u_34 H locs hw_34 hP hD hS => ?_)
            rcases hw_34 with ⟨nd, hf, rfl⟩ | ⟨hf, rfl⟩
            · obtain ⟨hnd1, hnd2, hnd3⟩ := z_fn_some hI hf
              have hP : va_P D z_cl (z_w0 cA h (nI kl) (zn_F ky) (zn_F ch) (zn_F nu) (zn_F be) (nI he) (zn_F en) es ev (an) (ap) (ao) (ar) (nI al) (zn_F ak)) H := hP
              have hD : va_D A (z_w0 cA h (nI kl) (zn_F ky) (zn_F ch) (zn_F nu) (zn_F be) (nI he) (zn_F en) es ev (an) (ap) (ao) (ar) (nI al) (zn_F ak)) := hD
              refine lv_istore_n (lv' := [(3, .int (nI nd)), (0, .ref (h 0)), (1, .int (nI k)), (2, .int va)]) hx hb dX0_add_37 rfl hl (by decide) rfl (fun ls hl => ?_)
              refine lv_iload_n hx hb dX0_add_38 rfl (lv_at hl 2 rfl) ?_
              refine lv_iconst (v := nI 3) hx hb dX0_add_39 (by decide) ?_
              refine zn_icmp_eq (tgt := 48) hx hb (a := k) (b := 3) (by omega) (by decide) dX0_add_40 (by decide) (fun c_40 => ?_) (fun c_40 => absurd c_21 c_40)
              refine lv_iconst (v := nI 1) hx hb dX0_add_48 (by decide) ?_
              refine lv_goto (tgt := 53) hx hb dX0_add_49 (by decide) ?_
              refine lv_istore (lv' := [(4, .int (nI 1)), (3, .int (nI nd)), (0, .ref (h 0)), (1, .int (nI k)), (2, .int va)]) hx hb dX0_add_53 hl (by decide) rfl (fun ls hl => ?_)
              refine lv_iload_n hx hb dX0_add_55 rfl (lv_at hl 1 rfl) ?_
              refine zn_if_lt (tgt := 82) hx hb (a := nd) (by omega) dX0_add_56 (by decide) ?_
              have hgr : ∀ e, e < he → (zn_F en e = nI nd ↔ zn_F nm e = nI (z_P ky kl)) := by rw [← hnd3]; exact z_I_rel hI hnd1 hnd2 (by rw [hnd3]; exact z_P_lt4 hky hkl)
              refine lv_aload_n hx hb dX0_add_59 rfl (lv_at hl 2 rfl) ?_
              refine lv_iload_n hx hb dX0_add_60 rfl (lv_at hl 1 rfl) ?_
              refine lv_iload_n hx hb dX0_add_61 rfl (lv_at hl 3 rfl) ?_
              refine z_calli (As := [.int (nI nd), .int (nI k)]) (rest := []) ⟨hx, hb, hml, hown, hts⟩ (zc_count l D cA H.size h (nI kl) (zn_F ky) (zn_F ch) (zn_F nu) (zn_F be) he (zn_F en) es ev (an) (ap) (ao) (ar) (nI al) (zn_F ak) (nI nd) (nI k) hhe) (cwV 2 hts (lw_V q105 q107 qs1 q21 q108) rfl rfl rfl (by decide +kernel) ⟨Nat.le_of_ble_eq_true rfl, Nat.le_of_ble_eq_true rfl⟩) (va_recv hK hP (ci := 0) (q0 := 0) rfl rfl) hK hP hD hS hA rfl hl.1 rfl (Nat.le_of_ble_eq_true rfl) dX0_add_62 (Nat.zero_le _) (Nat.zero_le _) (fun r_62 u_62 H locs hw_62 hP hD hS => ?_)
              have hw_62 : r_62 = nI (z_cnt (zn_F nm) es (nI (z_P ky kl)) (nI k) he) := Eq.trans hw_62 (by rw [z_cnt_congr hgr])
              subst hw_62
              have hle_62 := z_cnt_le (zn_F nm) es (nI (z_P ky kl)) (nI k) he
              have hP : va_P D z_cl (z_w0 cA h (nI kl) (zn_F ky) (zn_F ch) (zn_F nu) (zn_F be) (nI he) (zn_F en) es ev (an) (ap) (ao) (ar) (nI al) (zn_F ak)) H := hP
              have hD : va_D A (z_w0 cA h (nI kl) (zn_F ky) (zn_F ch) (zn_F nu) (zn_F be) (nI he) (zn_F en) es ev (an) (ap) (ao) (ar) (nI al) (zn_F ak)) := hD
              refine lv_iload hx hb dX0_add_65 (lv_at hl 0 rfl) ?_
              refine zn_icmp_ge (tgt := 80) hx hb (a := z_cnt (zn_F nm) es (nI (z_P ky kl)) (nI k) he) (b := 1) (by omega) (by decide) dX0_add_67 (by decide) (fun c_67 => ?_) (fun c_67 => ?_)
              · refine lv_iconst (v := (-1)) hx hb dX0_add_80 (by decide) ?_
                exact hret ((-1)) (he, en, es, ev, ch, nu, be) _ _ _ _ dX0_add_81 rfl ⟨nm, Or.inr ⟨fun q => by have h9 := q.2.2.2.2; rw [z_room_k hk4] at h9; split at h9 <;> omega, rfl, rfl⟩, hI⟩ hP hD hS
              · refine lv_aload_n hx hb dX0_add_70 rfl (lv_at hl 2 rfl) ?_
                refine lv_iload_n hx hb dX0_add_71 rfl (lv_at hl 1 rfl) ?_
                refine lv_iload_n hx hb dX0_add_72 rfl (lv_at hl 3 rfl) ?_
                refine lv_iload_n hx hb dX0_add_73 rfl (lv_at hl 4 rfl) ?_
                refine z_calli (As := [.int (nI nd), .int (nI k), .int va]) (rest := []) ⟨hx, hb, hml, hown, hts⟩ (zc_entryAt l D cA H.size h (nI kl) (zn_F ky) (zn_F ch) (zn_F nu) (zn_F be) he (zn_F en) es ev (an) (ap) (ao) (ar) (nI al) (zn_F ak) (nI nd) (nI k) (va) hhe) (cwV 3 hts (lw_V q109 q111 qs2 q21 q112) rfl rfl rfl (by decide +kernel) ⟨Nat.le_of_ble_eq_true rfl, Nat.le_of_ble_eq_true rfl⟩) (va_recv hK hP (ci := 0) (q0 := 0) rfl rfl) hK hP hD hS hA rfl hl.1 rfl (Nat.le_of_ble_eq_true rfl) dX0_add_74 (Nat.zero_le _) (Nat.zero_le _) (fun r_74 u_74 H locs hw_74 hP hD hS => ?_)
                rcases hw_74 with ⟨j, hj, rfl⟩ | ⟨hj, rfl⟩
                · rw [z_at_congr hgr] at hj
                  have hjl := (z_at_spec hj).1
                  have hP : va_P D z_cl (z_w0 cA h (nI kl) (zn_F ky) (zn_F ch) (zn_F nu) (zn_F be) (nI he) (zn_F en) es ev (an) (ap) (ao) (ar) (nI al) (zn_F ak)) H := hP
                  have hD : va_D A (z_w0 cA h (nI kl) (zn_F ky) (zn_F ch) (zn_F nu) (zn_F be) (nI he) (zn_F en) es ev (an) (ap) (ao) (ar) (nI al) (zn_F ak)) := hD
                  refine zn_if_lt (tgt := 82) hx hb (a := j) (by omega) dX0_add_77 (by decide) ?_
                  refine lv_iconst (v := (-1)) hx hb dX0_add_80 (by decide) ?_
                  exact hret ((-1)) (he, en, es, ev, ch, nu, be) _ _ _ _ dX0_add_81 rfl ⟨nm, Or.inr ⟨fun q => by have h9 := q.2.2.2.1; rw [hj] at h9; exact absurd h9 (by simp), rfl, rfl⟩, hI⟩ hP hD hS
                · rw [z_at_congr hgr] at hj
                  have hP : va_P D z_cl (z_w0 cA h (nI kl) (zn_F ky) (zn_F ch) (zn_F nu) (zn_F be) (nI he) (zn_F en) es ev (an) (ap) (ao) (ar) (nI al) (zn_F ak)) H := hP
                  have hD : va_D A (z_w0 cA h (nI kl) (zn_F ky) (zn_F ch) (zn_F nu) (zn_F be) (nI he) (zn_F en) es ev (an) (ap) (ao) (ar) (nI al) (zn_F ak)) := hD
                  refine lv_if_lt (tgt := 82) (x := (-1)) hx hb dX0_add_77 (by decide) (fun c_77 => ?_) (fun c_77 => absurd c_77 (by decide))
                  refine lv_aload_n hx hb dX0_add_82 rfl (lv_at hl 2 rfl) ?_
                  refine va_get (D := D) (ci := 0) (v := .ref (h 5)) (C := RX0) (T := TX0) (N := 15) hx hb hts in_X0 hown hK hP 0 rfl rfl 6 (by decide) (hts _ q37) (fun _ h9 => h9) rfl dX0_add_83 ?_
                  refine lv_aload_n hx hb dX0_add_86 rfl (lv_at hl 2 rfl) ?_
                  refine va_get (D := D) (ci := 0) (v := .int (nI he)) (C := RX0) (T := TX0) (N := 15) hx hb hts in_X0 hown hK hP 0 rfl rfl 5 (by decide) (hts _ q36) (fun _ h9 => h9) rfl dX0_add_87 ?_
                  refine lv_aload_n hx hb dX0_add_90 rfl (lv_at hl 2 rfl) ?_
                  refine z_calli (As := []) (rest := [.int (nI he), .ref (h 5)]) ⟨hx, hb, hml, hown, hts⟩ (zc_growNode l D cA H.size h kl ky ch nu be he (zn_F en) es ev (an) (ap) (ao) (ar) (nI al) (zn_F ak) (fun p => z_pc nm p he) hkl hky hT (z_pc_M hnm he) (by have := z_dp_sum nm he; omega)) (cwV 0 hts (lw_V q113 q115 qs3 q21 q116) rfl rfl rfl (by decide +kernel) ⟨Nat.le_of_ble_eq_true rfl, Nat.le_of_ble_eq_true rfl⟩) (va_recv hK hP (ci := 0) (q0 := 0) rfl rfl) hK hP hD hS hA rfl hl.1 rfl (Nat.le_of_ble_eq_true rfl) dX0_add_91 (Nat.zero_le _) (Nat.zero_le _) (fun r_91 u_91 H locs hw_91 hP hD hS => ?_)
                  obtain ⟨ch1, nu1, be1⟩ := u_91
                  obtain ⟨nd1, hr_91, hG⟩ := hw_91
                  subst hr_91
                  have hP : va_P D z_cl (z_w0 cA h (nI kl) (zn_F ky) (zn_F ch1) (zn_F nu1) (zn_F be1) (nI he) (zn_F en) es ev (an) (ap) (ao) (ar) (nI al) (zn_F ak)) H := hP
                  have hD : va_D A (z_w0 cA h (nI kl) (zn_F ky) (zn_F ch1) (zn_F nu1) (zn_F be1) (nI he) (zn_F en) es ev (an) (ap) (ao) (ar) (nI al) (zn_F ak)) := hD
                  refine zn_ast hx hb hK hP hD hS 5 0 rfl rfl (i := he) (x := nd1) (by omega) (by decide) dX0_add_94 (fun H locs hP hD hS => ?_)
                  have hP : va_P D z_cl (z_w0 cA h (nI kl) (zn_F ky) (zn_F ch1) (zn_F nu1) (zn_F be1) (nI he) (zn_F (zn_u en he nd1)) es ev (an) (ap) (ao) (ar) (nI al) (zn_F ak)) H := hP
                  have hD : va_D A (z_w0 cA h (nI kl) (zn_F ky) (zn_F ch1) (zn_F nu1) (zn_F be1) (nI he) (zn_F (zn_u en he nd1)) es ev (an) (ap) (ao) (ar) (nI al) (zn_F ak)) := hD
                  refine lv_aload_n hx hb dX0_add_95 rfl (lv_at hl 2 rfl) ?_
                  refine va_get (D := D) (ci := 0) (v := .ref (h 6)) (C := RX0) (T := TX0) (N := 15) hx hb hts in_X0 hown hK hP 0 rfl rfl 7 (by decide) (hts _ q38) (fun _ h9 => h9) rfl dX0_add_96 ?_
                  refine lv_aload_n hx hb dX0_add_99 rfl (lv_at hl 2 rfl) ?_
                  refine va_get (D := D) (ci := 0) (v := .int (nI he)) (C := RX0) (T := TX0) (N := 15) hx hb hts in_X0 hown hK hP 0 rfl rfl 5 (by decide) (hts _ q36) (fun _ h9 => h9) rfl dX0_add_100 ?_
                  refine lv_iload_n hx hb dX0_add_103 rfl (lv_at hl 3 rfl) ?_
                  refine zn_ist hx hb hK hP hD hS 6 0 rfl rfl (i := he) (x := nI k) (by omega) (by decide) dX0_add_104 (fun H locs hP hD hS => ?_)
                  have hP : va_P D z_cl (z_w0 cA h (nI kl) (zn_F ky) (zn_F ch1) (zn_F nu1) (zn_F be1) (nI he) (zn_F (zn_u en he nd1)) (upd es he (nI k)) ev (an) (ap) (ao) (ar) (nI al) (zn_F ak)) H := hP
                  have hD : va_D A (z_w0 cA h (nI kl) (zn_F ky) (zn_F ch1) (zn_F nu1) (zn_F be1) (nI he) (zn_F (zn_u en he nd1)) (upd es he (nI k)) ev (an) (ap) (ao) (ar) (nI al) (zn_F ak)) := hD
                  refine lv_aload_n hx hb dX0_add_105 rfl (lv_at hl 2 rfl) ?_
                  refine va_get (D := D) (ci := 0) (v := .ref (h 7)) (C := RX0) (T := TX0) (N := 15) hx hb hts in_X0 hown hK hP 0 rfl rfl 8 (by decide) (hts _ q39) (fun _ h9 => h9) rfl dX0_add_106 ?_
                  refine lv_aload_n hx hb dX0_add_109 rfl (lv_at hl 2 rfl) ?_
                  refine va_get (D := D) (ci := 0) (v := .int (nI he)) (C := RX0) (T := TX0) (N := 15) hx hb hts in_X0 hown hK hP 0 rfl rfl 5 (by decide) (hts _ q36) (fun _ h9 => h9) rfl dX0_add_110 ?_
                  refine lv_iload_n hx hb dX0_add_113 rfl (lv_at hl 4 rfl) ?_
                  refine zn_ist hx hb hK hP hD hS 7 0 rfl rfl (i := he) (x := va) (by omega) (by decide) dX0_add_114 (fun H locs hP hD hS => ?_)
                  have hP : va_P D z_cl (z_w0 cA h (nI kl) (zn_F ky) (zn_F ch1) (zn_F nu1) (zn_F be1) (nI he) (zn_F (zn_u en he nd1)) (upd es he (nI k)) (upd ev he va) (an) (ap) (ao) (ar) (nI al) (zn_F ak)) H := hP
                  have hD : va_D A (z_w0 cA h (nI kl) (zn_F ky) (zn_F ch1) (zn_F nu1) (zn_F be1) (nI he) (zn_F (zn_u en he nd1)) (upd es he (nI k)) (upd ev he va) (an) (ap) (ao) (ar) (nI al) (zn_F ak)) := hD
                  refine lv_aload_n hx hb dX0_add_115 rfl (lv_at hl 2 rfl) ?_
                  refine lv_dup hx hb dX0_add_116 rfl ?_
                  refine va_get (D := D) (ci := 0) (v := .int (nI he)) (C := RX0) (T := TX0) (N := 15) hx hb hts in_X0 hown hK hP 0 rfl rfl 5 (by decide) (hts _ q36) (fun _ h9 => h9) rfl dX0_add_117 ?_
                  refine lv_iconst (v := nI 1) hx hb dX0_add_120 (by decide) ?_
                  refine zn_iadd hx hb (a := he) (b := 1) dX0_add_121 ?_
                  refine va_put (D := D) (ci := 0) (v := .int (nI (he + 1))) (ty := .int) (C := RX0) (T := TX0) (N := 15) hx hb hts in_X0 tyX0 tyX0_ok nmX0 hown hK hP hD hS 0 rfl rfl 5 (by decide) (hts _ q36) (fun _ h9 => h9) rfl (by decide +kernel) rfl rfl (Nat.le_of_ble_eq_true rfl) dX0_add_122 (fun H locs hP hD hS => ?_)
                  have hP : va_P D z_cl (z_w0 cA h (nI kl) (zn_F ky) (zn_F ch1) (zn_F nu1) (zn_F be1) (nI (he + 1)) (zn_F (zn_u en he nd1)) (upd es he (nI k)) (upd ev he va) (an) (ap) (ao) (ar) (nI al) (zn_F ak)) H := hP
                  have hD : va_D A (z_w0 cA h (nI kl) (zn_F ky) (zn_F ch1) (zn_F nu1) (zn_F be1) (nI (he + 1)) (zn_F (zn_u en he nd1)) (upd es he (nI k)) (upd ev he va) (an) (ap) (ao) (ar) (nI al) (zn_F ak)) := hD
                  refine lv_aload_n hx hb dX0_add_125 rfl (lv_at hl 2 rfl) ?_
                  refine va_get (D := D) (ci := 0) (v := .int (nI (he + 1))) (C := RX0) (T := TX0) (N := 15) hx hb hts in_X0 hown hK hP 0 rfl rfl 5 (by decide) (hts _ q36) (fun _ h9 => h9) rfl dX0_add_126 ?_
                  have hok : z_aok nm es ev he (z_P ky kl) (nI k) va := ⟨z_so_n hk1 hk4, (fun _ => hi_25), by omega, hj, by rw [z_room_k hk4]; split <;> omega⟩
                  exact hret (nI (he + 1)) (he + 1, zn_u en he nd1, upd es he (nI k), upd ev he va, ch1, nu1, be1) _ _ _ _ dX0_add_129 rfl ⟨zn_u nm he (z_P ky kl), Or.inl ⟨hok, rfl, rfl⟩, z_I_add hI hok hG⟩ hP hD hS
            · obtain ⟨hkl1, hpz⟩ := z_fn_none hI hf
              have hP : va_P D z_cl (z_w0 cA h (nI kl) (zn_F ky) (zn_F ch) (zn_F nu) (zn_F be) (nI he) (zn_F en) es ev (an) (ap) (ao) (ar) (nI al) (zn_F ak)) H := hP
              have hD : va_D A (z_w0 cA h (nI kl) (zn_F ky) (zn_F ch) (zn_F nu) (zn_F be) (nI he) (zn_F en) es ev (an) (ap) (ao) (ar) (nI al) (zn_F ak)) := hD
              refine lv_istore_n (lv' := [(3, .int ((-1))), (0, .ref (h 0)), (1, .int (nI k)), (2, .int va)]) hx hb dX0_add_37 rfl hl (by decide) rfl (fun ls hl => ?_)
              refine lv_iload_n hx hb dX0_add_38 rfl (lv_at hl 2 rfl) ?_
              refine lv_iconst (v := nI 3) hx hb dX0_add_39 (by decide) ?_
              refine zn_icmp_eq (tgt := 48) hx hb (a := k) (b := 3) (by omega) (by decide) dX0_add_40 (by decide) (fun c_40 => ?_) (fun c_40 => absurd c_21 c_40)
              refine lv_iconst (v := nI 1) hx hb dX0_add_48 (by decide) ?_
              refine lv_goto (tgt := 53) hx hb dX0_add_49 (by decide) ?_
              refine lv_istore (lv' := [(4, .int (nI 1)), (3, .int ((-1))), (0, .ref (h 0)), (1, .int (nI k)), (2, .int va)]) hx hb dX0_add_53 hl (by decide) rfl (fun ls hl => ?_)
              refine lv_iload_n hx hb dX0_add_55 rfl (lv_at hl 1 rfl) ?_
              refine lv_if_lt (tgt := 82) (x := (-1)) hx hb dX0_add_56 (by decide) (fun c_56 => ?_) (fun c_56 => absurd c_56 (by decide))
              refine lv_aload_n hx hb dX0_add_82 rfl (lv_at hl 2 rfl) ?_
              refine va_get (D := D) (ci := 0) (v := .ref (h 5)) (C := RX0) (T := TX0) (N := 15) hx hb hts in_X0 hown hK hP 0 rfl rfl 6 (by decide) (hts _ q37) (fun _ h9 => h9) rfl dX0_add_83 ?_
              refine lv_aload_n hx hb dX0_add_86 rfl (lv_at hl 2 rfl) ?_
              refine va_get (D := D) (ci := 0) (v := .int (nI he)) (C := RX0) (T := TX0) (N := 15) hx hb hts in_X0 hown hK hP 0 rfl rfl 5 (by decide) (hts _ q36) (fun _ h9 => h9) rfl dX0_add_87 ?_
              refine lv_aload_n hx hb dX0_add_90 rfl (lv_at hl 2 rfl) ?_
              refine z_calli (As := []) (rest := [.int (nI he), .ref (h 5)]) ⟨hx, hb, hml, hown, hts⟩ (zc_growNode l D cA H.size h kl ky ch nu be he (zn_F en) es ev (an) (ap) (ao) (ar) (nI al) (zn_F ak) (fun p => z_pc nm p he) hkl hky hT (z_pc_M hnm he) (by have := z_dp_sum nm he; omega)) (cwV 0 hts (lw_V q113 q115 qs3 q21 q116) rfl rfl rfl (by decide +kernel) ⟨Nat.le_of_ble_eq_true rfl, Nat.le_of_ble_eq_true rfl⟩) (va_recv hK hP (ci := 0) (q0 := 0) rfl rfl) hK hP hD hS hA rfl hl.1 rfl (Nat.le_of_ble_eq_true rfl) dX0_add_91 (Nat.zero_le _) (Nat.zero_le _) (fun r_91 u_91 H locs hw_91 hP hD hS => ?_)
              obtain ⟨ch1, nu1, be1⟩ := u_91
              obtain ⟨nd1, hr_91, hG⟩ := hw_91
              subst hr_91
              have hP : va_P D z_cl (z_w0 cA h (nI kl) (zn_F ky) (zn_F ch1) (zn_F nu1) (zn_F be1) (nI he) (zn_F en) es ev (an) (ap) (ao) (ar) (nI al) (zn_F ak)) H := hP
              have hD : va_D A (z_w0 cA h (nI kl) (zn_F ky) (zn_F ch1) (zn_F nu1) (zn_F be1) (nI he) (zn_F en) es ev (an) (ap) (ao) (ar) (nI al) (zn_F ak)) := hD
              refine zn_ast hx hb hK hP hD hS 5 0 rfl rfl (i := he) (x := nd1) (by omega) (by decide) dX0_add_94 (fun H locs hP hD hS => ?_)
              have hP : va_P D z_cl (z_w0 cA h (nI kl) (zn_F ky) (zn_F ch1) (zn_F nu1) (zn_F be1) (nI he) (zn_F (zn_u en he nd1)) es ev (an) (ap) (ao) (ar) (nI al) (zn_F ak)) H := hP
              have hD : va_D A (z_w0 cA h (nI kl) (zn_F ky) (zn_F ch1) (zn_F nu1) (zn_F be1) (nI he) (zn_F (zn_u en he nd1)) es ev (an) (ap) (ao) (ar) (nI al) (zn_F ak)) := hD
              refine lv_aload_n hx hb dX0_add_95 rfl (lv_at hl 2 rfl) ?_
              refine va_get (D := D) (ci := 0) (v := .ref (h 6)) (C := RX0) (T := TX0) (N := 15) hx hb hts in_X0 hown hK hP 0 rfl rfl 7 (by decide) (hts _ q38) (fun _ h9 => h9) rfl dX0_add_96 ?_
              refine lv_aload_n hx hb dX0_add_99 rfl (lv_at hl 2 rfl) ?_
              refine va_get (D := D) (ci := 0) (v := .int (nI he)) (C := RX0) (T := TX0) (N := 15) hx hb hts in_X0 hown hK hP 0 rfl rfl 5 (by decide) (hts _ q36) (fun _ h9 => h9) rfl dX0_add_100 ?_
              refine lv_iload_n hx hb dX0_add_103 rfl (lv_at hl 3 rfl) ?_
              refine zn_ist hx hb hK hP hD hS 6 0 rfl rfl (i := he) (x := nI k) (by omega) (by decide) dX0_add_104 (fun H locs hP hD hS => ?_)
              have hP : va_P D z_cl (z_w0 cA h (nI kl) (zn_F ky) (zn_F ch1) (zn_F nu1) (zn_F be1) (nI he) (zn_F (zn_u en he nd1)) (upd es he (nI k)) ev (an) (ap) (ao) (ar) (nI al) (zn_F ak)) H := hP
              have hD : va_D A (z_w0 cA h (nI kl) (zn_F ky) (zn_F ch1) (zn_F nu1) (zn_F be1) (nI he) (zn_F (zn_u en he nd1)) (upd es he (nI k)) ev (an) (ap) (ao) (ar) (nI al) (zn_F ak)) := hD
              refine lv_aload_n hx hb dX0_add_105 rfl (lv_at hl 2 rfl) ?_
              refine va_get (D := D) (ci := 0) (v := .ref (h 7)) (C := RX0) (T := TX0) (N := 15) hx hb hts in_X0 hown hK hP 0 rfl rfl 8 (by decide) (hts _ q39) (fun _ h9 => h9) rfl dX0_add_106 ?_
              refine lv_aload_n hx hb dX0_add_109 rfl (lv_at hl 2 rfl) ?_
              refine va_get (D := D) (ci := 0) (v := .int (nI he)) (C := RX0) (T := TX0) (N := 15) hx hb hts in_X0 hown hK hP 0 rfl rfl 5 (by decide) (hts _ q36) (fun _ h9 => h9) rfl dX0_add_110 ?_
              refine lv_iload_n hx hb dX0_add_113 rfl (lv_at hl 4 rfl) ?_
              refine zn_ist hx hb hK hP hD hS 7 0 rfl rfl (i := he) (x := va) (by omega) (by decide) dX0_add_114 (fun H locs hP hD hS => ?_)
              have hP : va_P D z_cl (z_w0 cA h (nI kl) (zn_F ky) (zn_F ch1) (zn_F nu1) (zn_F be1) (nI he) (zn_F (zn_u en he nd1)) (upd es he (nI k)) (upd ev he va) (an) (ap) (ao) (ar) (nI al) (zn_F ak)) H := hP
              have hD : va_D A (z_w0 cA h (nI kl) (zn_F ky) (zn_F ch1) (zn_F nu1) (zn_F be1) (nI he) (zn_F (zn_u en he nd1)) (upd es he (nI k)) (upd ev he va) (an) (ap) (ao) (ar) (nI al) (zn_F ak)) := hD
              refine lv_aload_n hx hb dX0_add_115 rfl (lv_at hl 2 rfl) ?_
              refine lv_dup hx hb dX0_add_116 rfl ?_
              refine va_get (D := D) (ci := 0) (v := .int (nI he)) (C := RX0) (T := TX0) (N := 15) hx hb hts in_X0 hown hK hP 0 rfl rfl 5 (by decide) (hts _ q36) (fun _ h9 => h9) rfl dX0_add_117 ?_
              refine lv_iconst (v := nI 1) hx hb dX0_add_120 (by decide) ?_
              refine zn_iadd hx hb (a := he) (b := 1) dX0_add_121 ?_
              refine va_put (D := D) (ci := 0) (v := .int (nI (he + 1))) (ty := .int) (C := RX0) (T := TX0) (N := 15) hx hb hts in_X0 tyX0 tyX0_ok nmX0 hown hK hP hD hS 0 rfl rfl 5 (by decide) (hts _ q36) (fun _ h9 => h9) rfl (by decide +kernel) rfl rfl (Nat.le_of_ble_eq_true rfl) dX0_add_122 (fun H locs hP hD hS => ?_)
              have hP : va_P D z_cl (z_w0 cA h (nI kl) (zn_F ky) (zn_F ch1) (zn_F nu1) (zn_F be1) (nI (he + 1)) (zn_F (zn_u en he nd1)) (upd es he (nI k)) (upd ev he va) (an) (ap) (ao) (ar) (nI al) (zn_F ak)) H := hP
              have hD : va_D A (z_w0 cA h (nI kl) (zn_F ky) (zn_F ch1) (zn_F nu1) (zn_F be1) (nI (he + 1)) (zn_F (zn_u en he nd1)) (upd es he (nI k)) (upd ev he va) (an) (ap) (ao) (ar) (nI al) (zn_F ak)) := hD
              refine lv_aload_n hx hb dX0_add_125 rfl (lv_at hl 2 rfl) ?_
              refine va_get (D := D) (ci := 0) (v := .int (nI (he + 1))) (C := RX0) (T := TX0) (N := 15) hx hb hts in_X0 hown hK hP 0 rfl rfl 5 (by decide) (hts _ q36) (fun _ h9 => h9) rfl dX0_add_126 ?_
              have hok : z_aok nm es ev he (z_P ky kl) (nI k) va := ⟨z_so_n hk1 hk4, (fun _ => hi_25), by omega, z_at_no hnm (z_P_lt4 hky hkl) hpz, by rw [z_cnt_none hnm (z_P_lt4 hky hkl) hpz, z_room_k hk4]; split <;> omega⟩
              exact hret (nI (he + 1)) (he + 1, zn_u en he nd1, upd es he (nI k), upd ev he va, ch1, nu1, be1) _ _ _ _ dX0_add_129 rfl ⟨zn_u nm he (z_P ky kl), Or.inl ⟨hok, rfl, rfl⟩, z_I_add hI hok hG⟩ hP hD hS
          · have hP : va_P D z_cl (z_w0 cA h (nI kl) (zn_F ky) (zn_F ch) (zn_F nu) (zn_F be) (nI he) (zn_F en) es ev (an) (ap) (ao) (ar) (nI al) (zn_F ak)) H := hP
            have hD : va_D A (z_w0 cA h (nI kl) (zn_F ky) (zn_F ch) (zn_F nu) (zn_F be) (nI he) (zn_F en) es ev (an) (ap) (ao) (ar) (nI al) (zn_F ak)) := hD
            refine zn_if_ne (tgt := 33) hx hb (a := 0) (by decide) dX0_add_28 (by decide) (fun c_28 => absurd c_28 (by decide)) (fun c_28 => ?_)
            refine lv_iconst (v := (-1)) hx hb dX0_add_31 (by decide) ?_
            exact hret ((-1)) (he, en, es, ev, ch, nu, be) _ _ _ _ dX0_add_32 rfl ⟨nm, Or.inr ⟨fun q => hi_25 (q.2.1 (by rw [c_21])), rfl, rfl⟩, hI⟩ hP hD hS
set_option maxHeartbeats 4000000 in
/-- remove(sort, value) -/
theorem zc_remove (l : Launch) (D : va_G) (cA : ClassId) (sz : Nat) (h : Nat → Nat) (kl : Nat) (ky ch nu be : Nat → Nat) (he : Nat) (en : Nat → Nat) (es ev : Nat → Int32) (an ap ao ar : Int32) (al : Nat) (ak : Nat → Nat) (so va : Int32) (nm : Nat → Nat) (hI : z_I kl ky ch nu be he en es ev nm) (hak : ∀ j, ak j < 8) : z_Mi (S := Nat × (Nat → Nat) × (Nat → Int32) × (Nat → Int32) × (Nat → Nat) × (Nat → Nat) × (Nat → Nat)) l yX0_remove cX0_remove 5 .int ({ frames := 1, cells := 0, slots := 0, locals := 24 } : Room) D cA sz [.ref (h 0), .int so, .int va] (z_w0 cA h (nI kl) (zn_F ky) (zn_F ch) (zn_F nu) (zn_F be) (nI he) (zn_F en) es ev (an) (ap) (ao) (ar) (nI al) (zn_F ak)) (fun r (u : Nat × (Nat → Nat) × (Nat → Int32) × (Nat → Int32) × (Nat → Nat) × (Nat → Nat) × (Nat → Nat)) => ∃ nm2, z_rem nm es ev he (z_P ky kl) so va r (u.1, nm2, u.2.2.1, u.2.2.2.1) ∧ z_I kl ky u.2.2.2.2.1 u.2.2.2.2.2.1 u.2.2.2.2.2.2 u.1 u.2.1 u.2.2.1 u.2.2.2.1 nm2) (fun u => z_w0 cA h (nI kl) (zn_F ky) (zn_F u.2.2.2.2.1) (zn_F u.2.2.2.2.2.1) (zn_F u.2.2.2.2.2.2) (nI u.1) (zn_F u.2.1) u.2.2.1 u.2.2.2.1 (an) (ap) (ao) (ar) (nI al) (zn_F ak)) := by
  obtain ⟨hkl, hky, hhe, hnm, hT, hsb, hen, hals, hrm⟩ := id hI
  refine z_ofi (by decide) (Nat.le_of_ble_eq_true rfl) ?_
  intro p e s m below meth c A Q hx hb hml hown hts hA hret hK hP hD hS ls hl
  have hown : s.vm.findClass RX0 = some m.cls := hown
  have hl : lv_has ls 5 [(0, .ref (h 0)), (1, .int so), (2, .int va)] := hl
  refine lv_aload_n hx hb dX0_remove_0 rfl (lv_at hl 0 rfl) ?_
  refine z_calli (As := []) (rest := []) ⟨hx, hb, hml, hown, hts⟩ (zc_findNode l D cA s.heap.size h kl ky ch (zn_F nu) (zn_F be) he (zn_F en) es ev (an) (ap) (ao) (ar) (nI al) (zn_F ak) hkl hky hT.2.1) (cwV 0 hts (lw_V q101 q103 qs0 q21 q104) rfl rfl rfl (by decide +kernel) ⟨Nat.le_of_ble_eq_true rfl, Nat.le_of_ble_eq_true rfl⟩) (va_recv hK hP (ci := 0) (q0 := 0) rfl rfl) hK hP hD hS hA rfl hl.1 rfl (Nat.le_of_ble_eq_true rfl) dX0_remove_1 (Nat.zero_le _) (Nat.zero_le _) (fun r_1 u_1 H locs hw_1 hP hD hS => ?_)
  rcases hw_1 with ⟨nd, hf, rfl⟩ | ⟨hf, rfl⟩
  · obtain ⟨hnd1, hnd2, hnd3⟩ := z_fn_some hI hf
    have hP : va_P D z_cl (z_w0 cA h (nI kl) (zn_F ky) (zn_F ch) (zn_F nu) (zn_F be) (nI he) (zn_F en) es ev (an) (ap) (ao) (ar) (nI al) (zn_F ak)) H := hP
    have hD : va_D A (z_w0 cA h (nI kl) (zn_F ky) (zn_F ch) (zn_F nu) (zn_F be) (nI he) (zn_F en) es ev (an) (ap) (ao) (ar) (nI al) (zn_F ak)) := hD
    refine lv_istore_n (lv' := [(3, .int (nI nd)), (0, .ref (h 0)), (1, .int so), (2, .int va)]) hx hb dX0_remove_4 rfl hl (by decide) rfl (fun ls hl => ?_)
    refine lv_iload_n hx hb dX0_remove_5 rfl (lv_at hl 0 rfl) ?_
    refine zn_if_ge (tgt := 13) hx hb (a := nd) (by omega) dX0_remove_6 (by decide) ?_
    have hgr : ∀ e, e < he → (zn_F en e = nI nd ↔ zn_F nm e = nI (z_P ky kl)) := by rw [← hnd3]; exact z_I_rel hI hnd1 hnd2 (by rw [hnd3]; exact z_P_lt4 hky hkl)
    refine lv_aload_n hx hb dX0_remove_13 rfl (lv_at hl 1 rfl) ?_
    refine lv_iload_n hx hb dX0_remove_14 rfl (lv_at hl 0 rfl) ?_
    refine lv_iload_n hx hb dX0_remove_15 rfl (lv_at hl 2 rfl) ?_
    refine lv_iload_n hx hb dX0_remove_16 rfl (lv_at hl 3 rfl) ?_
    refine z_calli (As := [.int (nI nd), .int so, .int va]) (rest := []) ⟨hx, hb, hml, hown, hts⟩ (zc_entryAt l D cA H.size h (nI kl) (zn_F ky) (zn_F ch) (zn_F nu) (zn_F be) he (zn_F en) es ev (an) (ap) (ao) (ar) (nI al) (zn_F ak) (nI nd) (so) (va) hhe) (cwV 3 hts (lw_V q109 q111 qs2 q21 q112) rfl rfl rfl (by decide +kernel) ⟨Nat.le_of_ble_eq_true rfl, Nat.le_of_ble_eq_true rfl⟩) (va_recv hK hP (ci := 0) (q0 := 0) rfl rfl) hK hP hD hS hA rfl hl.1 rfl (Nat.le_of_ble_eq_true rfl) dX0_remove_17 (Nat.zero_le _) (Nat.zero_le _) (fun r_17 u_17 H locs hw_17 hP hD hS => ?_)
    rcases hw_17 with ⟨j, hj, rfl⟩ | ⟨hj, rfl⟩
    · rw [z_at_congr hgr] at hj
      have hjl := (z_at_spec hj).1
      have hP : va_P D z_cl (z_w0 cA h (nI kl) (zn_F ky) (zn_F ch) (zn_F nu) (zn_F be) (nI he) (zn_F en) es ev (an) (ap) (ao) (ar) (nI al) (zn_F ak)) H := hP
      have hD : va_D A (z_w0 cA h (nI kl) (zn_F ky) (zn_F ch) (zn_F nu) (zn_F be) (nI he) (zn_F en) es ev (an) (ap) (ao) (ar) (nI al) (zn_F ak)) := hD
      refine lv_istore (lv' := [(4, .int (nI j)), (3, .int (nI nd)), (0, .ref (h 0)), (1, .int so), (2, .int va)]) hx hb dX0_remove_20 hl (by decide) rfl (fun ls hl => ?_)
      refine lv_iload hx hb dX0_remove_22 (lv_at hl 0 rfl) ?_
      refine zn_if_ge (tgt := 29) hx hb (a := j) (by omega) dX0_remove_24 (by decide) ?_
      obtain ⟨hq1, hq2, hq3, hq4, hq5⟩ := z_I_rem hI hj
      refine lv_aload_n hx hb dX0_remove_29 rfl (lv_at hl 2 rfl) ?_
      refine lv_dup hx hb dX0_remove_30 rfl ?_
      refine va_get (D := D) (ci := 0) (v := .int (nI he)) (C := RX0) (T := TX0) (N := 15) hx hb hts in_X0 hown hK hP 0 rfl rfl 5 (by decide) (hts _ q36) (fun _ h9 => h9) rfl dX0_remove_31 ?_
      refine lv_iconst (v := nI 1) hx hb dX0_remove_34 (by decide) ?_
      refine zn_isub hx hb (a := he) (b := 1) (by omega) dX0_remove_35 ?_
      refine va_put (D := D) (ci := 0) (v := .int (nI (he - 1))) (ty := .int) (C := RX0) (T := TX0) (N := 15) hx hb hts in_X0 tyX0 tyX0_ok nmX0 hown hK hP hD hS 0 rfl rfl 5 (by decide) (hts _ q36) (fun _ h9 => h9) rfl (by decide +kernel) rfl rfl (Nat.le_of_ble_eq_true rfl) dX0_remove_36 (fun H locs hP hD hS => ?_)
      have hP : va_P D z_cl (z_w0 cA h (nI kl) (zn_F ky) (zn_F ch) (zn_F nu) (zn_F be) (nI (he - 1)) (zn_F en) es ev (an) (ap) (ao) (ar) (nI al) (zn_F ak)) H := hP
      have hD : va_D A (z_w0 cA h (nI kl) (zn_F ky) (zn_F ch) (zn_F nu) (zn_F be) (nI (he - 1)) (zn_F en) es ev (an) (ap) (ao) (ar) (nI al) (zn_F ak)) := hD
      refine lv_aload_n hx hb dX0_remove_39 rfl (lv_at hl 2 rfl) ?_
      refine va_get (D := D) (ci := 0) (v := .ref (h 5)) (C := RX0) (T := TX0) (N := 15) hx hb hts in_X0 hown hK hP 0 rfl rfl 6 (by decide) (hts _ q37) (fun _ h9 => h9) rfl dX0_remove_40 ?_
      refine lv_iload hx hb dX0_remove_43 (lv_at hl 0 rfl) ?_
      refine lv_aload_n hx hb dX0_remove_45 rfl (lv_at hl 2 rfl) ?_
      refine va_get (D := D) (ci := 0) (v := .ref (h 5)) (C := RX0) (T := TX0) (N := 15) hx hb hts in_X0 hown hK hP 0 rfl rfl 6 (by decide) (hts _ q37) (fun _ h9 => h9) rfl dX0_remove_46 ?_
      refine lv_aload_n hx hb dX0_remove_49 rfl (lv_at hl 2 rfl) ?_
      refine va_get (D := D) (ci := 0) (v := .int (nI (he - 1))) (C := RX0) (T := TX0) (N := 15) hx hb hts in_X0 hown hK hP 0 rfl rfl 5 (by decide) (hts _ q36) (fun _ h9 => h9) rfl dX0_remove_50 ?_
      refine zn_ald hx hb hK hP 5 0 rfl rfl (i := he - 1) (by omega) (by decide) dX0_remove_53 ?_
      refine zn_ast hx hb hK hP hD hS 5 0 rfl rfl (i := j) (x := en (he - 1)) (by omega) (by decide) dX0_remove_54 (fun H locs hP hD hS => ?_)
      have hP : va_P D z_cl (z_w0 cA h (nI kl) (zn_F ky) (zn_F ch) (zn_F nu) (zn_F be) (nI (he - 1)) (zn_F (zn_u en j (en (he - 1)))) es ev (an) (ap) (ao) (ar) (nI al) (zn_F ak)) H := hP
      have hD : va_D A (z_w0 cA h (nI kl) (zn_F ky) (zn_F ch) (zn_F nu) (zn_F be) (nI (he - 1)) (zn_F (zn_u en j (en (he - 1)))) es ev (an) (ap) (ao) (ar) (nI al) (zn_F ak)) := hD
      refine lv_aload_n hx hb dX0_remove_55 rfl (lv_at hl 2 rfl) ?_
      refine va_get (D := D) (ci := 0) (v := .ref (h 6)) (C := RX0) (T := TX0) (N := 15) hx hb hts in_X0 hown hK hP 0 rfl rfl 7 (by decide) (hts _ q38) (fun _ h9 => h9) rfl dX0_remove_56 ?_
      refine lv_iload hx hb dX0_remove_59 (lv_at hl 0 rfl) ?_
      refine lv_aload_n hx hb dX0_remove_61 rfl (lv_at hl 2 rfl) ?_
      refine va_get (D := D) (ci := 0) (v := .ref (h 6)) (C := RX0) (T := TX0) (N := 15) hx hb hts in_X0 hown hK hP 0 rfl rfl 7 (by decide) (hts _ q38) (fun _ h9 => h9) rfl dX0_remove_62 ?_
      refine lv_aload_n hx hb dX0_remove_65 rfl (lv_at hl 2 rfl) ?_
      refine va_get (D := D) (ci := 0) (v := .int (nI (he - 1))) (C := RX0) (T := TX0) (N := 15) hx hb hts in_X0 hown hK hP 0 rfl rfl 5 (by decide) (hts _ q36) (fun _ h9 => h9) rfl dX0_remove_66 ?_
      refine zn_ild hx hb hK hP 6 0 rfl rfl (i := he - 1) (by omega) (by decide) dX0_remove_69 ?_
      refine zn_ist hx hb hK hP hD hS 6 0 rfl rfl (i := j) (x := es (he - 1)) (by omega) (by decide) dX0_remove_70 (fun H locs hP hD hS => ?_)
      have hP : va_P D z_cl (z_w0 cA h (nI kl) (zn_F ky) (zn_F ch) (zn_F nu) (zn_F be) (nI (he - 1)) (zn_F (zn_u en j (en (he - 1)))) (upd es j (es (he - 1))) ev (an) (ap) (ao) (ar) (nI al) (zn_F ak)) H := hP
      have hD : va_D A (z_w0 cA h (nI kl) (zn_F ky) (zn_F ch) (zn_F nu) (zn_F be) (nI (he - 1)) (zn_F (zn_u en j (en (he - 1)))) (upd es j (es (he - 1))) ev (an) (ap) (ao) (ar) (nI al) (zn_F ak)) := hD
      refine lv_aload_n hx hb dX0_remove_71 rfl (lv_at hl 2 rfl) ?_
      refine va_get (D := D) (ci := 0) (v := .ref (h 7)) (C := RX0) (T := TX0) (N := 15) hx hb hts in_X0 hown hK hP 0 rfl rfl 8 (by decide) (hts _ q39) (fun _ h9 => h9) rfl dX0_remove_72 ?_
      refine lv_iload hx hb dX0_remove_75 (lv_at hl 0 rfl) ?_
      refine lv_aload_n hx hb dX0_remove_77 rfl (lv_at hl 2 rfl) ?_
      refine va_get (D := D) (ci := 0) (v := .ref (h 7)) (C := RX0) (T := TX0) (N := 15) hx hb hts in_X0 hown hK hP 0 rfl rfl 8 (by decide) (hts _ q39) (fun _ h9 => h9) rfl dX0_remove_78 ?_
      refine lv_aload_n hx hb dX0_remove_81 rfl (lv_at hl 2 rfl) ?_
      refine va_get (D := D) (ci := 0) (v := .int (nI (he - 1))) (C := RX0) (T := TX0) (N := 15) hx hb hts in_X0 hown hK hP 0 rfl rfl 5 (by decide) (hts _ q36) (fun _ h9 => h9) rfl dX0_remove_82 ?_
      refine zn_ild hx hb hK hP 7 0 rfl rfl (i := he - 1) (by omega) (by decide) dX0_remove_85 ?_
      refine zn_ist hx hb hK hP hD hS 7 0 rfl rfl (i := j) (x := ev (he - 1)) (by omega) (by decide) dX0_remove_86 (fun H locs hP hD hS => ?_)
      have hP : va_P D z_cl (z_w0 cA h (nI kl) (zn_F ky) (zn_F ch) (zn_F nu) (zn_F be) (nI (he - 1)) (zn_F (zn_u en j (en (he - 1)))) (upd es j (es (he - 1))) (upd ev j (ev (he - 1))) (an) (ap) (ao) (ar) (nI al) (zn_F ak)) H := hP
      have hD : va_D A (z_w0 cA h (nI kl) (zn_F ky) (zn_F ch) (zn_F nu) (zn_F be) (nI (he - 1)) (zn_F (zn_u en j (en (he - 1)))) (upd es j (es (he - 1))) (upd ev j (ev (he - 1))) (an) (ap) (ao) (ar) (nI al) (zn_F ak)) := hD
      refine lv_aload_n hx hb dX0_remove_87 rfl (lv_at hl 2 rfl) ?_
      refine z_callv (As := []) (rest := []) ⟨hx, hb, hml, hown, hts⟩ (zc_shrinkPath l D cA H.size h kl ky ch nu be (he - 1) (zn_F (zn_u en j (en (he - 1)))) (upd es j (es (he - 1))) (upd ev j (ev (he - 1))) (an) (ap) (ao) (ar) (nI al) (zn_F ak) (fun q => z_pc (zn_u nm j (nm (he - 1))) q (he - 1)) (fun p => z_pc nm p he) hkl hky hT hq3 (z_pc_M hq4 (he - 1)) (by have := z_dp_sum nm he; omega)) (cwV 0 hts (lw_V q125 q127 qs5 q21 q128) rfl rfl rfl (by decide +kernel) ⟨Nat.le_of_ble_eq_true rfl, Nat.le_of_ble_eq_true rfl⟩) (va_recv hK hP (ci := 0) (q0 := 0) rfl rfl) hK hP hD hS hA rfl hl.1 rfl (Nat.le_of_ble_eq_true rfl) dX0_remove_88 (Nat.zero_le _) (Nat.zero_le _) (fun u_88 H locs hw_88 hP hD hS => ?_)
      obtain ⟨ch1, be1⟩ := u_88
      obtain ⟨nd1, hH⟩ := hw_88
      have hP : va_P D z_cl (z_w0 cA h (nI kl) (zn_F ky) (zn_F ch1) (zn_F nu) (zn_F be1) (nI (he - 1)) (zn_F (zn_u en j (en (he - 1)))) (upd es j (es (he - 1))) (upd ev j (ev (he - 1))) (an) (ap) (ao) (ar) (nI al) (zn_F ak)) H := hP
      have hD : va_D A (z_w0 cA h (nI kl) (zn_F ky) (zn_F ch1) (zn_F nu) (zn_F be1) (nI (he - 1)) (zn_F (zn_u en j (en (he - 1)))) (upd es j (es (he - 1))) (upd ev j (ev (he - 1))) (an) (ap) (ao) (ar) (nI al) (zn_F ak)) := hD
      refine lv_aload_n hx hb dX0_remove_91 rfl (lv_at hl 2 rfl) ?_
      refine va_get (D := D) (ci := 0) (v := .int (nI (he - 1))) (C := RX0) (T := TX0) (N := 15) hx hb hts in_X0 hown hK hP 0 rfl rfl 5 (by decide) (hts _ q36) (fun _ h9 => h9) rfl dX0_remove_92 ?_
      exact hret (nI (he - 1)) (he - 1, zn_u en j (en (he - 1)), upd es j (es (he - 1)), upd ev j (ev (he - 1)), ch1, nu, be1) _ _ _ _ dX0_remove_95 rfl ⟨zn_u nm j (nm (he - 1)), Or.inl ⟨j, hj, rfl, rfl⟩, hq5 hH⟩ hP hD hS
    · rw [z_at_congr hgr] at hj
      have hP : va_P D z_cl (z_w0 cA h (nI kl) (zn_F ky) (zn_F ch) (zn_F nu) (zn_F be) (nI he) (zn_F en) es ev (an) (ap) (ao) (ar) (nI al) (zn_F ak)) H := hP
      have hD : va_D A (z_w0 cA h (nI kl) (zn_F ky) (zn_F ch) (zn_F nu) (zn_F be) (nI he) (zn_F en) es ev (an) (ap) (ao) (ar) (nI al) (zn_F ak)) := hD
      refine lv_istore (lv' := [(4, .int ((-1))), (3, .int (nI nd)), (0, .ref (h 0)), (1, .int so), (2, .int va)]) hx hb dX0_remove_20 hl (by decide) rfl (fun ls hl => ?_)
      refine lv_iload hx hb dX0_remove_22 (lv_at hl 0 rfl) ?_
      refine lv_if_ge (tgt := 29) (x := (-1)) hx hb dX0_remove_24 (by decide) (fun c_24 => absurd c_24 (by decide)) (fun c_24 => ?_)
      refine lv_iconst (v := (-1)) hx hb dX0_remove_27 (by decide) ?_
      exact hret ((-1)) (he, en, es, ev, ch, nu, be) _ _ _ _ dX0_remove_28 rfl ⟨nm, Or.inr ⟨hj, rfl, rfl⟩, hI⟩ hP hD hS
  · obtain ⟨hkl1, hpz⟩ := z_fn_none hI hf
    have hP : va_P D z_cl (z_w0 cA h (nI kl) (zn_F ky) (zn_F ch) (zn_F nu) (zn_F be) (nI he) (zn_F en) es ev (an) (ap) (ao) (ar) (nI al) (zn_F ak)) H := hP
    have hD : va_D A (z_w0 cA h (nI kl) (zn_F ky) (zn_F ch) (zn_F nu) (zn_F be) (nI he) (zn_F en) es ev (an) (ap) (ao) (ar) (nI al) (zn_F ak)) := hD
    refine lv_istore_n (lv' := [(3, .int ((-1))), (0, .ref (h 0)), (1, .int so), (2, .int va)]) hx hb dX0_remove_4 rfl hl (by decide) rfl (fun ls hl => ?_)
    refine lv_iload_n hx hb dX0_remove_5 rfl (lv_at hl 0 rfl) ?_
    refine lv_if_ge (tgt := 13) (x := (-1)) hx hb dX0_remove_6 (by decide) (fun c_6 => absurd c_6 (by decide)) (fun c_6 => ?_)
    refine lv_iconst (v := (-1)) hx hb dX0_remove_9 (by decide) ?_
    refine lv_goto (tgt := 20) hx hb dX0_remove_10 (by decide) ?_
    refine lv_istore (lv' := [(4, .int ((-1))), (3, .int ((-1))), (0, .ref (h 0)), (1, .int so), (2, .int va)]) hx hb dX0_remove_20 hl (by decide) rfl (fun ls hl => ?_)
    refine lv_iload hx hb dX0_remove_22 (lv_at hl 0 rfl) ?_
    refine lv_if_ge (tgt := 29) (x := (-1)) hx hb dX0_remove_24 (by decide) (fun c_24 => absurd c_24 (by decide)) (fun c_24 => ?_)
    refine lv_iconst (v := (-1)) hx hb dX0_remove_27 (by decide) ?_
    exact hret ((-1)) (he, en, es, ev, ch, nu, be) _ _ _ _ dX0_remove_28 rfl ⟨nm, Or.inr ⟨z_at_no hnm (z_P_lt4 hky hkl) hpz, rfl, rfl⟩, hI⟩ hP hD hS
end
section
/-! CONSTRUCTORS: the two objects, born -/
set_option maxRecDepth 100000
theorem zn_F0 : (fun _ => (0 : Int32)) = zn_F (fun _ => 0) := by
  funext j
  exact nI_0.symm
def z_ad (l : List Nat) : Nat → Nat := fun k => l.getD k 0
section ZNEW
variable {p : Program} {l : Launch} {e : Env} {R : Room} {s : State} {m : MethodId} {args : Array Value} {below : List Frame} {meth : Method} {c : Code} {H : Heap} {locs : List Loc} {cells slots : Nat} {Q : State → Prop}
variable {cc : ByteArray} {pc : Nat} {ls : Array Slot} {rest : List Value} {D : va_G} {cl : List vw_C} {A : Nat → Prop} {ws : va_W} {H0 : Heap}
theorem z_newa (hexec : p.tables.exec = Jvm.exec) (hb : c.code = cc) (harr : (Cond.arrayClass .int).before args s = true) {cA : ClassId} (hK : va_K D cl [(cA, .int)] s) (hP : va_P D cl ws H) (hD : va_D A ws) (hS : va_S A H0 H locs) (hA : ∀ q, H0.size ≤ q → A q)
    {N : Nat} (hN : N ≤ 1000) (hcells : cells + 1 ≤ R.cells) (hslots : slots + N ≤ R.slots) (hdg : decode cc pc = .ok (.newarray .int, 2))
    (kk : ∀ (q : Nat) (H1 : Heap), va_P D cl (ws ++ [(q, .inl (cA, N, .inl (zn_F (fun _ => 0))))]) H1 → va_D A (ws ++ [(q, .inl (cA, N, .inl (zn_F (fun _ => 0))))]) → va_S A H0 H1 locs →
      W p l e R s m args below meth c H1 locs (cells + 1) (slots + N) Q (F0 m (pc + 2) ls (.ref q :: rest))) : W p l e R s m args below meth c H locs cells slots Q (F0 m pc ls (.int (nI N) :: rest)) := by
  refine va_newa (atype := .int) (a0 := (N, .inl (zn_F (fun _ => 0)))) (ty := .int) hexec hb harr rfl hK hP hD hS hA (fun cA => by rw [← zn_F0]; rfl) (nI_pos (by omega)) (nI_clamp (by omega)) (by show N * 4 ≤ 536870912; omega) hcells hslots hdg (fun q cA1 H1 hK1 hP1 hD1 hS1 => ?_)
  have e1 : s.vm.findClass ("[" ++ (FieldType.int).toString) = some cA := (hK.2 0 (cA, .int) rfl).2
  have e2 : s.vm.findClass ("[" ++ (FieldType.int).toString) = some cA1 := (hK1.2 1 (cA1, .int) rfl).2
  have e3 : cA1 = cA := Option.some.inj (e2.symm.trans e1)
  subst e3
  exact kk q H1 hP1 hD1 hS1
end ZNEW
set_option maxHeartbeats 4000000 in
theorem z_ofn {S : Type} {l : Launch} {y : MethodName} {bc : ByteArray} {L : Nat} {rm : Room} {D : va_G} {cA : ClassId} {sz : Nat} {av : List Value} {w0 : va_W} {post : S → Prop} {w1 : S → va_W} {mc ms : Nat} (hy : plainName y.cls = true) (hL : (lg_sl av).length ≤ L)
    (body : ∀ (p : Program) (e : Env) (s : State) (m : MethodId) (below : List Frame) (meth : Method) (c : Code) (A : Nat → Prop) (Q : State → Prop), p.tables.exec = Jvm.exec → c.code = bc → c.maxLocals = L → s.vm.findClass y.cls = some m.cls → (∀ w ∈ lw_all, w.before av.toArray s = true) → (∀ q : Nat, s.heap.size ≤ q → A q) → meth.name = y.name →
      (∀ (u : S) (H : Heap) (locs : List Loc) (pc : Nat) (ls : Array Slot), decode bc pc = .ok (.return_, 1) → post u → va_P D z_cl (w1 u) H → va_D A (w1 u) → va_S A s.heap H locs → W p l e rm s m av.toArray below meth c H locs mc ms Q (F0 m pc ls [])) →
      va_K D z_cl [(cA, .int)] s → va_P D z_cl w0 s.heap → va_D A w0 → va_S A s.heap s.heap [] → ∀ ls : Array Slot, lv_has ls L (lv_args 0 av) → W p l e rm s m av.toArray below meth c s.heap [] 0 0 Q (F0 m 0 ls [])) : Met l y (ws_ y bc L none) rm (va_Pc av (z_PZ D cA sz w0)) (va_Qv post (fun u t => z_BZ D cA (va_A w0 sz) (w1 u) t) (va_A w0 sz)) mc ms (va_A w0 sz) := by
  refine Met.ofW (cc := bc) (maxL := L) (ret := none) hy rfl ?_
  intro p e s m args below meth c s₁ B hml hv
  obtain ⟨rfl, hsz, hP, hK, hD0⟩ := hv
  have hts := atoms_spec (ws := ws_ y bc L none) B.pre
  have hts : ∀ w ∈ lw_all, w.before _ s = true := fun w h => hts w (List.mem_cons_of_mem _ h)
  subst hsz
  rw [lg_entry_eq]
  have hD := hD0.self (sz := s.heap.size)
  exact body p e s m below meth c (va_A w0 s.heap.size) _ B.exec B.bytes hml (findClass_of_methodNamed B.named) hts (fun q h => Or.inr h) (name_of_methodNamed B.named B.method).1 (fun u H locs pc ls hd hp h1 h2 h3 => W.vret B.exec B.bytes B.returns (fun t ht hW => ⟨⟨u, rfl, hp, by rw [ht]; exact h1, va_K.moved hW.alike hK, h2⟩, h3.F ht⟩) h3.2.2 hd B.notSynchronized) hK hP hD va_S.rf _ (lv_entry av hL)
set_option maxHeartbeats 4000000 in
theorem zc_init (l : Launch) (D : va_G) (cA : ClassId) (sz : Nat) (h0 : Nat) : Met l yX0_init (ws_ yX0_init cX0_init 1 none) ({ frames := 1, cells := 8, slots := 1080, locals := 14 } : Room) (va_Pc [.ref h0] (z_PZ D cA sz [(h0, .inr (0, [.int 0, .null, .null, .null, .null, .int 0, .null, .null, .null, .int 0, .int 0, .int 0, .int 0, .int 0, .null]))])) (va_Qv (S := Nat → Nat) (fun u => u 0 = h0) (fun u t => z_BZ D cA (va_A [(h0, .inr (0, [.int 0, .null, .null, .null, .null, .int 0, .null, .null, .null, .int 0, .int 0, .int 0, .int 0, .int 0, .null]))] sz) ((fun u => z_w0 cA u (nI 0) (zn_F (fun _ => 0)) (zn_F (fun _ => 0)) (zn_F (fun _ => 0)) (zn_F (fun _ => 0)) (nI 0) (zn_F (fun _ => 0)) (fun _ => 0) (fun _ => 0) (nI 0) (nI 0) (nI 0) (nI 0) (nI 0) (zn_F (fun _ => 0))) u) t) (va_A [(h0, .inr (0, [.int 0, .null, .null, .null, .null, .int 0, .null, .null, .null, .int 0, .int 0, .int 0, .int 0, .int 0, .null]))] sz)) 8 1080 (va_A [(h0, .inr (0, [.int 0, .null, .null, .null, .null, .int 0, .null, .null, .null, .int 0, .int 0, .int 0, .int 0, .int 0, .null]))] sz) := by
  refine z_ofn (by decide) (Nat.le_of_ble_eq_true rfl) ?_
  intro p e s m below meth c A Q hx hb hml hown hts hA hin hret hK hP hD hS ls hl
  have hown : s.vm.findClass RX0 = some m.cls := hown
  have hl : lv_has ls 1 [(0, .ref h0)] := hl
  refine lv_aload_n hx hb dX0_init_0 rfl (lv_at hl 0 rfl) ?_
  refine W.objInit hx hb hown (hts _ q28) (hts _ q29) (hts _ q30) rfl (by rw [hml]; exact hl.1) rfl dX0_init_1 (Nat.le_of_ble_eq_true rfl) (Nat.le_of_ble_eq_true rfl) ?_
  refine W.eq (g2 := F0 m 4 ls []) rfl ?_
  refine lv_aload_n hx hb dX0_init_4 rfl (lv_at hl 0 rfl) ?_
  refine lv_iconst (v := nI 4) hx hb dX0_init_5 (by decide) ?_
  refine z_newa (N := 4) hx hb (hts _ q77) hK hP hD hS hA (by decide) (Nat.le_of_ble_eq_true rfl) (Nat.le_of_ble_eq_true rfl) dX0_init_6 (fun q1 H hP hD hS => ?_)
  have hP : va_P D z_cl [(h0, .inr (0, [.int 0, .null, .null, .null, .null, .int 0, .null, .null, .null, .int 0, .int 0, .int 0, .int 0, .int 0, .null])), (q1, .inl (cA, 4, .inl (zn_F (fun _ => 0))))] H := hP
  have hD : va_D A [(h0, .inr (0, [.int 0, .null, .null, .null, .null, .int 0, .null, .null, .null, .int 0, .int 0, .int 0, .int 0, .int 0, .null])), (q1, .inl (cA, 4, .inl (zn_F (fun _ => 0))))] := hD
  refine W.widen (k := 1) (n := 4) (by decide) (by decide) ?_
  refine va_putF (D := D) (ci := 0) (v := .ref q1) (ty := .array .int) (C := RX0) (T := TX0) (N := 15) hx hb hts in_X0 tyX0 tyX0_ok nmX0 hown hK hP hD hS 0 rfl rfl 1 (by decide) (hts _ q32) (fun _ h9 => h9) rfl hin rfl (by decide +kernel) rfl rfl (Nat.le_of_ble_eq_true rfl) dX0_init_8 (fun H locs hP hD hS => ?_)
  have hP : va_P D z_cl [(h0, .inr (0, [.int 0, .ref q1, .null, .null, .null, .int 0, .null, .null, .null, .int 0, .int 0, .int 0, .int 0, .int 0, .null])), (q1, .inl (cA, 4, .inl (zn_F (fun _ => 0))))] H := hP
  have hD : va_D A [(h0, .inr (0, [.int 0, .ref q1, .null, .null, .null, .int 0, .null, .null, .null, .int 0, .int 0, .int 0, .int 0, .int 0, .null])), (q1, .inl (cA, 4, .inl (zn_F (fun _ => 0))))] := hD
  refine lv_aload_n hx hb dX0_init_11 rfl (lv_at hl 0 rfl) ?_
  refine lv_sipush (v := nI 800) hx hb dX0_init_12 (by decide) ?_
  refine z_newa (N := 800) hx hb (hts _ q77) hK hP hD hS hA (by decide) (Nat.le_of_ble_eq_true rfl) (Nat.le_of_ble_eq_true rfl) dX0_init_15 (fun q2 H hP hD hS => ?_)
  have hP : va_P D z_cl [(h0, .inr (0, [.int 0, .ref q1, .null, .null, .null, .int 0, .null, .null, .null, .int 0, .int 0, .int 0, .int 0, .int 0, .null])), (q1, .inl (cA, 4, .inl (zn_F (fun _ => 0)))), (q2, .inl (cA, 800, .inl (zn_F (fun _ => 0))))] H := hP
  have hD : va_D A [(h0, .inr (0, [.int 0, .ref q1, .null, .null, .null, .int 0, .null, .null, .null, .int 0, .int 0, .int 0, .int 0, .int 0, .null])), (q1, .inl (cA, 4, .inl (zn_F (fun _ => 0)))), (q2, .inl (cA, 800, .inl (zn_F (fun _ => 0))))] := hD
  refine W.widen (k := 2) (n := 804) (by decide) (by decide) ?_
  refine va_putF (D := D) (ci := 0) (v := .ref q2) (ty := .array .int) (C := RX0) (T := TX0) (N := 15) hx hb hts in_X0 tyX0 tyX0_ok nmX0 hown hK hP hD hS 0 rfl rfl 2 (by decide) (hts _ q33) (fun _ h9 => h9) rfl hin rfl (by decide +kernel) rfl rfl (Nat.le_of_ble_eq_true rfl) dX0_init_17 (fun H locs hP hD hS => ?_)
  have hP : va_P D z_cl [(h0, .inr (0, [.int 0, .ref q1, .ref q2, .null, .null, .int 0, .null, .null, .null, .int 0, .int 0, .int 0, .int 0, .int 0, .null])), (q1, .inl (cA, 4, .inl (zn_F (fun _ => 0)))), (q2, .inl (cA, 800, .inl (zn_F (fun _ => 0))))] H := hP
  have hD : va_D A [(h0, .inr (0, [.int 0, .ref q1, .ref q2, .null, .null, .int 0, .null, .null, .null, .int 0, .int 0, .int 0, .int 0, .int 0, .null])), (q1, .inl (cA, 4, .inl (zn_F (fun _ => 0)))), (q2, .inl (cA, 800, .inl (zn_F (fun _ => 0))))] := hD
  refine lv_aload_n hx hb dX0_init_20 rfl (lv_at hl 0 rfl) ?_
  refine lv_bipush (v := nI 100) hx hb dX0_init_21 (by decide) ?_
  refine z_newa (N := 100) hx hb (hts _ q77) hK hP hD hS hA (by decide) (Nat.le_of_ble_eq_true rfl) (Nat.le_of_ble_eq_true rfl) dX0_init_23 (fun q3 H hP hD hS => ?_)
  have hP : va_P D z_cl [(h0, .inr (0, [.int 0, .ref q1, .ref q2, .null, .null, .int 0, .null, .null, .null, .int 0, .int 0, .int 0, .int 0, .int 0, .null])), (q1, .inl (cA, 4, .inl (zn_F (fun _ => 0)))), (q2, .inl (cA, 800, .inl (zn_F (fun _ => 0)))), (q3, .inl (cA, 100, .inl (zn_F (fun _ => 0))))] H := hP
  have hD : va_D A [(h0, .inr (0, [.int 0, .ref q1, .ref q2, .null, .null, .int 0, .null, .null, .null, .int 0, .int 0, .int 0, .int 0, .int 0, .null])), (q1, .inl (cA, 4, .inl (zn_F (fun _ => 0)))), (q2, .inl (cA, 800, .inl (zn_F (fun _ => 0)))), (q3, .inl (cA, 100, .inl (zn_F (fun _ => 0))))] := hD
  refine W.widen (k := 3) (n := 904) (by decide) (by decide) ?_
  refine va_putF (D := D) (ci := 0) (v := .ref q3) (ty := .array .int) (C := RX0) (T := TX0) (N := 15) hx hb hts in_X0 tyX0 tyX0_ok nmX0 hown hK hP hD hS 0 rfl rfl 3 (by decide) (hts _ q34) (fun _ h9 => h9) rfl hin rfl (by decide +kernel) rfl rfl (Nat.le_of_ble_eq_true rfl) dX0_init_25 (fun H locs hP hD hS => ?_)
  have hP : va_P D z_cl [(h0, .inr (0, [.int 0, .ref q1, .ref q2, .ref q3, .null, .int 0, .null, .null, .null, .int 0, .int 0, .int 0, .int 0, .int 0, .null])), (q1, .inl (cA, 4, .inl (zn_F (fun _ => 0)))), (q2, .inl (cA, 800, .inl (zn_F (fun _ => 0)))), (q3, .inl (cA, 100, .inl (zn_F (fun _ => 0))))] H := hP
  have hD : va_D A [(h0, .inr (0, [.int 0, .ref q1, .ref q2, .ref q3, .null, .int 0, .null, .null, .null, .int 0, .int 0, .int 0, .int 0, .int 0, .null])), (q1, .inl (cA, 4, .inl (zn_F (fun _ => 0)))), (q2, .inl (cA, 800, .inl (zn_F (fun _ => 0)))), (q3, .inl (cA, 100, .inl (zn_F (fun _ => 0))))] := hD
  refine lv_aload_n hx hb dX0_init_28 rfl (lv_at hl 0 rfl) ?_
  refine lv_bipush (v := nI 100) hx hb dX0_init_29 (by decide) ?_
  refine z_newa (N := 100) hx hb (hts _ q77) hK hP hD hS hA (by decide) (Nat.le_of_ble_eq_true rfl) (Nat.le_of_ble_eq_true rfl) dX0_init_31 (fun q4 H hP hD hS => ?_)
  have hP : va_P D z_cl [(h0, .inr (0, [.int 0, .ref q1, .ref q2, .ref q3, .null, .int 0, .null, .null, .null, .int 0, .int 0, .int 0, .int 0, .int 0, .null])), (q1, .inl (cA, 4, .inl (zn_F (fun _ => 0)))), (q2, .inl (cA, 800, .inl (zn_F (fun _ => 0)))), (q3, .inl (cA, 100, .inl (zn_F (fun _ => 0)))), (q4, .inl (cA, 100, .inl (zn_F (fun _ => 0))))] H := hP
  have hD : va_D A [(h0, .inr (0, [.int 0, .ref q1, .ref q2, .ref q3, .null, .int 0, .null, .null, .null, .int 0, .int 0, .int 0, .int 0, .int 0, .null])), (q1, .inl (cA, 4, .inl (zn_F (fun _ => 0)))), (q2, .inl (cA, 800, .inl (zn_F (fun _ => 0)))), (q3, .inl (cA, 100, .inl (zn_F (fun _ => 0)))), (q4, .inl (cA, 100, .inl (zn_F (fun _ => 0))))] := hD
  refine W.widen (k := 4) (n := 1004) (by decide) (by decide) ?_
  refine va_putF (D := D) (ci := 0) (v := .ref q4) (ty := .array .int) (C := RX0) (T := TX0) (N := 15) hx hb hts in_X0 tyX0 tyX0_ok nmX0 hown hK hP hD hS 0 rfl rfl 4 (by decide) (hts _ q35) (fun _ h9 => h9) rfl hin rfl (by decide +kernel) rfl rfl (Nat.le_of_ble_eq_true rfl) dX0_init_33 (fun H locs hP hD hS => ?_)
  have hP : va_P D z_cl [(h0, .inr (0, [.int 0, .ref q1, .ref q2, .ref q3, .ref q4, .int 0, .null, .null, .null, .int 0, .int 0, .int 0, .int 0, .int 0, .null])), (q1, .inl (cA, 4, .inl (zn_F (fun _ => 0)))), (q2, .inl (cA, 800, .inl (zn_F (fun _ => 0)))), (q3, .inl (cA, 100, .inl (zn_F (fun _ => 0)))), (q4, .inl (cA, 100, .inl (zn_F (fun _ => 0))))] H := hP
  have hD : va_D A [(h0, .inr (0, [.int 0, .ref q1, .ref q2, .ref q3, .ref q4, .int 0, .null, .null, .null, .int 0, .int 0, .int 0, .int 0, .int 0, .null])), (q1, .inl (cA, 4, .inl (zn_F (fun _ => 0)))), (q2, .inl (cA, 800, .inl (zn_F (fun _ => 0)))), (q3, .inl (cA, 100, .inl (zn_F (fun _ => 0)))), (q4, .inl (cA, 100, .inl (zn_F (fun _ => 0))))] := hD
  refine lv_aload_n hx hb dX0_init_36 rfl (lv_at hl 0 rfl) ?_
  refine lv_bipush (v := nI 24) hx hb dX0_init_37 (by decide) ?_
  refine z_newa (N := 24) hx hb (hts _ q77) hK hP hD hS hA (by decide) (Nat.le_of_ble_eq_true rfl) (Nat.le_of_ble_eq_true rfl) dX0_init_39 (fun q5 H hP hD hS => ?_)
  have hP : va_P D z_cl [(h0, .inr (0, [.int 0, .ref q1, .ref q2, .ref q3, .ref q4, .int 0, .null, .null, .null, .int 0, .int 0, .int 0, .int 0, .int 0, .null])), (q1, .inl (cA, 4, .inl (zn_F (fun _ => 0)))), (q2, .inl (cA, 800, .inl (zn_F (fun _ => 0)))), (q3, .inl (cA, 100, .inl (zn_F (fun _ => 0)))), (q4, .inl (cA, 100, .inl (zn_F (fun _ => 0)))), (q5, .inl (cA, 24, .inl (zn_F (fun _ => 0))))] H := hP
  have hD : va_D A [(h0, .inr (0, [.int 0, .ref q1, .ref q2, .ref q3, .ref q4, .int 0, .null, .null, .null, .int 0, .int 0, .int 0, .int 0, .int 0, .null])), (q1, .inl (cA, 4, .inl (zn_F (fun _ => 0)))), (q2, .inl (cA, 800, .inl (zn_F (fun _ => 0)))), (q3, .inl (cA, 100, .inl (zn_F (fun _ => 0)))), (q4, .inl (cA, 100, .inl (zn_F (fun _ => 0)))), (q5, .inl (cA, 24, .inl (zn_F (fun _ => 0))))] := hD
  refine W.widen (k := 5) (n := 1028) (by decide) (by decide) ?_
  refine va_putF (D := D) (ci := 0) (v := .ref q5) (ty := .array .int) (C := RX0) (T := TX0) (N := 15) hx hb hts in_X0 tyX0 tyX0_ok nmX0 hown hK hP hD hS 0 rfl rfl 6 (by decide) (hts _ q37) (fun _ h9 => h9) rfl hin rfl (by decide +kernel) rfl rfl (Nat.le_of_ble_eq_true rfl) dX0_init_41 (fun H locs hP hD hS => ?_)
  have hP : va_P D z_cl [(h0, .inr (0, [.int 0, .ref q1, .ref q2, .ref q3, .ref q4, .int 0, .ref q5, .null, .null, .int 0, .int 0, .int 0, .int 0, .int 0, .null])), (q1, .inl (cA, 4, .inl (zn_F (fun _ => 0)))), (q2, .inl (cA, 800, .inl (zn_F (fun _ => 0)))), (q3, .inl (cA, 100, .inl (zn_F (fun _ => 0)))), (q4, .inl (cA, 100, .inl (zn_F (fun _ => 0)))), (q5, .inl (cA, 24, .inl (zn_F (fun _ => 0))))] H := hP
  have hD : va_D A [(h0, .inr (0, [.int 0, .ref q1, .ref q2, .ref q3, .ref q4, .int 0, .ref q5, .null, .null, .int 0, .int 0, .int 0, .int 0, .int 0, .null])), (q1, .inl (cA, 4, .inl (zn_F (fun _ => 0)))), (q2, .inl (cA, 800, .inl (zn_F (fun _ => 0)))), (q3, .inl (cA, 100, .inl (zn_F (fun _ => 0)))), (q4, .inl (cA, 100, .inl (zn_F (fun _ => 0)))), (q5, .inl (cA, 24, .inl (zn_F (fun _ => 0))))] := hD
  refine lv_aload_n hx hb dX0_init_44 rfl (lv_at hl 0 rfl) ?_
  refine lv_bipush (v := nI 24) hx hb dX0_init_45 (by decide) ?_
  refine z_newa (N := 24) hx hb (hts _ q77) hK hP hD hS hA (by decide) (Nat.le_of_ble_eq_true rfl) (Nat.le_of_ble_eq_true rfl) dX0_init_47 (fun q6 H hP hD hS => ?_)
  have hP : va_P D z_cl [(h0, .inr (0, [.int 0, .ref q1, .ref q2, .ref q3, .ref q4, .int 0, .ref q5, .null, .null, .int 0, .int 0, .int 0, .int 0, .int 0, .null])), (q1, .inl (cA, 4, .inl (zn_F (fun _ => 0)))), (q2, .inl (cA, 800, .inl (zn_F (fun _ => 0)))), (q3, .inl (cA, 100, .inl (zn_F (fun _ => 0)))), (q4, .inl (cA, 100, .inl (zn_F (fun _ => 0)))), (q5, .inl (cA, 24, .inl (zn_F (fun _ => 0)))), (q6, .inl (cA, 24, .inl (zn_F (fun _ => 0))))] H := hP
  have hD : va_D A [(h0, .inr (0, [.int 0, .ref q1, .ref q2, .ref q3, .ref q4, .int 0, .ref q5, .null, .null, .int 0, .int 0, .int 0, .int 0, .int 0, .null])), (q1, .inl (cA, 4, .inl (zn_F (fun _ => 0)))), (q2, .inl (cA, 800, .inl (zn_F (fun _ => 0)))), (q3, .inl (cA, 100, .inl (zn_F (fun _ => 0)))), (q4, .inl (cA, 100, .inl (zn_F (fun _ => 0)))), (q5, .inl (cA, 24, .inl (zn_F (fun _ => 0)))), (q6, .inl (cA, 24, .inl (zn_F (fun _ => 0))))] := hD
  refine W.widen (k := 6) (n := 1052) (by decide) (by decide) ?_
  refine va_putF (D := D) (ci := 0) (v := .ref q6) (ty := .array .int) (C := RX0) (T := TX0) (N := 15) hx hb hts in_X0 tyX0 tyX0_ok nmX0 hown hK hP hD hS 0 rfl rfl 7 (by decide) (hts _ q38) (fun _ h9 => h9) rfl hin rfl (by decide +kernel) rfl rfl (Nat.le_of_ble_eq_true rfl) dX0_init_49 (fun H locs hP hD hS => ?_)
  have hP : va_P D z_cl [(h0, .inr (0, [.int 0, .ref q1, .ref q2, .ref q3, .ref q4, .int 0, .ref q5, .ref q6, .null, .int 0, .int 0, .int 0, .int 0, .int 0, .null])), (q1, .inl (cA, 4, .inl (zn_F (fun _ => 0)))), (q2, .inl (cA, 800, .inl (zn_F (fun _ => 0)))), (q3, .inl (cA, 100, .inl (zn_F (fun _ => 0)))), (q4, .inl (cA, 100, .inl (zn_F (fun _ => 0)))), (q5, .inl (cA, 24, .inl (zn_F (fun _ => 0)))), (q6, .inl (cA, 24, .inl (zn_F (fun _ => 0))))] H := hP
  have hD : va_D A [(h0, .inr (0, [.int 0, .ref q1, .ref q2, .ref q3, .ref q4, .int 0, .ref q5, .ref q6, .null, .int 0, .int 0, .int 0, .int 0, .int 0, .null])), (q1, .inl (cA, 4, .inl (zn_F (fun _ => 0)))), (q2, .inl (cA, 800, .inl (zn_F (fun _ => 0)))), (q3, .inl (cA, 100, .inl (zn_F (fun _ => 0)))), (q4, .inl (cA, 100, .inl (zn_F (fun _ => 0)))), (q5, .inl (cA, 24, .inl (zn_F (fun _ => 0)))), (q6, .inl (cA, 24, .inl (zn_F (fun _ => 0))))] := hD
  refine lv_aload_n hx hb dX0_init_52 rfl (lv_at hl 0 rfl) ?_
  refine lv_bipush (v := nI 24) hx hb dX0_init_53 (by decide) ?_
  refine z_newa (N := 24) hx hb (hts _ q77) hK hP hD hS hA (by decide) (Nat.le_of_ble_eq_true rfl) (Nat.le_of_ble_eq_true rfl) dX0_init_55 (fun q7 H hP hD hS => ?_)
  have hP : va_P D z_cl [(h0, .inr (0, [.int 0, .ref q1, .ref q2, .ref q3, .ref q4, .int 0, .ref q5, .ref q6, .null, .int 0, .int 0, .int 0, .int 0, .int 0, .null])), (q1, .inl (cA, 4, .inl (zn_F (fun _ => 0)))), (q2, .inl (cA, 800, .inl (zn_F (fun _ => 0)))), (q3, .inl (cA, 100, .inl (zn_F (fun _ => 0)))), (q4, .inl (cA, 100, .inl (zn_F (fun _ => 0)))), (q5, .inl (cA, 24, .inl (zn_F (fun _ => 0)))), (q6, .inl (cA, 24, .inl (zn_F (fun _ => 0)))), (q7, .inl (cA, 24, .inl (zn_F (fun _ => 0))))] H := hP
  have hD : va_D A [(h0, .inr (0, [.int 0, .ref q1, .ref q2, .ref q3, .ref q4, .int 0, .ref q5, .ref q6, .null, .int 0, .int 0, .int 0, .int 0, .int 0, .null])), (q1, .inl (cA, 4, .inl (zn_F (fun _ => 0)))), (q2, .inl (cA, 800, .inl (zn_F (fun _ => 0)))), (q3, .inl (cA, 100, .inl (zn_F (fun _ => 0)))), (q4, .inl (cA, 100, .inl (zn_F (fun _ => 0)))), (q5, .inl (cA, 24, .inl (zn_F (fun _ => 0)))), (q6, .inl (cA, 24, .inl (zn_F (fun _ => 0)))), (q7, .inl (cA, 24, .inl (zn_F (fun _ => 0))))] := hD
  refine W.widen (k := 7) (n := 1076) (by decide) (by decide) ?_
  refine va_putF (D := D) (ci := 0) (v := .ref q7) (ty := .array .int) (C := RX0) (T := TX0) (N := 15) hx hb hts in_X0 tyX0 tyX0_ok nmX0 hown hK hP hD hS 0 rfl rfl 8 (by decide) (hts _ q39) (fun _ h9 => h9) rfl hin rfl (by decide +kernel) rfl rfl (Nat.le_of_ble_eq_true rfl) dX0_init_57 (fun H locs hP hD hS => ?_)
  have hP : va_P D z_cl [(h0, .inr (0, [.int 0, .ref q1, .ref q2, .ref q3, .ref q4, .int 0, .ref q5, .ref q6, .ref q7, .int 0, .int 0, .int 0, .int 0, .int 0, .null])), (q1, .inl (cA, 4, .inl (zn_F (fun _ => 0)))), (q2, .inl (cA, 800, .inl (zn_F (fun _ => 0)))), (q3, .inl (cA, 100, .inl (zn_F (fun _ => 0)))), (q4, .inl (cA, 100, .inl (zn_F (fun _ => 0)))), (q5, .inl (cA, 24, .inl (zn_F (fun _ => 0)))), (q6, .inl (cA, 24, .inl (zn_F (fun _ => 0)))), (q7, .inl (cA, 24, .inl (zn_F (fun _ => 0))))] H := hP
  have hD : va_D A [(h0, .inr (0, [.int 0, .ref q1, .ref q2, .ref q3, .ref q4, .int 0, .ref q5, .ref q6, .ref q7, .int 0, .int 0, .int 0, .int 0, .int 0, .null])), (q1, .inl (cA, 4, .inl (zn_F (fun _ => 0)))), (q2, .inl (cA, 800, .inl (zn_F (fun _ => 0)))), (q3, .inl (cA, 100, .inl (zn_F (fun _ => 0)))), (q4, .inl (cA, 100, .inl (zn_F (fun _ => 0)))), (q5, .inl (cA, 24, .inl (zn_F (fun _ => 0)))), (q6, .inl (cA, 24, .inl (zn_F (fun _ => 0)))), (q7, .inl (cA, 24, .inl (zn_F (fun _ => 0))))] := hD
  refine lv_aload_n hx hb dX0_init_60 rfl (lv_at hl 0 rfl) ?_
  refine lv_iconst (v := nI 4) hx hb dX0_init_61 (by decide) ?_
  refine z_newa (N := 4) hx hb (hts _ q77) hK hP hD hS hA (by decide) (Nat.le_of_ble_eq_true rfl) (Nat.le_of_ble_eq_true rfl) dX0_init_62 (fun q8 H hP hD hS => ?_)
  have hP : va_P D z_cl [(h0, .inr (0, [.int 0, .ref q1, .ref q2, .ref q3, .ref q4, .int 0, .ref q5, .ref q6, .ref q7, .int 0, .int 0, .int 0, .int 0, .int 0, .null])), (q1, .inl (cA, 4, .inl (zn_F (fun _ => 0)))), (q2, .inl (cA, 800, .inl (zn_F (fun _ => 0)))), (q3, .inl (cA, 100, .inl (zn_F (fun _ => 0)))), (q4, .inl (cA, 100, .inl (zn_F (fun _ => 0)))), (q5, .inl (cA, 24, .inl (zn_F (fun _ => 0)))), (q6, .inl (cA, 24, .inl (zn_F (fun _ => 0)))), (q7, .inl (cA, 24, .inl (zn_F (fun _ => 0)))), (q8, .inl (cA, 4, .inl (zn_F (fun _ => 0))))] H := hP
  have hD : va_D A [(h0, .inr (0, [.int 0, .ref q1, .ref q2, .ref q3, .ref q4, .int 0, .ref q5, .ref q6, .ref q7, .int 0, .int 0, .int 0, .int 0, .int 0, .null])), (q1, .inl (cA, 4, .inl (zn_F (fun _ => 0)))), (q2, .inl (cA, 800, .inl (zn_F (fun _ => 0)))), (q3, .inl (cA, 100, .inl (zn_F (fun _ => 0)))), (q4, .inl (cA, 100, .inl (zn_F (fun _ => 0)))), (q5, .inl (cA, 24, .inl (zn_F (fun _ => 0)))), (q6, .inl (cA, 24, .inl (zn_F (fun _ => 0)))), (q7, .inl (cA, 24, .inl (zn_F (fun _ => 0)))), (q8, .inl (cA, 4, .inl (zn_F (fun _ => 0))))] := hD
  refine W.widen (k := 8) (n := 1080) (by decide) (by decide) ?_
  refine va_putF (D := D) (ci := 0) (v := .ref q8) (ty := .array .int) (C := RX0) (T := TX0) (N := 15) hx hb hts in_X0 tyX0 tyX0_ok nmX0 hown hK hP hD hS 0 rfl rfl 14 (by decide) (hts _ q45) (fun _ h9 => h9) rfl hin rfl (by decide +kernel) rfl rfl (Nat.le_of_ble_eq_true rfl) dX0_init_64 (fun H locs hP hD hS => ?_)
  have hP : va_P D z_cl [(h0, .inr (0, [.int 0, .ref q1, .ref q2, .ref q3, .ref q4, .int 0, .ref q5, .ref q6, .ref q7, .int 0, .int 0, .int 0, .int 0, .int 0, .ref q8])), (q1, .inl (cA, 4, .inl (zn_F (fun _ => 0)))), (q2, .inl (cA, 800, .inl (zn_F (fun _ => 0)))), (q3, .inl (cA, 100, .inl (zn_F (fun _ => 0)))), (q4, .inl (cA, 100, .inl (zn_F (fun _ => 0)))), (q5, .inl (cA, 24, .inl (zn_F (fun _ => 0)))), (q6, .inl (cA, 24, .inl (zn_F (fun _ => 0)))), (q7, .inl (cA, 24, .inl (zn_F (fun _ => 0)))), (q8, .inl (cA, 4, .inl (zn_F (fun _ => 0))))] H := hP
  have hD : va_D A [(h0, .inr (0, [.int 0, .ref q1, .ref q2, .ref q3, .ref q4, .int 0, .ref q5, .ref q6, .ref q7, .int 0, .int 0, .int 0, .int 0, .int 0, .ref q8])), (q1, .inl (cA, 4, .inl (zn_F (fun _ => 0)))), (q2, .inl (cA, 800, .inl (zn_F (fun _ => 0)))), (q3, .inl (cA, 100, .inl (zn_F (fun _ => 0)))), (q4, .inl (cA, 100, .inl (zn_F (fun _ => 0)))), (q5, .inl (cA, 24, .inl (zn_F (fun _ => 0)))), (q6, .inl (cA, 24, .inl (zn_F (fun _ => 0)))), (q7, .inl (cA, 24, .inl (zn_F (fun _ => 0)))), (q8, .inl (cA, 4, .inl (zn_F (fun _ => 0))))] := hD
  have hP : va_P D z_cl (z_w0 cA (z_ad [h0, q1, q2, q3, q4, q5, q6, q7, q8]) (nI 0) (zn_F (fun _ => 0)) (zn_F (fun _ => 0)) (zn_F (fun _ => 0)) (zn_F (fun _ => 0)) (nI 0) (zn_F (fun _ => 0)) (fun _ => 0) (fun _ => 0) (nI 0) (nI 0) (nI 0) (nI 0) (nI 0) (zn_F (fun _ => 0))) H := by rw [zn_F0]; exact hP
  have hD : va_D A (z_w0 cA (z_ad [h0, q1, q2, q3, q4, q5, q6, q7, q8]) (nI 0) (zn_F (fun _ => 0)) (zn_F (fun _ => 0)) (zn_F (fun _ => 0)) (zn_F (fun _ => 0)) (nI 0) (zn_F (fun _ => 0)) (fun _ => 0) (fun _ => 0) (nI 0) (nI 0) (nI 0) (nI 0) (nI 0) (zn_F (fun _ => 0))) := by rw [zn_F0]; exact hD
  exact hret (z_ad [h0, q1, q2, q3, q4, q5, q6, q7, q8]) _ _ _ _ dX0_init_67 rfl hP hD hS
set_option maxHeartbeats 4000000 in
theorem zd_init (l : Launch) (D : va_G) (cA : ClassId) (sz : Nat) (h0 : Nat) : Met l yX1_init (ws_ yX1_init cX1_init 1 none) ({ frames := 1, cells := 3, slots := 72, locals := 14 } : Room) (va_Pc [.ref h0] (z_PZ D cA sz [(h0, .inr (1, [.int 0, .null, .null, .null, .int 0, .int 0, .int 0, .int 0]))])) (va_Qv (S := Nat → Nat) (fun u => u 0 = h0) (fun u t => z_BZ D cA (va_A [(h0, .inr (1, [.int 0, .null, .null, .null, .int 0, .int 0, .int 0, .int 0]))] sz) ((fun u => z_w1 cA u (nI 0) (zn_F (fun _ => 0)) (fun _ => 0) (fun _ => 0) (nI 0) (nI 0) (nI 0) (nI 0)) u) t) (va_A [(h0, .inr (1, [.int 0, .null, .null, .null, .int 0, .int 0, .int 0, .int 0]))] sz)) 3 72 (va_A [(h0, .inr (1, [.int 0, .null, .null, .null, .int 0, .int 0, .int 0, .int 0]))] sz) := by
  refine z_ofn (by decide) (Nat.le_of_ble_eq_true rfl) ?_
  intro p e s m below meth c A Q hx hb hml hown hts hA hin hret hK hP hD hS ls hl
  have hown : s.vm.findClass RX1 = some m.cls := hown
  have hl : lv_has ls 1 [(0, .ref h0)] := hl
  refine lv_aload_n hx hb dX1_init_0 rfl (lv_at hl 0 rfl) ?_
  refine W.objInit hx hb hown (hts _ q182) (hts _ q29) (hts _ q30) rfl (by rw [hml]; exact hl.1) rfl dX1_init_1 (Nat.le_of_ble_eq_true rfl) (Nat.le_of_ble_eq_true rfl) ?_
  refine W.eq (g2 := F0 m 4 ls []) rfl ?_
  refine lv_aload_n hx hb dX1_init_4 rfl (lv_at hl 0 rfl) ?_
  refine lv_bipush (v := nI 24) hx hb dX1_init_5 (by decide) ?_
  refine z_newa (N := 24) hx hb (hts _ q77) hK hP hD hS hA (by decide) (Nat.le_of_ble_eq_true rfl) (Nat.le_of_ble_eq_true rfl) dX1_init_7 (fun q1 H hP hD hS => ?_)
  have hP : va_P D z_cl [(h0, .inr (1, [.int 0, .null, .null, .null, .int 0, .int 0, .int 0, .int 0])), (q1, .inl (cA, 24, .inl (zn_F (fun _ => 0))))] H := hP
  have hD : va_D A [(h0, .inr (1, [.int 0, .null, .null, .null, .int 0, .int 0, .int 0, .int 0])), (q1, .inl (cA, 24, .inl (zn_F (fun _ => 0))))] := hD
  refine W.widen (k := 1) (n := 24) (by decide) (by decide) ?_
  refine va_putF (D := D) (ci := 1) (v := .ref q1) (ty := .array .int) (C := RX1) (T := TX1) (N := 8) hx hb hts in_X1 tyX1 tyX1_ok nmX1 hown hK hP hD hS 0 rfl rfl 1 (by decide) (hts _ q184) (fun _ h9 => h9) rfl hin rfl (by decide +kernel) rfl rfl (Nat.le_of_ble_eq_true rfl) dX1_init_9 (fun H locs hP hD hS => ?_)
  have hP : va_P D z_cl [(h0, .inr (1, [.int 0, .ref q1, .null, .null, .int 0, .int 0, .int 0, .int 0])), (q1, .inl (cA, 24, .inl (zn_F (fun _ => 0))))] H := hP
  have hD : va_D A [(h0, .inr (1, [.int 0, .ref q1, .null, .null, .int 0, .int 0, .int 0, .int 0])), (q1, .inl (cA, 24, .inl (zn_F (fun _ => 0))))] := hD
  refine lv_aload_n hx hb dX1_init_12 rfl (lv_at hl 0 rfl) ?_
  refine lv_bipush (v := nI 24) hx hb dX1_init_13 (by decide) ?_
  refine z_newa (N := 24) hx hb (hts _ q77) hK hP hD hS hA (by decide) (Nat.le_of_ble_eq_true rfl) (Nat.le_of_ble_eq_true rfl) dX1_init_15 (fun q2 H hP hD hS => ?_)
  have hP : va_P D z_cl [(h0, .inr (1, [.int 0, .ref q1, .null, .null, .int 0, .int 0, .int 0, .int 0])), (q1, .inl (cA, 24, .inl (zn_F (fun _ => 0)))), (q2, .inl (cA, 24, .inl (zn_F (fun _ => 0))))] H := hP
  have hD : va_D A [(h0, .inr (1, [.int 0, .ref q1, .null, .null, .int 0, .int 0, .int 0, .int 0])), (q1, .inl (cA, 24, .inl (zn_F (fun _ => 0)))), (q2, .inl (cA, 24, .inl (zn_F (fun _ => 0))))] := hD
  refine W.widen (k := 2) (n := 48) (by decide) (by decide) ?_
  refine va_putF (D := D) (ci := 1) (v := .ref q2) (ty := .array .int) (C := RX1) (T := TX1) (N := 8) hx hb hts in_X1 tyX1 tyX1_ok nmX1 hown hK hP hD hS 0 rfl rfl 2 (by decide) (hts _ q185) (fun _ h9 => h9) rfl hin rfl (by decide +kernel) rfl rfl (Nat.le_of_ble_eq_true rfl) dX1_init_17 (fun H locs hP hD hS => ?_)
  have hP : va_P D z_cl [(h0, .inr (1, [.int 0, .ref q1, .ref q2, .null, .int 0, .int 0, .int 0, .int 0])), (q1, .inl (cA, 24, .inl (zn_F (fun _ => 0)))), (q2, .inl (cA, 24, .inl (zn_F (fun _ => 0))))] H := hP
  have hD : va_D A [(h0, .inr (1, [.int 0, .ref q1, .ref q2, .null, .int 0, .int 0, .int 0, .int 0])), (q1, .inl (cA, 24, .inl (zn_F (fun _ => 0)))), (q2, .inl (cA, 24, .inl (zn_F (fun _ => 0))))] := hD
  refine lv_aload_n hx hb dX1_init_20 rfl (lv_at hl 0 rfl) ?_
  refine lv_bipush (v := nI 24) hx hb dX1_init_21 (by decide) ?_
  refine z_newa (N := 24) hx hb (hts _ q77) hK hP hD hS hA (by decide) (Nat.le_of_ble_eq_true rfl) (Nat.le_of_ble_eq_true rfl) dX1_init_23 (fun q3 H hP hD hS => ?_)
  have hP : va_P D z_cl [(h0, .inr (1, [.int 0, .ref q1, .ref q2, .null, .int 0, .int 0, .int 0, .int 0])), (q1, .inl (cA, 24, .inl (zn_F (fun _ => 0)))), (q2, .inl (cA, 24, .inl (zn_F (fun _ => 0)))), (q3, .inl (cA, 24, .inl (zn_F (fun _ => 0))))] H := hP
  have hD : va_D A [(h0, .inr (1, [.int 0, .ref q1, .ref q2, .null, .int 0, .int 0, .int 0, .int 0])), (q1, .inl (cA, 24, .inl (zn_F (fun _ => 0)))), (q2, .inl (cA, 24, .inl (zn_F (fun _ => 0)))), (q3, .inl (cA, 24, .inl (zn_F (fun _ => 0))))] := hD
  refine W.widen (k := 3) (n := 72) (by decide) (by decide) ?_
  refine va_putF (D := D) (ci := 1) (v := .ref q3) (ty := .array .int) (C := RX1) (T := TX1) (N := 8) hx hb hts in_X1 tyX1 tyX1_ok nmX1 hown hK hP hD hS 0 rfl rfl 3 (by decide) (hts _ q186) (fun _ h9 => h9) rfl hin rfl (by decide +kernel) rfl rfl (Nat.le_of_ble_eq_true rfl) dX1_init_25 (fun H locs hP hD hS => ?_)
  have hP : va_P D z_cl [(h0, .inr (1, [.int 0, .ref q1, .ref q2, .ref q3, .int 0, .int 0, .int 0, .int 0])), (q1, .inl (cA, 24, .inl (zn_F (fun _ => 0)))), (q2, .inl (cA, 24, .inl (zn_F (fun _ => 0)))), (q3, .inl (cA, 24, .inl (zn_F (fun _ => 0))))] H := hP
  have hD : va_D A [(h0, .inr (1, [.int 0, .ref q1, .ref q2, .ref q3, .int 0, .int 0, .int 0, .int 0])), (q1, .inl (cA, 24, .inl (zn_F (fun _ => 0)))), (q2, .inl (cA, 24, .inl (zn_F (fun _ => 0)))), (q3, .inl (cA, 24, .inl (zn_F (fun _ => 0))))] := hD
  have hP : va_P D z_cl (z_w1 cA (z_ad [h0, q1, q2, q3]) (nI 0) (zn_F (fun _ => 0)) (fun _ => 0) (fun _ => 0) (nI 0) (nI 0) (nI 0) (nI 0)) H := by rw [zn_F0]; exact hP
  have hD : va_D A (z_w1 cA (z_ad [h0, q1, q2, q3]) (nI 0) (zn_F (fun _ => 0)) (fun _ => 0) (fun _ => 0) (nI 0) (nI 0) (nI 0) (nI 0)) := by rw [zn_F0]; exact hD
  exact hret (z_ad [h0, q1, q2, q3]) _ _ _ _ dX1_init_28 rfl hP hD hS
end
section
/-! RULES for the law: calls of one object beside the other, the script; and what ties the two answers -/
set_option maxRecDepth 100000
section ZLAW
variable {p : Program} {l : Launch} {e : Env} {R : Room} {s : State} {m : MethodId} {args : Array Value} {below : List Frame} {meth : Method} {c : Code} {H : Heap} {locs : List Loc} {cells slots : Nat} {Q : State → Prop}
variable {cc : ByteArray} {pc nL : Nat} {ls : Array Slot} {rest st0 : List Value} {D : va_G} {A : Nat → Prop}
variable {S : Type} {y : MethodName} {bytes : ByteArray} {maxL n index : Nat} {rt : FieldType} {rm : Room} {own C : String} {b : Nat} {As : List Value} {cA : ClassId} {w0 wr ws : va_W} {Ts : List Cond}
set_option maxHeartbeats 4000000 in
theorem z_calliR {post : Int32 → S → Prop} {w1 : S → va_W} (hf : CallFix p m c cc nL s args Ts own) (hM : z_Mi l y bytes maxL rt rm D cA H.size (.ref b :: As) w0 post w1)
    (cw : CallW R s args own C index y bytes maxL (some rt) (ws_ y bytes maxL (some rt)) rm 0 0 n) (hrc : ∃ cell : Cell, H[b]? = some cell ∧ cell.vm.isStatics = false ∧ s.vm.findClass C = some cell.cls)
    (hK : va_K D z_cl [(cA, .int)] s) (hP : va_P D z_cl ws H) (hD : va_D A ws) (hS : va_S A s.heap H locs) (hA : ∀ q : Nat, s.heap.size ≤ q → A q)
    (isC isR : List Nat) (hP0 : isC.filterMap (fun i => ws[i]?) = w0) (hC : isC.map (fun i => ws[i]?) = w0.map some) (hR : isR.map (fun i => ws[i]?) = wr.map some) (hnC : va_nd isC = true) (hnR : va_nd isR = true) (hdis : ∀ i ∈ isR, i ∉ isC)
    (hn : As.length = n) (hsz : ls.size = nL) (hst : st0 = As.reverse ++ .ref b :: rest) (hW : (rest.map fun v => v.category).sum ≤ 8)
    (hdg : decode cc pc = .ok (.invokevirtual index, 3)) (hc1 : cells ≤ R.cells) (hc2 : slots ≤ R.slots)
    (kk : ∀ (r : Int32) (u : S) (H1 : Heap) (locs1 : List Loc), post r u → va_P D z_cl (wr ++ w1 u) H1 → va_D A (wr ++ w1 u) → va_S A s.heap H1 locs1 → W p l e R s m args below meth c H1 locs1 cells slots Q (F0 m (pc + 3) ls (.int r :: rest))) : W p l e R s m args below meth c H locs cells slots Q (F0 m pc ls st0) := by
  subst hst
  have hPc := hP.sub isC hP0
  have hDc := hD.sub isC hnC hC
  have hFc := va_free hD hS hA isC hC
  refine va_calli (va_runV (As := As) (rest := rest) hf hM cw ⟨fun a U g mk q => by obtain ⟨q0, q1, qP, qK, qD⟩ := q; exact ⟨q0, q1, qP, va_K.moved (u := U) (U := U.calling g mk a) (Vm.Alike.refl U.vm) qK, qD⟩, hrc, fun U hU hW => ⟨rfl, by rw [hU], by rw [hU]; exact hPc, va_K.moved hW.alike hK, hDc.weaken (fun _ _ _ _ => trivial)⟩⟩ rfl hn hsz rfl (lv_room hW) hdg ⟨hc1, hc2⟩) hS (fun q _ h => hFc q h) hFc (fun r u t H1 locs ht hvm hw hB hz1 hk1 hS => ?_)
  obtain ⟨hP1, hK1, hD1⟩ := hB
  rw [ht] at hP1
  obtain ⟨hP2, hD2⟩ := va_join (wr := wr) (w1 := w1 u) hP hD isC isR hC hR hnR hdis hk1 hFc hP1 hD1
  exact kk r u H1 locs hw hP2 hD2 hS
set_option maxHeartbeats 4000000 in
theorem z_callvR {post : S → Prop} {w1 : S → va_W} (hf : CallFix p m c cc nL s args Ts own) (hM : z_Mv l y bytes maxL rm D cA H.size (.ref b :: As) w0 post w1)
    (cw : CallW R s args own C index y bytes maxL none (ws_ y bytes maxL none) rm 0 0 n) (hrc : ∃ cell : Cell, H[b]? = some cell ∧ cell.vm.isStatics = false ∧ s.vm.findClass C = some cell.cls)
    (hK : va_K D z_cl [(cA, .int)] s) (hP : va_P D z_cl ws H) (hD : va_D A ws) (hS : va_S A s.heap H locs) (hA : ∀ q : Nat, s.heap.size ≤ q → A q)
    (isC isR : List Nat) (hP0 : isC.filterMap (fun i => ws[i]?) = w0) (hC : isC.map (fun i => ws[i]?) = w0.map some) (hR : isR.map (fun i => ws[i]?) = wr.map some) (hnC : va_nd isC = true) (hnR : va_nd isR = true) (hdis : ∀ i ∈ isR, i ∉ isC)
    (hn : As.length = n) (hsz : ls.size = nL) (hst : st0 = As.reverse ++ .ref b :: rest) (hW : (rest.map fun v => v.category).sum ≤ 8)
    (hdg : decode cc pc = .ok (.invokevirtual index, 3)) (hc1 : cells ≤ R.cells) (hc2 : slots ≤ R.slots)
    (kk : ∀ (u : S) (H1 : Heap) (locs1 : List Loc), post u → va_P D z_cl (wr ++ w1 u) H1 → va_D A (wr ++ w1 u) → va_S A s.heap H1 locs1 → W p l e R s m args below meth c H1 locs1 cells slots Q (F0 m (pc + 3) ls rest)) : W p l e R s m args below meth c H locs cells slots Q (F0 m pc ls st0) := by
  subst hst
  have hPc := hP.sub isC hP0
  have hDc := hD.sub isC hnC hC
  have hFc := va_free hD hS hA isC hC
  refine va_callv (va_runV (As := As) (rest := rest) hf hM cw ⟨fun a U g mk q => by obtain ⟨q0, q1, qP, qK, qD⟩ := q; exact ⟨q0, q1, qP, va_K.moved (u := U) (U := U.calling g mk a) (Vm.Alike.refl U.vm) qK, qD⟩, hrc, fun U hU hW => ⟨rfl, by rw [hU], by rw [hU]; exact hPc, va_K.moved hW.alike hK, hDc.weaken (fun _ _ _ _ => trivial)⟩⟩ rfl hn hsz rfl (lv_room hW) hdg ⟨hc1, hc2⟩) hS (fun q _ h => hFc q h) hFc (fun u t H1 locs ht hvm hw hB hz1 hk1 hS => ?_)
  obtain ⟨hP1, hK1, hD1⟩ := hB
  rw [ht] at hP1
  obtain ⟨hP2, hD2⟩ := va_join (wr := wr) (w1 := w1 u) hP hD isC isR hC hR hnR hdis hk1 hFc hP1 hD1
  exact kk u H1 locs hw hP2 hD2 hS
/-- a constructor's call -/
theorem z_callnR {post : S → Prop} {w1 : S → va_W} {mc ms : Nat} (hf : CallFix p m c cc nL s args Ts own) (hM : Met l y (ws_ y bytes maxL none) rm (va_Pc [.ref b] (z_PZ D cA H.size w0)) (va_Qv post (fun u t => z_BZ D cA (va_A w0 H.size) (w1 u) t) (va_A w0 H.size)) mc ms (va_A w0 H.size))
    (cw : CallB R s args own index y bytes maxL none (ws_ y bytes maxL none) rm mc ms 0 ∧ y.name = "<init>" ∧ (Cond.instanceMethod y).before args s = true)
    (hK : va_K D z_cl [(cA, .int)] s) (hP : va_P D z_cl ws H) (hD : va_D A ws) (hS : va_S A s.heap H locs) (hA : ∀ q : Nat, s.heap.size ≤ q → A q)
    (isC isR : List Nat) (hP0 : isC.filterMap (fun i => ws[i]?) = w0) (hC : isC.map (fun i => ws[i]?) = w0.map some) (hR : isR.map (fun i => ws[i]?) = wr.map some) (hnC : va_nd isC = true) (hnR : va_nd isR = true) (hdis : ∀ i ∈ isR, i ∉ isC)
    (hsz : ls.size = nL) (hst : st0 = .ref b :: rest) (hW : (rest.map fun v => v.category).sum ≤ 8)
    (hdg : decode cc pc = .ok (.invokespecial index, 3)) (hc1 : cells + mc ≤ R.cells) (hc2 : slots + ms ≤ R.slots)
    (kk : ∀ (u : S) (H1 : Heap) (locs1 : List Loc), post u → va_P D z_cl (wr ++ w1 u) H1 → va_D A (wr ++ w1 u) → va_S A s.heap H1 locs1 → W p l e R s m args below meth c H1 locs1 (cells + mc) (slots + ms) Q (F0 m (pc + 3) ls rest)) : W p l e R s m args below meth c H locs cells slots Q (F0 m pc ls st0) := by
  subst hst
  have hPc := hP.sub isC hP0
  have hDc := hD.sub isC hnC hC
  have hFc := va_free hD hS hA isC hC
  refine va_callv (va_runI (As := []) (rest := rest) hf hM cw ⟨fun a U g mk q => by obtain ⟨q0, q1, qP, qK, qD⟩ := q; exact ⟨q0, q1, qP, va_K.moved (u := U) (U := U.calling g mk a) (Vm.Alike.refl U.vm) qK, qD⟩, fun U hU hW => ⟨rfl, by rw [hU], by rw [hU]; exact hPc, va_K.moved hW.alike hK, hDc.weaken (fun _ _ _ _ => trivial)⟩⟩ rfl rfl hsz rfl (lv_room hW) hdg ⟨hc1, hc2⟩) hS (fun q _ h => hFc q h) hFc (fun u t H1 locs ht hvm hw hB hz1 hk1 hS => ?_)
  obtain ⟨hP1, hK1, hD1⟩ := hB
  rw [ht] at hP1
  obtain ⟨hP2, hD2⟩ := va_join (wr := wr) (w1 := w1 u) hP hD isC isR hC hR hnR hdis hk1 hFc hP1 hD1
  exact kk u H1 locs hw hP2 hD2 hS
theorem zn_sld {H0 : Heap} (hexec : p.tables.exec = Jvm.exec) (hb : c.code = cc) {L : Nat} {xs : Nat → Int32} (hX : va_X b L xs s H0) (hbl : b < H0.size) (hbA : ¬ A b) (hS : va_S A H0 H locs) {i : Nat} (hi : i < L) (hL : L < 2 ^ 31) (hdg : decode cc pc = .ok (.iaload, 1))
    (kk : W p l e R s m args below meth c H locs cells slots Q (F0 m (pc + 1) ls (.int (xs i) :: rest))) : W p l e R s m args below meth c H locs cells slots Q (F0 m pc ls (.int (nI i) :: .ref b :: rest)) :=
  va_sld hexec hb hX hbl hbA hS (vp_in_nI hi hL) hdg (by rw [nI_clamp (by omega)]; exact kk)
theorem zn_iand15 (hexec : p.tables.exec = Jvm.exec) (hb : c.code = cc) {x : Int32} (hdg : decode cc pc = .ok (.iand, 1))
    (k : ∀ v : Nat, v < 16 → W p l e R s m args below meth c H locs cells slots Q (F0 m (pc + 1) ls (.int (nI v) :: rest))) : W p l e R s m args below meth c H locs cells slots Q (F0 m pc ls (.int (nI 15) :: .int x :: rest)) := by
  obtain ⟨j, hj, e⟩ := pk_andE x (m := nI 15) 4 (by decide)
  exact lv_iand hexec hb hdg (by rw [e]; exact k j hj)
end ZLAW
theorem z_more {i L : Nat} (hi : i < 1000) (hL : L < 1000) (h : ¬ (nI L - nI 3 < nI i)) : i + 3 ≤ L := by
  rcases Nat.lt_or_ge L 3 with q | q
  · exfalso
    apply h
    rw [Int32.lt_iff_toInt_lt, pk_sub_toInt (by omega) (by decide), nI_toInt (by omega)]
    omega
  · rw [pk_sub q] at h
    have h9 : ¬ L - 3 < i := fun r => h ((nI_ltI (by omega) (by omega)).mpr r)
    omega
theorem z_vn_P {ky : Nat → Nat} (hky : ∀ j, ky j < 8) {kl : Nat} (hkl : kl ≤ 4) : z_vn (z_P ky kl) := by
  have h := z_P_lt4 hky hkl
  refine ⟨by omega, fun i hi => ?_⟩
  rcases Nat.lt_or_ge i kl with q | q
  · right
    rw [z_sh_P hky (by omega), show kl - i = (kl - i - 1) + 1 by omega]
    have := hky (kl - i - 1)
    simp only [z_P]
    omega
  · exact Or.inl (z_sh_PZ hky q)
theorem z_P_last {ky : Nat → Nat} (hky : ∀ j, ky j < 8) {kl : Nat} (h : 0 < kl) : z_P ky kl % 9 = ky (kl - 1) + 1 ∧ z_P ky kl / 9 = z_P ky (kl - 1) := by
  rw [show kl = (kl - 1) + 1 by omega]
  have := hky (kl - 1)
  simp only [z_P, Nat.add_sub_cancel]
  omega
theorem z_t_label {ky : Nat → Nat} {kl : Nat} {pa r r' : Int32} {u : Nat × (Nat → Nat)} {u' : Nat × Nat} (hky : ∀ j, ky j < 8) (hkl : kl ≤ 4)
    (h : (kl < 4 ∧ r = nI (kl + 1) ∧ u.1 = kl + 1 ∧ u.2 = zn_u ky kl (z_lo pa)) ∨ (¬ kl < 4 ∧ r = (-1) ∧ u.1 = kl ∧ u.2 = ky)) (h' : (kl < 4 ∧ r' = nI (kl + 1) ∧ u'.1 = 9 * z_P ky kl + z_lo pa + 1 ∧ u'.2 = kl + 1) ∨ (¬ kl < 4 ∧ r' = (-1) ∧ u'.1 = z_P ky kl ∧ u'.2 = kl)) :
    r = r' ∧ u'.1 = z_P u.2 u.1 ∧ u'.2 = u.1 ∧ u.1 ≤ 4 ∧ ∀ j, u.2 j < 8 := by
  rcases h with ⟨a1, a2, a3, a4⟩ | ⟨a1, a2, a3, a4⟩ <;> rcases h' with ⟨b1, b2, b3, b4⟩ | ⟨b1, b2, b3, b4⟩
  · refine ⟨by rw [a2, b2], ?_, by rw [b4, a3], by omega, ?_⟩
    · rw [b3, a3, a4]
      have e1 : z_P (zn_u ky kl (z_lo pa)) kl = z_P ky kl := z_P_congr (fun j hj => zn_un (by omega))
      show _ = 9 * z_P (zn_u ky kl (z_lo pa)) kl + zn_u ky kl (z_lo pa) kl + 1
      rw [e1, zn_us]
    · intro j
      rw [a4]
      by_cases hj : j = kl
      · rw [hj, zn_us]; exact z_lo_lt pa
      · rw [zn_un hj]; exact hky j
  · exact absurd a1 b1
  · exact absurd b1 a1
  · exact ⟨by rw [a2, b2], by rw [b3, a3, a4], by rw [b4, a3], by omega, by rw [a4]; exact hky⟩
theorem z_t_back {ky : Nat → Nat} {kl : Nat} {r r' : Int32} {u : Nat} {u' : Nat × Nat} (hky : ∀ j, ky j < 8) (hkl : kl ≤ 4)
    (h : (kl = 0 ∧ r = (-1) ∧ u = kl) ∨ (0 < kl ∧ r = nI (ky (kl - 1)) ∧ u = kl - 1)) (h' : (kl = 0 ∧ r' = (-1) ∧ u'.1 = z_P ky kl ∧ u'.2 = kl) ∨ (0 < kl ∧ r' = nI (z_P ky kl % 9 - 1) ∧ u'.1 = z_P ky kl / 9 ∧ u'.2 = kl - 1)) :
    r = r' ∧ u'.1 = z_P ky u ∧ u'.2 = u ∧ u ≤ 4 := by
  rcases h with ⟨a1, a2, a3⟩ | ⟨a1, a2, a3⟩ <;> rcases h' with ⟨b1, b2, b3, b4⟩ | ⟨b1, b2, b3, b4⟩
  · exact ⟨by rw [a2, b2], by rw [b3, a3], by rw [b4, a3], by omega⟩
  · omega
  · omega
  · obtain ⟨c1, c2⟩ := z_P_last hky a1
    refine ⟨by rw [a2, b2, c1]; rfl, by rw [b3, a3, c2], by rw [b4, a3], by omega⟩
theorem z_add_det {nm : Nat → Nat} {es ev : Nat → Int32} {he K : Nat} {s v r r' : Int32} {u u' : Nat × (Nat → Nat) × (Nat → Int32) × (Nat → Int32)} (h : z_add nm es ev he K s v r u) (h' : z_add nm es ev he K s v r' u') : r = r' ∧ u' = u := by
  rcases h with ⟨a1, a2, a3⟩ | ⟨a1, a2, a3⟩ <;> rcases h' with ⟨b1, b2, b3⟩ | ⟨b1, b2, b3⟩
  · exact ⟨by rw [a2, b2], by rw [a3, b3]⟩
  · exact absurd a1 b1
  · exact absurd b1 a1
  · exact ⟨by rw [a2, b2], by rw [a3, b3]⟩
theorem z_rem_det {nm : Nat → Nat} {es ev : Nat → Int32} {he K : Nat} {s v r r' : Int32} {u u' : Nat × (Nat → Nat) × (Nat → Int32) × (Nat → Int32)} (h : z_rem nm es ev he K s v r u) (h' : z_rem nm es ev he K s v r' u') : r = r' ∧ u' = u := by
  rcases h with ⟨j, a1, a2, a3⟩ | ⟨a1, a2, a3⟩ <;> rcases h' with ⟨j', b1, b2, b3⟩ | ⟨b1, b2, b3⟩
  · rw [a1] at b1
    have := Option.some.inj b1
    subst this
    exact ⟨by rw [a2, b2], by rw [a3, b3]⟩
  · rw [a1] at b1; exact absurd b1 (by simp)
  · rw [a1] at b1; exact absurd b1 (by simp)
  · exact ⟨by rw [a2, b2], by rw [a3, b3]⟩
theorem z_t_two {P : Prop} {r r' a b : Int32} (h : (r = a ∧ P) ∨ (r = b ∧ ¬ P)) (h' : (r' = a ∧ P) ∨ (r' = b ∧ ¬ P)) : r = r' := by
  rcases h with ⟨a1, a2⟩ | ⟨a1, a2⟩ <;> rcases h' with ⟨b1, b2⟩ | ⟨b1, b2⟩
  · rw [a1, b1]
  · exact absurd a2 b2
  · exact absurd b2 a2
  · rw [a1, b1]
theorem z_t_two2 {P : Prop} {r r' a b : Int32} (h : (P ∧ r = a) ∨ (¬ P ∧ r = b)) (h' : (P ∧ r' = a) ∨ (¬ P ∧ r' = b)) : r = r' := by
  rcases h with ⟨a1, a2⟩ | ⟨a1, a2⟩ <;> rcases h' with ⟨b1, b2⟩ | ⟨b1, b2⟩
  · rw [a2, b2]
  · exact absurd a1 b1
  · exact absurd b1 a1
  · rw [a2, b2]
end
section
/-! THE CLAIM OUT OF ONE WALK OF THE LAW'S BODY. Your part is whole_start (and what it stands on); all else here is the same for every law, but numbers. -/
def R_law : String := "ZoneLookupLaw"
def lw_P (b : Addr) (xs : List Int32) (args : Array Value) (s : State) : Prop := args = #[.ref b] ∧ s.IntsAt b xs ∧ xs.length ≤ 192 ∧ (Jvm.Cond.and given_1 narrow_1).before args s = true
def lw_Q (_ : Array Value) (s : State) (o : Outcome) (t : State) : Prop := o = .returned (some (.int 1)) ∧ Framed s o t [] 600000 7290000
def lw_Z (below : List Frame) (a : Array Value) (s : State) : State → Prop := fun t => ∃ o, t.status = .running ∧ Ended t below o ∧ lw_Q a s o t
/-- the law's own end, with 1 on the stack, nothing written that was there before, its room as the claim has it -/
theorem lw_ret {p : Program} {l : Launch} {e : Env} {s : State} {m : MethodId} {below : List Frame} {meth : Method} {c : Code} {b : Nat} (hx : p.tables.exec = Jvm.exec) (hb : c.code = code) (hr : meth.sig.returnType = ret) (hlocks : meth.locks = false) {pc : Nat} {H : Heap} {ls : Array Slot} (hdg : decode code pc = .ok (.ireturn, 1)) : W p l e room_1 s m #[Value.ref b] below meth c H [] 600000 7290000 (lw_Z below #[Value.ref b] s) (F0 m pc ls [.int 1]) := by
  intro T hT X
  obtain ⟨fs, hret, hrun, hended, hW, hframe⟩ := X.leave (v := some (.int 1)) (hlocks := hlocks) (fun h => by rw [hr] at h; cases h)
  have hmeth' : T.vm.method? m = some meth := X.method'
  refine ⟨T.setFrames fs, ?_, .returned (some (.int 1)), hrun, hended, rfl, ⟨_, rfl⟩, hW, hframe⟩
  jvm_step X.here [X.here.top, hx, hb, hdg, hmeth', hr, ret, narrow_b1]
  (try refine ⟨rfl, ?_⟩); (try refine ⟨rfl, ?_⟩)
  first | (intro acts; rw [hret _ acts rfl rfl rfl]) | rw [hret _ _ rfl rfl rfl]
  exact Steps.refl _
/-- what holds at the law's entry: the machine, the code, the tables' words (any of lw_tbl by 'hts w (by decide +kernel)'), the script of L ints xs at the cell b, what the Statement gives of the start (any of its parts by flat_of_before) -/
def lw_At (p : Program) (s : State) (m : MethodId) (meth : Method) (c : Code) (b L : Nat) (xs : Nat → Int32) : Prop :=
  p.tables.exec = Jvm.exec ∧ c.code = code ∧ meth.sig.returnType = ret ∧ c.maxLocals = 4 ∧ s.vm.findClass R_law = some m.cls ∧ (∀ w ∈ lw_tbl, w.before #[Value.ref b] s = true) ∧ va_X b L xs s s.heap ∧ b < s.heap.size ∧ meth.locks = false ∧ (Jvm.Cond.and given_1 narrow_1).before #[Value.ref b] s = true
end
section
/-! THE LAW, case by case -/
set_option maxRecDepth 100000
set_option maxHeartbeats 4000000 in
/-- label: both answer alike, the invariant stays -/
theorem zl_label {p : Program} {l : Launch} {e : Env} {s : State} {m : MethodId} {below : List Frame} {meth : Method} {c : Code} {D : va_G} {cA : ClassId} {b L : Nat} {xs : Nat → Int32} (hL : L ≤ 192) (C0 : lw_At p s m meth c b L xs) (hK : va_K D z_cl [(cA, .int)] s) (h g : Nat → Nat) (i : Nat) (hi : i + 3 ≤ L) (ls : Array Slot) (hl : lv_has ls 4 [(0, .ref b), (1, .ref (h 0)), (2, .ref (g 0)), (3, .int (nI i))]) (hnext : ∀ (kl : Nat) (ky ch nu be : Nat → Nat) (he : Nat) (en : Nat → Nat) (es ev : Nat → Int32) (nm : Nat → Nat) (an ap ao ar : Int32) (al : Nat) (ak : Nat → Nat) (pl ro : Int32), z_I kl ky ch nu be he en es ev nm → (∀ j, ak j < 8) → ∀ (H : Heap) (locs : List Loc), va_P D z_cl (z_w0 cA h (nI kl) (zn_F ky) (zn_F ch) (zn_F nu) (zn_F be) (nI he) (zn_F en) es ev an ap ao ar (nI al) (zn_F ak) ++ z_w1 cA g (nI he) (zn_F nm) es ev (nI (z_P ky kl)) (nI kl) pl ro) H → va_D (fun q : Nat => s.heap.size ≤ q) (z_w0 cA h (nI kl) (zn_F ky) (zn_F ch) (zn_F nu) (zn_F be) (nI he) (zn_F en) es ev an ap ao ar (nI al) (zn_F ak) ++ z_w1 cA g (nI he) (zn_F nm) es ev (nI (z_P ky kl)) (nI kl) pl ro) → va_S (fun q : Nat => s.heap.size ≤ q) s.heap H locs → ∀ ls : Array Slot, lv_has ls 4 [(0, .ref b), (1, .ref (h 0)), (2, .ref (g 0)), (3, .int (nI i))] → W p l e room_1 s m #[Value.ref b] below meth c H locs 13 1175 (lw_Z below #[Value.ref b] s) (F0 m 333 ls [])) :
    ∀ (kl : Nat) (ky ch nu be : Nat → Nat) (he : Nat) (en : Nat → Nat) (es ev : Nat → Int32) (nm : Nat → Nat) (an ap ao ar : Int32) (al : Nat) (ak : Nat → Nat) (pl ro : Int32), z_I kl ky ch nu be he en es ev nm → (∀ j, ak j < 8) → ∀ (H : Heap) (locs : List Loc), va_P D z_cl (z_w0 cA h (nI kl) (zn_F ky) (zn_F ch) (zn_F nu) (zn_F be) (nI he) (zn_F en) es ev an ap ao ar (nI al) (zn_F ak) ++ z_w1 cA g (nI he) (zn_F nm) es ev (nI (z_P ky kl)) (nI kl) pl ro) H → va_D (fun q : Nat => s.heap.size ≤ q) (z_w0 cA h (nI kl) (zn_F ky) (zn_F ch) (zn_F nu) (zn_F be) (nI he) (zn_F en) es ev an ap ao ar (nI al) (zn_F ak) ++ z_w1 cA g (nI he) (zn_F nm) es ev (nI (z_P ky kl)) (nI kl) pl ro) → va_S (fun q : Nat => s.heap.size ≤ q) s.heap H locs → W p l e room_1 s m #[Value.ref b] below meth c H locs 13 1175 (lw_Z below #[Value.ref b] s) (F0 m 92 ls []) := by
  obtain ⟨hx, hb, hr, hml, hown, hts0, hX, hbl, hlocks, hgv⟩ := C0
  have hts : ∀ w ∈ lw_all, w.before #[Value.ref b] s = true := fun w h => hts0 w (lw_all_tbl h)
  have hA : ∀ q : Nat, s.heap.size ≤ q → (fun q : Nat => s.heap.size ≤ q) q := fun _ h => h
  have hbA : ¬ (fun q : Nat => s.heap.size ≤ q) b := Nat.not_le.mpr hbl
  intro kl ky ch nu be he en es ev nm an ap ao ar al ak pl ro hI hak H locs hP hD hS
  obtain ⟨hkl, hky, hhe, hnm, hT, hsb, hen, hals, hrm⟩ := id hI
  refine lv_aload_n hx hb dL_law_92 rfl (lv_at hl 1 rfl) ?_
  refine lv_aload_n hx hb dL_law_93 rfl (lv_at hl 0 rfl) ?_
  refine lv_iload_n hx hb dL_law_94 rfl (lv_at hl 3 rfl) ?_
  refine lv_iconst (v := nI 1) hx hb dL_law_95 (by decide) ?_
  refine zn_iadd hx hb (a := i) (b := 1) dL_law_96 ?_
  refine zn_sld hx hb hX hbl hbA hS (i := i + 1) (by omega) (by omega) dL_law_97 ?_
  refine z_calliR (As := [.int (xs (i + 1))]) (rest := []) (wr := z_w1 cA g (nI he) (zn_F nm) es ev (nI (z_P ky kl)) (nI kl) pl ro) ⟨hx, hb, hml, hown, hts⟩ (zc_label l D cA H.size h kl ky (zn_F ch) (zn_F nu) (zn_F be) he (zn_F en) es ev an ap ao ar (nI al) (zn_F ak) (xs (i + 1)) hkl) (cwV 1 hts (lw_V q78 q79 q80 q21 q81) rfl rfl rfl (by decide +kernel) ⟨Nat.le_of_ble_eq_true rfl, Nat.le_of_ble_eq_true rfl⟩) (va_recv hK hP (ci := 0) (q0 := 0) rfl rfl) hK hP hD hS hA [0, 1, 2, 3, 4, 5, 6, 7, 8] [9, 10, 11, 12] rfl rfl rfl (by decide) (by decide) (by decide) rfl hl.1 rfl (Nat.le_of_ble_eq_true rfl) dL_law_98 (Nat.le_of_ble_eq_true rfl) (Nat.le_of_ble_eq_true rfl) (fun rx ux H locs hwx hP hD hS => ?_)
  have hP : va_P D z_cl (z_w1 cA g (nI he) (zn_F nm) es ev (nI (z_P ky kl)) (nI kl) pl ro ++ z_w0 cA h (nI ux.1) (zn_F ux.2) (zn_F ch) (zn_F nu) (zn_F be) (nI he) (zn_F en) es ev an ap ao ar (nI al) (zn_F ak)) H := hP
  have hD : va_D (fun q : Nat => s.heap.size ≤ q) (z_w1 cA g (nI he) (zn_F nm) es ev (nI (z_P ky kl)) (nI kl) pl ro ++ z_w0 cA h (nI ux.1) (zn_F ux.2) (zn_F ch) (zn_F nu) (zn_F be) (nI he) (zn_F en) es ev an ap ao ar (nI al) (zn_F ak)) := hD
  refine lv_aload_n hx hb dL_law_101 rfl (lv_at hl 2 rfl) ?_
  refine lv_aload_n hx hb dL_law_102 rfl (lv_at hl 0 rfl) ?_
  refine lv_iload_n hx hb dL_law_103 rfl (lv_at hl 3 rfl) ?_
  refine lv_iconst (v := nI 1) hx hb dL_law_104 (by decide) ?_
  refine zn_iadd hx hb (a := i) (b := 1) dL_law_105 ?_
  refine zn_sld hx hb hX hbl hbA hS (i := i + 1) (by omega) (by omega) dL_law_106 ?_
  refine z_calliR (As := [.int (xs (i + 1))]) (rest := [.int rx]) (wr := z_w0 cA h (nI ux.1) (zn_F ux.2) (zn_F ch) (zn_F nu) (zn_F be) (nI he) (zn_F en) es ev an ap ao ar (nI al) (zn_F ak)) ⟨hx, hb, hml, hown, hts⟩ (zd_label l D cA H.size g he (zn_F nm) es ev (z_P ky kl) kl pl ro (xs (i + 1)) hkl) (cwV 1 hts (lw_V q208 q209 q210 q22 q211) rfl rfl rfl (by decide +kernel) ⟨Nat.le_of_ble_eq_true rfl, Nat.le_of_ble_eq_true rfl⟩) (va_recv hK hP (ci := 1) (q0 := 0) rfl rfl) hK hP hD hS hA [0, 1, 2, 3] [4, 5, 6, 7, 8, 9, 10, 11, 12] rfl rfl rfl (by decide) (by decide) (by decide) rfl hl.1 rfl (Nat.le_of_ble_eq_true rfl) dL_law_107 (Nat.le_of_ble_eq_true rfl) (Nat.le_of_ble_eq_true rfl) (fun rm um H locs hwm hP hD hS => ?_)
  have hP : va_P D z_cl (z_w0 cA h (nI ux.1) (zn_F ux.2) (zn_F ch) (zn_F nu) (zn_F be) (nI he) (zn_F en) es ev an ap ao ar (nI al) (zn_F ak) ++ z_w1 cA g (nI he) (zn_F nm) es ev (nI um.1) (nI um.2) pl ro) H := hP
  have hD : va_D (fun q : Nat => s.heap.size ≤ q) (z_w0 cA h (nI ux.1) (zn_F ux.2) (zn_F ch) (zn_F nu) (zn_F be) (nI he) (zn_F en) es ev an ap ao ar (nI al) (zn_F ak) ++ z_w1 cA g (nI he) (zn_F nm) es ev (nI um.1) (nI um.2) pl ro) := hD
  obtain ⟨eq, e1, e2, e3, e4⟩ := z_t_label hky hkl hwx hwm
  rw [e1, e2] at hP hD
  refine lv_icmp_eq (tgt := 333) (x := rx) (y := rm) hx hb dL_law_110 (by decide) (fun _ => ?_) (fun q => absurd eq q)
  exact hnext ux.1 ux.2 ch nu be he en es ev nm an ap ao ar al ak pl ro (z_I_key hI e3 e4) hak _ _ hP hD hS ls hl
set_option maxHeartbeats 4000000 in
/-- back: both answer alike, the invariant stays -/
theorem zl_back {p : Program} {l : Launch} {e : Env} {s : State} {m : MethodId} {below : List Frame} {meth : Method} {c : Code} {D : va_G} {cA : ClassId} {b L : Nat} {xs : Nat → Int32} (hL : L ≤ 192) (C0 : lw_At p s m meth c b L xs) (hK : va_K D z_cl [(cA, .int)] s) (h g : Nat → Nat) (i : Nat) (hi : i + 3 ≤ L) (ls : Array Slot) (hl : lv_has ls 4 [(0, .ref b), (1, .ref (h 0)), (2, .ref (g 0)), (3, .int (nI i))]) (hnext : ∀ (kl : Nat) (ky ch nu be : Nat → Nat) (he : Nat) (en : Nat → Nat) (es ev : Nat → Int32) (nm : Nat → Nat) (an ap ao ar : Int32) (al : Nat) (ak : Nat → Nat) (pl ro : Int32), z_I kl ky ch nu be he en es ev nm → (∀ j, ak j < 8) → ∀ (H : Heap) (locs : List Loc), va_P D z_cl (z_w0 cA h (nI kl) (zn_F ky) (zn_F ch) (zn_F nu) (zn_F be) (nI he) (zn_F en) es ev an ap ao ar (nI al) (zn_F ak) ++ z_w1 cA g (nI he) (zn_F nm) es ev (nI (z_P ky kl)) (nI kl) pl ro) H → va_D (fun q : Nat => s.heap.size ≤ q) (z_w0 cA h (nI kl) (zn_F ky) (zn_F ch) (zn_F nu) (zn_F be) (nI he) (zn_F en) es ev an ap ao ar (nI al) (zn_F ak) ++ z_w1 cA g (nI he) (zn_F nm) es ev (nI (z_P ky kl)) (nI kl) pl ro) → va_S (fun q : Nat => s.heap.size ≤ q) s.heap H locs → ∀ ls : Array Slot, lv_has ls 4 [(0, .ref b), (1, .ref (h 0)), (2, .ref (g 0)), (3, .int (nI i))] → W p l e room_1 s m #[Value.ref b] below meth c H locs 13 1175 (lw_Z below #[Value.ref b] s) (F0 m 333 ls [])) :
    ∀ (kl : Nat) (ky ch nu be : Nat → Nat) (he : Nat) (en : Nat → Nat) (es ev : Nat → Int32) (nm : Nat → Nat) (an ap ao ar : Int32) (al : Nat) (ak : Nat → Nat) (pl ro : Int32), z_I kl ky ch nu be he en es ev nm → (∀ j, ak j < 8) → ∀ (H : Heap) (locs : List Loc), va_P D z_cl (z_w0 cA h (nI kl) (zn_F ky) (zn_F ch) (zn_F nu) (zn_F be) (nI he) (zn_F en) es ev an ap ao ar (nI al) (zn_F ak) ++ z_w1 cA g (nI he) (zn_F nm) es ev (nI (z_P ky kl)) (nI kl) pl ro) H → va_D (fun q : Nat => s.heap.size ≤ q) (z_w0 cA h (nI kl) (zn_F ky) (zn_F ch) (zn_F nu) (zn_F be) (nI he) (zn_F en) es ev an ap ao ar (nI al) (zn_F ak) ++ z_w1 cA g (nI he) (zn_F nm) es ev (nI (z_P ky kl)) (nI kl) pl ro) → va_S (fun q : Nat => s.heap.size ≤ q) s.heap H locs → W p l e room_1 s m #[Value.ref b] below meth c H locs 13 1175 (lw_Z below #[Value.ref b] s) (F0 m 115 ls []) := by
  obtain ⟨hx, hb, hr, hml, hown, hts0, hX, hbl, hlocks, hgv⟩ := C0
  have hts : ∀ w ∈ lw_all, w.before #[Value.ref b] s = true := fun w h => hts0 w (lw_all_tbl h)
  have hA : ∀ q : Nat, s.heap.size ≤ q → (fun q : Nat => s.heap.size ≤ q) q := fun _ h => h
  have hbA : ¬ (fun q : Nat => s.heap.size ≤ q) b := Nat.not_le.mpr hbl
  intro kl ky ch nu be he en es ev nm an ap ao ar al ak pl ro hI hak H locs hP hD hS
  obtain ⟨hkl, hky, hhe, hnm, hT, hsb, hen, hals, hrm⟩ := id hI
  refine lv_aload_n hx hb dL_law_115 rfl (lv_at hl 1 rfl) ?_
  refine z_calliR (As := []) (rest := []) (wr := z_w1 cA g (nI he) (zn_F nm) es ev (nI (z_P ky kl)) (nI kl) pl ro) ⟨hx, hb, hml, hown, hts⟩ (zc_back l D cA H.size h kl ky (zn_F ch) (zn_F nu) (zn_F be) he (zn_F en) es ev an ap ao ar (nI al) (zn_F ak) hkl) (cwV 0 hts (lw_V q82 q83 q84 q21 q85) rfl rfl rfl (by decide +kernel) ⟨Nat.le_of_ble_eq_true rfl, Nat.le_of_ble_eq_true rfl⟩) (va_recv hK hP (ci := 0) (q0 := 0) rfl rfl) hK hP hD hS hA [0, 1, 2, 3, 4, 5, 6, 7, 8] [9, 10, 11, 12] rfl rfl rfl (by decide) (by decide) (by decide) rfl hl.1 rfl (Nat.le_of_ble_eq_true rfl) dL_law_116 (Nat.le_of_ble_eq_true rfl) (Nat.le_of_ble_eq_true rfl) (fun rx ux H locs hwx hP hD hS => ?_)
  have hP : va_P D z_cl (z_w1 cA g (nI he) (zn_F nm) es ev (nI (z_P ky kl)) (nI kl) pl ro ++ z_w0 cA h (nI ux) (zn_F ky) (zn_F ch) (zn_F nu) (zn_F be) (nI he) (zn_F en) es ev an ap ao ar (nI al) (zn_F ak)) H := hP
  have hD : va_D (fun q : Nat => s.heap.size ≤ q) (z_w1 cA g (nI he) (zn_F nm) es ev (nI (z_P ky kl)) (nI kl) pl ro ++ z_w0 cA h (nI ux) (zn_F ky) (zn_F ch) (zn_F nu) (zn_F be) (nI he) (zn_F en) es ev an ap ao ar (nI al) (zn_F ak)) := hD
  refine lv_aload_n hx hb dL_law_119 rfl (lv_at hl 2 rfl) ?_
  refine z_calliR (As := []) (rest := [.int rx]) (wr := z_w0 cA h (nI ux) (zn_F ky) (zn_F ch) (zn_F nu) (zn_F be) (nI he) (zn_F en) es ev an ap ao ar (nI al) (zn_F ak)) ⟨hx, hb, hml, hown, hts⟩ (zd_back l D cA H.size g he (zn_F nm) es ev (z_P ky kl) kl pl ro hkl (by have := z_P_lt4 hky hkl; omega) (fun q => by rw [(z_P_last hky q).1]; omega)) (cwV 0 hts (lw_V q212 q213 q214 q22 q215) rfl rfl rfl (by decide +kernel) ⟨Nat.le_of_ble_eq_true rfl, Nat.le_of_ble_eq_true rfl⟩) (va_recv hK hP (ci := 1) (q0 := 0) rfl rfl) hK hP hD hS hA [0, 1, 2, 3] [4, 5, 6, 7, 8, 9, 10, 11, 12] rfl rfl rfl (by decide) (by decide) (by decide) rfl hl.1 rfl (Nat.le_of_ble_eq_true rfl) dL_law_120 (Nat.le_of_ble_eq_true rfl) (Nat.le_of_ble_eq_true rfl) (fun rm um H locs hwm hP hD hS => ?_)
  have hP : va_P D z_cl (z_w0 cA h (nI ux) (zn_F ky) (zn_F ch) (zn_F nu) (zn_F be) (nI he) (zn_F en) es ev an ap ao ar (nI al) (zn_F ak) ++ z_w1 cA g (nI he) (zn_F nm) es ev (nI um.1) (nI um.2) pl ro) H := hP
  have hD : va_D (fun q : Nat => s.heap.size ≤ q) (z_w0 cA h (nI ux) (zn_F ky) (zn_F ch) (zn_F nu) (zn_F be) (nI he) (zn_F en) es ev an ap ao ar (nI al) (zn_F ak) ++ z_w1 cA g (nI he) (zn_F nm) es ev (nI um.1) (nI um.2) pl ro) := hD
  obtain ⟨eq, e1, e2, e3⟩ := z_t_back hky hkl hwx hwm
  rw [e1, e2] at hP hD
  refine lv_icmp_eq (tgt := 333) (x := rx) (y := rm) hx hb dL_law_123 (by decide) (fun _ => ?_) (fun q => absurd eq q)
  exact hnext ux ky ch nu be he en es ev nm an ap ao ar al ak pl ro (z_I_key hI e3 hky) hak _ _ hP hD hS ls hl
set_option maxHeartbeats 4000000 in
/-- erase: both answer alike, the invariant stays -/
theorem zl_erase {p : Program} {l : Launch} {e : Env} {s : State} {m : MethodId} {below : List Frame} {meth : Method} {c : Code} {D : va_G} {cA : ClassId} {b L : Nat} {xs : Nat → Int32} (hL : L ≤ 192) (C0 : lw_At p s m meth c b L xs) (hK : va_K D z_cl [(cA, .int)] s) (h g : Nat → Nat) (i : Nat) (hi : i + 3 ≤ L) (ls : Array Slot) (hl : lv_has ls 4 [(0, .ref b), (1, .ref (h 0)), (2, .ref (g 0)), (3, .int (nI i))]) (hnext : ∀ (kl : Nat) (ky ch nu be : Nat → Nat) (he : Nat) (en : Nat → Nat) (es ev : Nat → Int32) (nm : Nat → Nat) (an ap ao ar : Int32) (al : Nat) (ak : Nat → Nat) (pl ro : Int32), z_I kl ky ch nu be he en es ev nm → (∀ j, ak j < 8) → ∀ (H : Heap) (locs : List Loc), va_P D z_cl (z_w0 cA h (nI kl) (zn_F ky) (zn_F ch) (zn_F nu) (zn_F be) (nI he) (zn_F en) es ev an ap ao ar (nI al) (zn_F ak) ++ z_w1 cA g (nI he) (zn_F nm) es ev (nI (z_P ky kl)) (nI kl) pl ro) H → va_D (fun q : Nat => s.heap.size ≤ q) (z_w0 cA h (nI kl) (zn_F ky) (zn_F ch) (zn_F nu) (zn_F be) (nI he) (zn_F en) es ev an ap ao ar (nI al) (zn_F ak) ++ z_w1 cA g (nI he) (zn_F nm) es ev (nI (z_P ky kl)) (nI kl) pl ro) → va_S (fun q : Nat => s.heap.size ≤ q) s.heap H locs → ∀ ls : Array Slot, lv_has ls 4 [(0, .ref b), (1, .ref (h 0)), (2, .ref (g 0)), (3, .int (nI i))] → W p l e room_1 s m #[Value.ref b] below meth c H locs 13 1175 (lw_Z below #[Value.ref b] s) (F0 m 333 ls [])) :
    ∀ (kl : Nat) (ky ch nu be : Nat → Nat) (he : Nat) (en : Nat → Nat) (es ev : Nat → Int32) (nm : Nat → Nat) (an ap ao ar : Int32) (al : Nat) (ak : Nat → Nat) (pl ro : Int32), z_I kl ky ch nu be he en es ev nm → (∀ j, ak j < 8) → ∀ (H : Heap) (locs : List Loc), va_P D z_cl (z_w0 cA h (nI kl) (zn_F ky) (zn_F ch) (zn_F nu) (zn_F be) (nI he) (zn_F en) es ev an ap ao ar (nI al) (zn_F ak) ++ z_w1 cA g (nI he) (zn_F nm) es ev (nI (z_P ky kl)) (nI kl) pl ro) H → va_D (fun q : Nat => s.heap.size ≤ q) (z_w0 cA h (nI kl) (zn_F ky) (zn_F ch) (zn_F nu) (zn_F be) (nI he) (zn_F en) es ev an ap ao ar (nI al) (zn_F ak) ++ z_w1 cA g (nI he) (zn_F nm) es ev (nI (z_P ky kl)) (nI kl) pl ro) → va_S (fun q : Nat => s.heap.size ≤ q) s.heap H locs → W p l e room_1 s m #[Value.ref b] below meth c H locs 13 1175 (lw_Z below #[Value.ref b] s) (F0 m 128 ls []) := by
  obtain ⟨hx, hb, hr, hml, hown, hts0, hX, hbl, hlocks, hgv⟩ := C0
  have hts : ∀ w ∈ lw_all, w.before #[Value.ref b] s = true := fun w h => hts0 w (lw_all_tbl h)
  have hA : ∀ q : Nat, s.heap.size ≤ q → (fun q : Nat => s.heap.size ≤ q) q := fun _ h => h
  have hbA : ¬ (fun q : Nat => s.heap.size ≤ q) b := Nat.not_le.mpr hbl
  intro kl ky ch nu be he en es ev nm an ap ao ar al ak pl ro hI hak H locs hP hD hS
  obtain ⟨hkl, hky, hhe, hnm, hT, hsb, hen, hals, hrm⟩ := id hI
  refine lv_aload_n hx hb dL_law_128 rfl (lv_at hl 1 rfl) ?_
  refine z_callvR (As := []) (rest := []) (wr := z_w1 cA g (nI he) (zn_F nm) es ev (nI (z_P ky kl)) (nI kl) pl ro) ⟨hx, hb, hml, hown, hts⟩ (zc_erase l D cA H.size h (nI kl) (zn_F ky) (zn_F ch) (zn_F nu) (zn_F be) he (zn_F en) es ev an ap ao ar (nI al) (zn_F ak)) (cwV 0 hts (lw_V q86 q87 q88 q21 q89) rfl rfl rfl (by decide +kernel) ⟨Nat.le_of_ble_eq_true rfl, Nat.le_of_ble_eq_true rfl⟩) (va_recv hK hP (ci := 0) (q0 := 0) rfl rfl) hK hP hD hS hA [0, 1, 2, 3, 4, 5, 6, 7, 8] [9, 10, 11, 12] rfl rfl rfl (by decide) (by decide) (by decide) rfl hl.1 rfl (Nat.le_of_ble_eq_true rfl) dL_law_129 (Nat.le_of_ble_eq_true rfl) (Nat.le_of_ble_eq_true rfl) (fun ux H locs hwx hP hD hS => ?_)
  have hP : va_P D z_cl (z_w1 cA g (nI he) (zn_F nm) es ev (nI (z_P ky kl)) (nI kl) pl ro ++ z_w0 cA h (nI 0) (zn_F ky) (zn_F ch) (zn_F nu) (zn_F be) (nI he) (zn_F en) es ev an ap ao ar (nI al) (zn_F ak)) H := hP
  have hD : va_D (fun q : Nat => s.heap.size ≤ q) (z_w1 cA g (nI he) (zn_F nm) es ev (nI (z_P ky kl)) (nI kl) pl ro ++ z_w0 cA h (nI 0) (zn_F ky) (zn_F ch) (zn_F nu) (zn_F be) (nI he) (zn_F en) es ev an ap ao ar (nI al) (zn_F ak)) := hD
  refine lv_aload_n hx hb dL_law_132 rfl (lv_at hl 2 rfl) ?_
  refine z_callvR (As := []) (rest := []) (wr := z_w0 cA h (nI 0) (zn_F ky) (zn_F ch) (zn_F nu) (zn_F be) (nI he) (zn_F en) es ev an ap ao ar (nI al) (zn_F ak)) ⟨hx, hb, hml, hown, hts⟩ (zd_erase l D cA H.size g he (zn_F nm) es ev (nI (z_P ky kl)) (nI kl) pl ro) (cwV 0 hts (lw_V q216 q217 q218 q22 q219) rfl rfl rfl (by decide +kernel) ⟨Nat.le_of_ble_eq_true rfl, Nat.le_of_ble_eq_true rfl⟩) (va_recv hK hP (ci := 1) (q0 := 0) rfl rfl) hK hP hD hS hA [0, 1, 2, 3] [4, 5, 6, 7, 8, 9, 10, 11, 12] rfl rfl rfl (by decide) (by decide) (by decide) rfl hl.1 rfl (Nat.le_of_ble_eq_true rfl) dL_law_133 (Nat.le_of_ble_eq_true rfl) (Nat.le_of_ble_eq_true rfl) (fun um H locs hwm hP hD hS => ?_)
  have hP : va_P D z_cl (z_w0 cA h (nI 0) (zn_F ky) (zn_F ch) (zn_F nu) (zn_F be) (nI he) (zn_F en) es ev an ap ao ar (nI al) (zn_F ak) ++ z_w1 cA g (nI he) (zn_F nm) es ev (nI 0) (nI 0) pl ro) H := hP
  have hD : va_D (fun q : Nat => s.heap.size ≤ q) (z_w0 cA h (nI 0) (zn_F ky) (zn_F ch) (zn_F nu) (zn_F be) (nI he) (zn_F en) es ev an ap ao ar (nI al) (zn_F ak) ++ z_w1 cA g (nI he) (zn_F nm) es ev (nI 0) (nI 0) pl ro) := hD
  refine lv_goto (tgt := 333) hx hb dL_law_136 (by decide) ?_
  exact hnext 0 ky ch nu be he en es ev nm an ap ao ar al ak pl ro (z_I_key hI (Nat.zero_le _) hky) hak _ _ hP hD hS ls hl
set_option maxHeartbeats 4000000 in
/-- number: both answer alike, the invariant stays -/
theorem zl_number {p : Program} {l : Launch} {e : Env} {s : State} {m : MethodId} {below : List Frame} {meth : Method} {c : Code} {D : va_G} {cA : ClassId} {b L : Nat} {xs : Nat → Int32} (hL : L ≤ 192) (C0 : lw_At p s m meth c b L xs) (hK : va_K D z_cl [(cA, .int)] s) (h g : Nat → Nat) (i : Nat) (hi : i + 3 ≤ L) (ls : Array Slot) (hl : lv_has ls 4 [(0, .ref b), (1, .ref (h 0)), (2, .ref (g 0)), (3, .int (nI i))]) (hnext : ∀ (kl : Nat) (ky ch nu be : Nat → Nat) (he : Nat) (en : Nat → Nat) (es ev : Nat → Int32) (nm : Nat → Nat) (an ap ao ar : Int32) (al : Nat) (ak : Nat → Nat) (pl ro : Int32), z_I kl ky ch nu be he en es ev nm → (∀ j, ak j < 8) → ∀ (H : Heap) (locs : List Loc), va_P D z_cl (z_w0 cA h (nI kl) (zn_F ky) (zn_F ch) (zn_F nu) (zn_F be) (nI he) (zn_F en) es ev an ap ao ar (nI al) (zn_F ak) ++ z_w1 cA g (nI he) (zn_F nm) es ev (nI (z_P ky kl)) (nI kl) pl ro) H → va_D (fun q : Nat => s.heap.size ≤ q) (z_w0 cA h (nI kl) (zn_F ky) (zn_F ch) (zn_F nu) (zn_F be) (nI he) (zn_F en) es ev an ap ao ar (nI al) (zn_F ak) ++ z_w1 cA g (nI he) (zn_F nm) es ev (nI (z_P ky kl)) (nI kl) pl ro) → va_S (fun q : Nat => s.heap.size ≤ q) s.heap H locs → ∀ ls : Array Slot, lv_has ls 4 [(0, .ref b), (1, .ref (h 0)), (2, .ref (g 0)), (3, .int (nI i))] → W p l e room_1 s m #[Value.ref b] below meth c H locs 13 1175 (lw_Z below #[Value.ref b] s) (F0 m 333 ls [])) :
    ∀ (kl : Nat) (ky ch nu be : Nat → Nat) (he : Nat) (en : Nat → Nat) (es ev : Nat → Int32) (nm : Nat → Nat) (an ap ao ar : Int32) (al : Nat) (ak : Nat → Nat) (pl ro : Int32), z_I kl ky ch nu be he en es ev nm → (∀ j, ak j < 8) → ∀ (H : Heap) (locs : List Loc), va_P D z_cl (z_w0 cA h (nI kl) (zn_F ky) (zn_F ch) (zn_F nu) (zn_F be) (nI he) (zn_F en) es ev an ap ao ar (nI al) (zn_F ak) ++ z_w1 cA g (nI he) (zn_F nm) es ev (nI (z_P ky kl)) (nI kl) pl ro) H → va_D (fun q : Nat => s.heap.size ≤ q) (z_w0 cA h (nI kl) (zn_F ky) (zn_F ch) (zn_F nu) (zn_F be) (nI he) (zn_F en) es ev an ap ao ar (nI al) (zn_F ak) ++ z_w1 cA g (nI he) (zn_F nm) es ev (nI (z_P ky kl)) (nI kl) pl ro) → va_S (fun q : Nat => s.heap.size ≤ q) s.heap H locs → W p l e room_1 s m #[Value.ref b] below meth c H locs 13 1175 (lw_Z below #[Value.ref b] s) (F0 m 139 ls []) := by
  obtain ⟨hx, hb, hr, hml, hown, hts0, hX, hbl, hlocks, hgv⟩ := C0
  have hts : ∀ w ∈ lw_all, w.before #[Value.ref b] s = true := fun w h => hts0 w (lw_all_tbl h)
  have hA : ∀ q : Nat, s.heap.size ≤ q → (fun q : Nat => s.heap.size ≤ q) q := fun _ h => h
  have hbA : ¬ (fun q : Nat => s.heap.size ≤ q) b := Nat.not_le.mpr hbl
  intro kl ky ch nu be he en es ev nm an ap ao ar al ak pl ro hI hak H locs hP hD hS
  obtain ⟨hkl, hky, hhe, hnm, hT, hsb, hen, hals, hrm⟩ := id hI
  refine lv_aload_n hx hb dL_law_139 rfl (lv_at hl 1 rfl) ?_
  refine z_calliR (As := []) (rest := []) (wr := z_w1 cA g (nI he) (zn_F nm) es ev (nI (z_P ky kl)) (nI kl) pl ro) ⟨hx, hb, hml, hown, hts⟩ (zc_number l D cA H.size h kl ky (zn_F ch) (zn_F nu) (zn_F be) he (zn_F en) es ev an ap ao ar (nI al) (zn_F ak) hkl) (cwV 0 hts (lw_V q90 q91 q92 q21 q93) rfl rfl rfl (by decide +kernel) ⟨Nat.le_of_ble_eq_true rfl, Nat.le_of_ble_eq_true rfl⟩) (va_recv hK hP (ci := 0) (q0 := 0) rfl rfl) hK hP hD hS hA [0, 1, 2, 3, 4, 5, 6, 7, 8] [9, 10, 11, 12] rfl rfl rfl (by decide) (by decide) (by decide) rfl hl.1 rfl (Nat.le_of_ble_eq_true rfl) dL_law_140 (Nat.le_of_ble_eq_true rfl) (Nat.le_of_ble_eq_true rfl) (fun rx ux H locs hwx hP hD hS => ?_)
  have hP : va_P D z_cl (z_w1 cA g (nI he) (zn_F nm) es ev (nI (z_P ky kl)) (nI kl) pl ro ++ z_w0 cA h (nI kl) (zn_F ky) (zn_F ch) (zn_F nu) (zn_F be) (nI he) (zn_F en) es ev an ap ao ar (nI al) (zn_F ak)) H := hP
  have hD : va_D (fun q : Nat => s.heap.size ≤ q) (z_w1 cA g (nI he) (zn_F nm) es ev (nI (z_P ky kl)) (nI kl) pl ro ++ z_w0 cA h (nI kl) (zn_F ky) (zn_F ch) (zn_F nu) (zn_F be) (nI he) (zn_F en) es ev an ap ao ar (nI al) (zn_F ak)) := hD
  refine lv_aload_n hx hb dL_law_143 rfl (lv_at hl 2 rfl) ?_
  refine z_calliR (As := []) (rest := [.int rx]) (wr := z_w0 cA h (nI kl) (zn_F ky) (zn_F ch) (zn_F nu) (zn_F be) (nI he) (zn_F en) es ev an ap ao ar (nI al) (zn_F ak)) ⟨hx, hb, hml, hown, hts⟩ (zd_number l D cA H.size g he (zn_F nm) es ev (nI (z_P ky kl)) (nI kl) pl ro) (cwV 0 hts (lw_V q220 q221 q222 q22 q223) rfl rfl rfl (by decide +kernel) ⟨Nat.le_of_ble_eq_true rfl, Nat.le_of_ble_eq_true rfl⟩) (va_recv hK hP (ci := 1) (q0 := 0) rfl rfl) hK hP hD hS hA [0, 1, 2, 3] [4, 5, 6, 7, 8, 9, 10, 11, 12] rfl rfl rfl (by decide) (by decide) (by decide) rfl hl.1 rfl (Nat.le_of_ble_eq_true rfl) dL_law_144 (Nat.le_of_ble_eq_true rfl) (Nat.le_of_ble_eq_true rfl) (fun rm um H locs hwm hP hD hS => ?_)
  have hP : va_P D z_cl (z_w0 cA h (nI kl) (zn_F ky) (zn_F ch) (zn_F nu) (zn_F be) (nI he) (zn_F en) es ev an ap ao ar (nI al) (zn_F ak) ++ z_w1 cA g (nI he) (zn_F nm) es ev (nI (z_P ky kl)) (nI kl) pl ro) H := hP
  have hD : va_D (fun q : Nat => s.heap.size ≤ q) (z_w0 cA h (nI kl) (zn_F ky) (zn_F ch) (zn_F nu) (zn_F be) (nI he) (zn_F en) es ev an ap ao ar (nI al) (zn_F ak) ++ z_w1 cA g (nI he) (zn_F nm) es ev (nI (z_P ky kl)) (nI kl) pl ro) := hD
  have eq : rx = rm := Eq.trans hwx (Eq.symm hwm)
  refine lv_icmp_eq (tgt := 333) (x := rx) (y := rm) hx hb dL_law_147 (by decide) (fun _ => ?_) (fun q => absurd eq q)
  exact hnext kl ky ch nu be he en es ev nm an ap ao ar al ak pl ro hI hak _ _ hP hD hS ls hl
set_option maxHeartbeats 4000000 in
/-- add: both answer alike, the invariant stays -/
theorem zl_add {p : Program} {l : Launch} {e : Env} {s : State} {m : MethodId} {below : List Frame} {meth : Method} {c : Code} {D : va_G} {cA : ClassId} {b L : Nat} {xs : Nat → Int32} (hL : L ≤ 192) (C0 : lw_At p s m meth c b L xs) (hK : va_K D z_cl [(cA, .int)] s) (h g : Nat → Nat) (i : Nat) (hi : i + 3 ≤ L) (ls : Array Slot) (hl : lv_has ls 4 [(0, .ref b), (1, .ref (h 0)), (2, .ref (g 0)), (3, .int (nI i))]) (hnext : ∀ (kl : Nat) (ky ch nu be : Nat → Nat) (he : Nat) (en : Nat → Nat) (es ev : Nat → Int32) (nm : Nat → Nat) (an ap ao ar : Int32) (al : Nat) (ak : Nat → Nat) (pl ro : Int32), z_I kl ky ch nu be he en es ev nm → (∀ j, ak j < 8) → ∀ (H : Heap) (locs : List Loc), va_P D z_cl (z_w0 cA h (nI kl) (zn_F ky) (zn_F ch) (zn_F nu) (zn_F be) (nI he) (zn_F en) es ev an ap ao ar (nI al) (zn_F ak) ++ z_w1 cA g (nI he) (zn_F nm) es ev (nI (z_P ky kl)) (nI kl) pl ro) H → va_D (fun q : Nat => s.heap.size ≤ q) (z_w0 cA h (nI kl) (zn_F ky) (zn_F ch) (zn_F nu) (zn_F be) (nI he) (zn_F en) es ev an ap ao ar (nI al) (zn_F ak) ++ z_w1 cA g (nI he) (zn_F nm) es ev (nI (z_P ky kl)) (nI kl) pl ro) → va_S (fun q : Nat => s.heap.size ≤ q) s.heap H locs → ∀ ls : Array Slot, lv_has ls 4 [(0, .ref b), (1, .ref (h 0)), (2, .ref (g 0)), (3, .int (nI i))] → W p l e room_1 s m #[Value.ref b] below meth c H locs 13 1175 (lw_Z below #[Value.ref b] s) (F0 m 333 ls [])) :
    ∀ (kl : Nat) (ky ch nu be : Nat → Nat) (he : Nat) (en : Nat → Nat) (es ev : Nat → Int32) (nm : Nat → Nat) (an ap ao ar : Int32) (al : Nat) (ak : Nat → Nat) (pl ro : Int32), z_I kl ky ch nu be he en es ev nm → (∀ j, ak j < 8) → ∀ (H : Heap) (locs : List Loc), va_P D z_cl (z_w0 cA h (nI kl) (zn_F ky) (zn_F ch) (zn_F nu) (zn_F be) (nI he) (zn_F en) es ev an ap ao ar (nI al) (zn_F ak) ++ z_w1 cA g (nI he) (zn_F nm) es ev (nI (z_P ky kl)) (nI kl) pl ro) H → va_D (fun q : Nat => s.heap.size ≤ q) (z_w0 cA h (nI kl) (zn_F ky) (zn_F ch) (zn_F nu) (zn_F be) (nI he) (zn_F en) es ev an ap ao ar (nI al) (zn_F ak) ++ z_w1 cA g (nI he) (zn_F nm) es ev (nI (z_P ky kl)) (nI kl) pl ro) → va_S (fun q : Nat => s.heap.size ≤ q) s.heap H locs → W p l e room_1 s m #[Value.ref b] below meth c H locs 13 1175 (lw_Z below #[Value.ref b] s) (F0 m 152 ls []) := by
  obtain ⟨hx, hb, hr, hml, hown, hts0, hX, hbl, hlocks, hgv⟩ := C0
  have hts : ∀ w ∈ lw_all, w.before #[Value.ref b] s = true := fun w h => hts0 w (lw_all_tbl h)
  have hA : ∀ q : Nat, s.heap.size ≤ q → (fun q : Nat => s.heap.size ≤ q) q := fun _ h => h
  have hbA : ¬ (fun q : Nat => s.heap.size ≤ q) b := Nat.not_le.mpr hbl
  intro kl ky ch nu be he en es ev nm an ap ao ar al ak pl ro hI hak H locs hP hD hS
  obtain ⟨hkl, hky, hhe, hnm, hT, hsb, hen, hals, hrm⟩ := id hI
  refine lv_aload_n hx hb dL_law_152 rfl (lv_at hl 1 rfl) ?_
  refine lv_aload_n hx hb dL_law_153 rfl (lv_at hl 0 rfl) ?_
  refine lv_iload_n hx hb dL_law_154 rfl (lv_at hl 3 rfl) ?_
  refine lv_iconst (v := nI 1) hx hb dL_law_155 (by decide) ?_
  refine zn_iadd hx hb (a := i) (b := 1) dL_law_156 ?_
  refine zn_sld hx hb hX hbl hbA hS (i := i + 1) (by omega) (by omega) dL_law_157 ?_
  refine lv_aload_n hx hb dL_law_158 rfl (lv_at hl 0 rfl) ?_
  refine lv_iload_n hx hb dL_law_159 rfl (lv_at hl 3 rfl) ?_
  refine lv_iconst (v := nI 2) hx hb dL_law_160 (by decide) ?_
  refine zn_iadd hx hb (a := i) (b := 2) dL_law_161 ?_
  refine zn_sld hx hb hX hbl hbA hS (i := i + 2) (by omega) (by omega) dL_law_162 ?_
  refine z_calliR (As := [.int (xs (i + 1)), .int (xs (i + 2))]) (rest := []) (wr := z_w1 cA g (nI he) (zn_F nm) es ev (nI (z_P ky kl)) (nI kl) pl ro) ⟨hx, hb, hml, hown, hts⟩ (zc_add l D cA H.size h kl ky ch nu be he en es ev an ap ao ar al ak (xs (i + 1)) (xs (i + 2)) nm hI hak) (cwV 2 hts (lw_V q94 q95 q96 q21 q97) rfl rfl rfl (by decide +kernel) ⟨Nat.le_of_ble_eq_true rfl, Nat.le_of_ble_eq_true rfl⟩) (va_recv hK hP (ci := 0) (q0 := 0) rfl rfl) hK hP hD hS hA [0, 1, 2, 3, 4, 5, 6, 7, 8] [9, 10, 11, 12] rfl rfl rfl (by decide) (by decide) (by decide) rfl hl.1 rfl (Nat.le_of_ble_eq_true rfl) dL_law_163 (Nat.le_of_ble_eq_true rfl) (Nat.le_of_ble_eq_true rfl) (fun rx ux H locs hwx hP hD hS => ?_)
  have hP : va_P D z_cl (z_w1 cA g (nI he) (zn_F nm) es ev (nI (z_P ky kl)) (nI kl) pl ro ++ z_w0 cA h (nI kl) (zn_F ky) (zn_F ux.2.2.2.2.1) (zn_F ux.2.2.2.2.2.1) (zn_F ux.2.2.2.2.2.2) (nI ux.1) (zn_F ux.2.1) ux.2.2.1 ux.2.2.2.1 an ap ao ar (nI al) (zn_F ak)) H := hP
  have hD : va_D (fun q : Nat => s.heap.size ≤ q) (z_w1 cA g (nI he) (zn_F nm) es ev (nI (z_P ky kl)) (nI kl) pl ro ++ z_w0 cA h (nI kl) (zn_F ky) (zn_F ux.2.2.2.2.1) (zn_F ux.2.2.2.2.2.1) (zn_F ux.2.2.2.2.2.2) (nI ux.1) (zn_F ux.2.1) ux.2.2.1 ux.2.2.2.1 an ap ao ar (nI al) (zn_F ak)) := hD
  refine lv_aload_n hx hb dL_law_166 rfl (lv_at hl 2 rfl) ?_
  refine lv_aload_n hx hb dL_law_167 rfl (lv_at hl 0 rfl) ?_
  refine lv_iload_n hx hb dL_law_168 rfl (lv_at hl 3 rfl) ?_
  refine lv_iconst (v := nI 1) hx hb dL_law_169 (by decide) ?_
  refine zn_iadd hx hb (a := i) (b := 1) dL_law_170 ?_
  refine zn_sld hx hb hX hbl hbA hS (i := i + 1) (by omega) (by omega) dL_law_171 ?_
  refine lv_aload_n hx hb dL_law_172 rfl (lv_at hl 0 rfl) ?_
  refine lv_iload_n hx hb dL_law_173 rfl (lv_at hl 3 rfl) ?_
  refine lv_iconst (v := nI 2) hx hb dL_law_174 (by decide) ?_
  refine zn_iadd hx hb (a := i) (b := 2) dL_law_175 ?_
  refine zn_sld hx hb hX hbl hbA hS (i := i + 2) (by omega) (by omega) dL_law_176 ?_
  refine z_calliR (As := [.int (xs (i + 1)), .int (xs (i + 2))]) (rest := [.int rx]) (wr := z_w0 cA h (nI kl) (zn_F ky) (zn_F ux.2.2.2.2.1) (zn_F ux.2.2.2.2.2.1) (zn_F ux.2.2.2.2.2.2) (nI ux.1) (zn_F ux.2.1) ux.2.2.1 ux.2.2.2.1 an ap ao ar (nI al) (zn_F ak)) ⟨hx, hb, hml, hown, hts⟩ (zd_add l D cA H.size g he nm es ev (z_P ky kl) (nI kl) pl ro (xs (i + 1)) (xs (i + 2)) hhe hrm) (cwV 2 hts (lw_V q224 q225 q226 q22 q227) rfl rfl rfl (by decide +kernel) ⟨Nat.le_of_ble_eq_true rfl, Nat.le_of_ble_eq_true rfl⟩) (va_recv hK hP (ci := 1) (q0 := 0) rfl rfl) hK hP hD hS hA [0, 1, 2, 3] [4, 5, 6, 7, 8, 9, 10, 11, 12] rfl rfl rfl (by decide) (by decide) (by decide) rfl hl.1 rfl (Nat.le_of_ble_eq_true rfl) dL_law_177 (Nat.le_of_ble_eq_true rfl) (Nat.le_of_ble_eq_true rfl) (fun rm um H locs hwm hP hD hS => ?_)
  have hP : va_P D z_cl (z_w0 cA h (nI kl) (zn_F ky) (zn_F ux.2.2.2.2.1) (zn_F ux.2.2.2.2.2.1) (zn_F ux.2.2.2.2.2.2) (nI ux.1) (zn_F ux.2.1) ux.2.2.1 ux.2.2.2.1 an ap ao ar (nI al) (zn_F ak) ++ z_w1 cA g (nI um.1) (zn_F um.2.1) um.2.2.1 um.2.2.2 (nI (z_P ky kl)) (nI kl) pl ro) H := hP
  have hD : va_D (fun q : Nat => s.heap.size ≤ q) (z_w0 cA h (nI kl) (zn_F ky) (zn_F ux.2.2.2.2.1) (zn_F ux.2.2.2.2.2.1) (zn_F ux.2.2.2.2.2.2) (nI ux.1) (zn_F ux.2.1) ux.2.2.1 ux.2.2.2.1 an ap ao ar (nI al) (zn_F ak) ++ z_w1 cA g (nI um.1) (zn_F um.2.1) um.2.2.1 um.2.2.2 (nI (z_P ky kl)) (nI kl) pl ro) := hD
  obtain ⟨nm2, ha1, hI2⟩ := hwx
  obtain ⟨eq, e1⟩ := z_add_det ha1 hwm
  rw [e1] at hP hD
  have hP : va_P D z_cl (z_w0 cA h (nI kl) (zn_F ky) (zn_F ux.2.2.2.2.1) (zn_F ux.2.2.2.2.2.1) (zn_F ux.2.2.2.2.2.2) (nI ux.1) (zn_F ux.2.1) ux.2.2.1 ux.2.2.2.1 an ap ao ar (nI al) (zn_F ak) ++ z_w1 cA g (nI ux.1) (zn_F nm2) ux.2.2.1 ux.2.2.2.1 (nI (z_P ky kl)) (nI kl) pl ro) H := hP
  have hD : va_D (fun q : Nat => s.heap.size ≤ q) (z_w0 cA h (nI kl) (zn_F ky) (zn_F ux.2.2.2.2.1) (zn_F ux.2.2.2.2.2.1) (zn_F ux.2.2.2.2.2.2) (nI ux.1) (zn_F ux.2.1) ux.2.2.1 ux.2.2.2.1 an ap ao ar (nI al) (zn_F ak) ++ z_w1 cA g (nI ux.1) (zn_F nm2) ux.2.2.1 ux.2.2.2.1 (nI (z_P ky kl)) (nI kl) pl ro) := hD
  refine lv_icmp_eq (tgt := 333) (x := rx) (y := rm) hx hb dL_law_180 (by decide) (fun _ => ?_) (fun q => absurd eq q)
  exact hnext kl ky ux.2.2.2.2.1 ux.2.2.2.2.2.1 ux.2.2.2.2.2.2 ux.1 ux.2.1 ux.2.2.1 ux.2.2.2.1 nm2 an ap ao ar al ak pl ro hI2 hak _ _ hP hD hS ls hl
set_option maxHeartbeats 4000000 in
/-- remove: both answer alike, the invariant stays -/
theorem zl_remove {p : Program} {l : Launch} {e : Env} {s : State} {m : MethodId} {below : List Frame} {meth : Method} {c : Code} {D : va_G} {cA : ClassId} {b L : Nat} {xs : Nat → Int32} (hL : L ≤ 192) (C0 : lw_At p s m meth c b L xs) (hK : va_K D z_cl [(cA, .int)] s) (h g : Nat → Nat) (i : Nat) (hi : i + 3 ≤ L) (ls : Array Slot) (hl : lv_has ls 4 [(0, .ref b), (1, .ref (h 0)), (2, .ref (g 0)), (3, .int (nI i))]) (hnext : ∀ (kl : Nat) (ky ch nu be : Nat → Nat) (he : Nat) (en : Nat → Nat) (es ev : Nat → Int32) (nm : Nat → Nat) (an ap ao ar : Int32) (al : Nat) (ak : Nat → Nat) (pl ro : Int32), z_I kl ky ch nu be he en es ev nm → (∀ j, ak j < 8) → ∀ (H : Heap) (locs : List Loc), va_P D z_cl (z_w0 cA h (nI kl) (zn_F ky) (zn_F ch) (zn_F nu) (zn_F be) (nI he) (zn_F en) es ev an ap ao ar (nI al) (zn_F ak) ++ z_w1 cA g (nI he) (zn_F nm) es ev (nI (z_P ky kl)) (nI kl) pl ro) H → va_D (fun q : Nat => s.heap.size ≤ q) (z_w0 cA h (nI kl) (zn_F ky) (zn_F ch) (zn_F nu) (zn_F be) (nI he) (zn_F en) es ev an ap ao ar (nI al) (zn_F ak) ++ z_w1 cA g (nI he) (zn_F nm) es ev (nI (z_P ky kl)) (nI kl) pl ro) → va_S (fun q : Nat => s.heap.size ≤ q) s.heap H locs → ∀ ls : Array Slot, lv_has ls 4 [(0, .ref b), (1, .ref (h 0)), (2, .ref (g 0)), (3, .int (nI i))] → W p l e room_1 s m #[Value.ref b] below meth c H locs 13 1175 (lw_Z below #[Value.ref b] s) (F0 m 333 ls [])) :
    ∀ (kl : Nat) (ky ch nu be : Nat → Nat) (he : Nat) (en : Nat → Nat) (es ev : Nat → Int32) (nm : Nat → Nat) (an ap ao ar : Int32) (al : Nat) (ak : Nat → Nat) (pl ro : Int32), z_I kl ky ch nu be he en es ev nm → (∀ j, ak j < 8) → ∀ (H : Heap) (locs : List Loc), va_P D z_cl (z_w0 cA h (nI kl) (zn_F ky) (zn_F ch) (zn_F nu) (zn_F be) (nI he) (zn_F en) es ev an ap ao ar (nI al) (zn_F ak) ++ z_w1 cA g (nI he) (zn_F nm) es ev (nI (z_P ky kl)) (nI kl) pl ro) H → va_D (fun q : Nat => s.heap.size ≤ q) (z_w0 cA h (nI kl) (zn_F ky) (zn_F ch) (zn_F nu) (zn_F be) (nI he) (zn_F en) es ev an ap ao ar (nI al) (zn_F ak) ++ z_w1 cA g (nI he) (zn_F nm) es ev (nI (z_P ky kl)) (nI kl) pl ro) → va_S (fun q : Nat => s.heap.size ≤ q) s.heap H locs → W p l e room_1 s m #[Value.ref b] below meth c H locs 13 1175 (lw_Z below #[Value.ref b] s) (F0 m 185 ls []) := by
  obtain ⟨hx, hb, hr, hml, hown, hts0, hX, hbl, hlocks, hgv⟩ := C0
  have hts : ∀ w ∈ lw_all, w.before #[Value.ref b] s = true := fun w h => hts0 w (lw_all_tbl h)
  have hA : ∀ q : Nat, s.heap.size ≤ q → (fun q : Nat => s.heap.size ≤ q) q := fun _ h => h
  have hbA : ¬ (fun q : Nat => s.heap.size ≤ q) b := Nat.not_le.mpr hbl
  intro kl ky ch nu be he en es ev nm an ap ao ar al ak pl ro hI hak H locs hP hD hS
  obtain ⟨hkl, hky, hhe, hnm, hT, hsb, hen, hals, hrm⟩ := id hI
  refine lv_aload_n hx hb dL_law_185 rfl (lv_at hl 1 rfl) ?_
  refine lv_aload_n hx hb dL_law_186 rfl (lv_at hl 0 rfl) ?_
  refine lv_iload_n hx hb dL_law_187 rfl (lv_at hl 3 rfl) ?_
  refine lv_iconst (v := nI 1) hx hb dL_law_188 (by decide) ?_
  refine zn_iadd hx hb (a := i) (b := 1) dL_law_189 ?_
  refine zn_sld hx hb hX hbl hbA hS (i := i + 1) (by omega) (by omega) dL_law_190 ?_
  refine lv_aload_n hx hb dL_law_191 rfl (lv_at hl 0 rfl) ?_
  refine lv_iload_n hx hb dL_law_192 rfl (lv_at hl 3 rfl) ?_
  refine lv_iconst (v := nI 2) hx hb dL_law_193 (by decide) ?_
  refine zn_iadd hx hb (a := i) (b := 2) dL_law_194 ?_
  refine zn_sld hx hb hX hbl hbA hS (i := i + 2) (by omega) (by omega) dL_law_195 ?_
  refine z_calliR (As := [.int (xs (i + 1)), .int (xs (i + 2))]) (rest := []) (wr := z_w1 cA g (nI he) (zn_F nm) es ev (nI (z_P ky kl)) (nI kl) pl ro) ⟨hx, hb, hml, hown, hts⟩ (zc_remove l D cA H.size h kl ky ch nu be he en es ev an ap ao ar al ak (xs (i + 1)) (xs (i + 2)) nm hI hak) (cwV 2 hts (lw_V q121 q122 q123 q21 q124) rfl rfl rfl (by decide +kernel) ⟨Nat.le_of_ble_eq_true rfl, Nat.le_of_ble_eq_true rfl⟩) (va_recv hK hP (ci := 0) (q0 := 0) rfl rfl) hK hP hD hS hA [0, 1, 2, 3, 4, 5, 6, 7, 8] [9, 10, 11, 12] rfl rfl rfl (by decide) (by decide) (by decide) rfl hl.1 rfl (Nat.le_of_ble_eq_true rfl) dL_law_196 (Nat.le_of_ble_eq_true rfl) (Nat.le_of_ble_eq_true rfl) (fun rx ux H locs hwx hP hD hS => ?_)
  have hP : va_P D z_cl (z_w1 cA g (nI he) (zn_F nm) es ev (nI (z_P ky kl)) (nI kl) pl ro ++ z_w0 cA h (nI kl) (zn_F ky) (zn_F ux.2.2.2.2.1) (zn_F ux.2.2.2.2.2.1) (zn_F ux.2.2.2.2.2.2) (nI ux.1) (zn_F ux.2.1) ux.2.2.1 ux.2.2.2.1 an ap ao ar (nI al) (zn_F ak)) H := hP
  have hD : va_D (fun q : Nat => s.heap.size ≤ q) (z_w1 cA g (nI he) (zn_F nm) es ev (nI (z_P ky kl)) (nI kl) pl ro ++ z_w0 cA h (nI kl) (zn_F ky) (zn_F ux.2.2.2.2.1) (zn_F ux.2.2.2.2.2.1) (zn_F ux.2.2.2.2.2.2) (nI ux.1) (zn_F ux.2.1) ux.2.2.1 ux.2.2.2.1 an ap ao ar (nI al) (zn_F ak)) := hD
  refine lv_aload_n hx hb dL_law_199 rfl (lv_at hl 2 rfl) ?_
  refine lv_aload_n hx hb dL_law_200 rfl (lv_at hl 0 rfl) ?_
  refine lv_iload_n hx hb dL_law_201 rfl (lv_at hl 3 rfl) ?_
  refine lv_iconst (v := nI 1) hx hb dL_law_202 (by decide) ?_
  refine zn_iadd hx hb (a := i) (b := 1) dL_law_203 ?_
  refine zn_sld hx hb hX hbl hbA hS (i := i + 1) (by omega) (by omega) dL_law_204 ?_
  refine lv_aload_n hx hb dL_law_205 rfl (lv_at hl 0 rfl) ?_
  refine lv_iload_n hx hb dL_law_206 rfl (lv_at hl 3 rfl) ?_
  refine lv_iconst (v := nI 2) hx hb dL_law_207 (by decide) ?_
  refine zn_iadd hx hb (a := i) (b := 2) dL_law_208 ?_
  refine zn_sld hx hb hX hbl hbA hS (i := i + 2) (by omega) (by omega) dL_law_209 ?_
  refine z_calliR (As := [.int (xs (i + 1)), .int (xs (i + 2))]) (rest := [.int rx]) (wr := z_w0 cA h (nI kl) (zn_F ky) (zn_F ux.2.2.2.2.1) (zn_F ux.2.2.2.2.2.1) (zn_F ux.2.2.2.2.2.2) (nI ux.1) (zn_F ux.2.1) ux.2.2.1 ux.2.2.2.1 an ap ao ar (nI al) (zn_F ak)) ⟨hx, hb, hml, hown, hts⟩ (zd_remove l D cA H.size g he nm es ev (z_P ky kl) (nI kl) pl ro (xs (i + 1)) (xs (i + 2)) hhe) (cwV 2 hts (lw_V q239 q240 q241 q22 q242) rfl rfl rfl (by decide +kernel) ⟨Nat.le_of_ble_eq_true rfl, Nat.le_of_ble_eq_true rfl⟩) (va_recv hK hP (ci := 1) (q0 := 0) rfl rfl) hK hP hD hS hA [0, 1, 2, 3] [4, 5, 6, 7, 8, 9, 10, 11, 12] rfl rfl rfl (by decide) (by decide) (by decide) rfl hl.1 rfl (Nat.le_of_ble_eq_true rfl) dL_law_210 (Nat.le_of_ble_eq_true rfl) (Nat.le_of_ble_eq_true rfl) (fun rm um H locs hwm hP hD hS => ?_)
  have hP : va_P D z_cl (z_w0 cA h (nI kl) (zn_F ky) (zn_F ux.2.2.2.2.1) (zn_F ux.2.2.2.2.2.1) (zn_F ux.2.2.2.2.2.2) (nI ux.1) (zn_F ux.2.1) ux.2.2.1 ux.2.2.2.1 an ap ao ar (nI al) (zn_F ak) ++ z_w1 cA g (nI um.1) (zn_F um.2.1) um.2.2.1 um.2.2.2 (nI (z_P ky kl)) (nI kl) pl ro) H := hP
  have hD : va_D (fun q : Nat => s.heap.size ≤ q) (z_w0 cA h (nI kl) (zn_F ky) (zn_F ux.2.2.2.2.1) (zn_F ux.2.2.2.2.2.1) (zn_F ux.2.2.2.2.2.2) (nI ux.1) (zn_F ux.2.1) ux.2.2.1 ux.2.2.2.1 an ap ao ar (nI al) (zn_F ak) ++ z_w1 cA g (nI um.1) (zn_F um.2.1) um.2.2.1 um.2.2.2 (nI (z_P ky kl)) (nI kl) pl ro) := hD
  obtain ⟨nm2, ha1, hI2⟩ := hwx
  obtain ⟨eq, e1⟩ := z_rem_det ha1 hwm
  rw [e1] at hP hD
  have hP : va_P D z_cl (z_w0 cA h (nI kl) (zn_F ky) (zn_F ux.2.2.2.2.1) (zn_F ux.2.2.2.2.2.1) (zn_F ux.2.2.2.2.2.2) (nI ux.1) (zn_F ux.2.1) ux.2.2.1 ux.2.2.2.1 an ap ao ar (nI al) (zn_F ak) ++ z_w1 cA g (nI ux.1) (zn_F nm2) ux.2.2.1 ux.2.2.2.1 (nI (z_P ky kl)) (nI kl) pl ro) H := hP
  have hD : va_D (fun q : Nat => s.heap.size ≤ q) (z_w0 cA h (nI kl) (zn_F ky) (zn_F ux.2.2.2.2.1) (zn_F ux.2.2.2.2.2.1) (zn_F ux.2.2.2.2.2.2) (nI ux.1) (zn_F ux.2.1) ux.2.2.1 ux.2.2.2.1 an ap ao ar (nI al) (zn_F ak) ++ z_w1 cA g (nI ux.1) (zn_F nm2) ux.2.2.1 ux.2.2.2.1 (nI (z_P ky kl)) (nI kl) pl ro) := hD
  refine lv_icmp_eq (tgt := 333) (x := rx) (y := rm) hx hb dL_law_213 (by decide) (fun _ => ?_) (fun q => absurd eq q)
  exact hnext kl ky ux.2.2.2.2.1 ux.2.2.2.2.2.1 ux.2.2.2.2.2.2 ux.1 ux.2.1 ux.2.2.1 ux.2.2.2.1 nm2 an ap ao ar al ak pl ro hI2 hak _ _ hP hD hS ls hl
end
section
/-! THE LAW, case by case -/
set_option maxRecDepth 100000
set_option maxHeartbeats 4000000 in
/-- exists: both answer alike, the invariant stays -/
theorem zl_exists {p : Program} {l : Launch} {e : Env} {s : State} {m : MethodId} {below : List Frame} {meth : Method} {c : Code} {D : va_G} {cA : ClassId} {b L : Nat} {xs : Nat → Int32} (hL : L ≤ 192) (C0 : lw_At p s m meth c b L xs) (hK : va_K D z_cl [(cA, .int)] s) (h g : Nat → Nat) (i : Nat) (hi : i + 3 ≤ L) (ls : Array Slot) (hl : lv_has ls 4 [(0, .ref b), (1, .ref (h 0)), (2, .ref (g 0)), (3, .int (nI i))]) (hnext : ∀ (kl : Nat) (ky ch nu be : Nat → Nat) (he : Nat) (en : Nat → Nat) (es ev : Nat → Int32) (nm : Nat → Nat) (an ap ao ar : Int32) (al : Nat) (ak : Nat → Nat) (pl ro : Int32), z_I kl ky ch nu be he en es ev nm → (∀ j, ak j < 8) → ∀ (H : Heap) (locs : List Loc), va_P D z_cl (z_w0 cA h (nI kl) (zn_F ky) (zn_F ch) (zn_F nu) (zn_F be) (nI he) (zn_F en) es ev an ap ao ar (nI al) (zn_F ak) ++ z_w1 cA g (nI he) (zn_F nm) es ev (nI (z_P ky kl)) (nI kl) pl ro) H → va_D (fun q : Nat => s.heap.size ≤ q) (z_w0 cA h (nI kl) (zn_F ky) (zn_F ch) (zn_F nu) (zn_F be) (nI he) (zn_F en) es ev an ap ao ar (nI al) (zn_F ak) ++ z_w1 cA g (nI he) (zn_F nm) es ev (nI (z_P ky kl)) (nI kl) pl ro) → va_S (fun q : Nat => s.heap.size ≤ q) s.heap H locs → ∀ ls : Array Slot, lv_has ls 4 [(0, .ref b), (1, .ref (h 0)), (2, .ref (g 0)), (3, .int (nI i))] → W p l e room_1 s m #[Value.ref b] below meth c H locs 13 1175 (lw_Z below #[Value.ref b] s) (F0 m 333 ls [])) :
    ∀ (kl : Nat) (ky ch nu be : Nat → Nat) (he : Nat) (en : Nat → Nat) (es ev : Nat → Int32) (nm : Nat → Nat) (an ap ao ar : Int32) (al : Nat) (ak : Nat → Nat) (pl ro : Int32), z_I kl ky ch nu be he en es ev nm → (∀ j, ak j < 8) → ∀ (H : Heap) (locs : List Loc), va_P D z_cl (z_w0 cA h (nI kl) (zn_F ky) (zn_F ch) (zn_F nu) (zn_F be) (nI he) (zn_F en) es ev an ap ao ar (nI al) (zn_F ak) ++ z_w1 cA g (nI he) (zn_F nm) es ev (nI (z_P ky kl)) (nI kl) pl ro) H → va_D (fun q : Nat => s.heap.size ≤ q) (z_w0 cA h (nI kl) (zn_F ky) (zn_F ch) (zn_F nu) (zn_F be) (nI he) (zn_F en) es ev an ap ao ar (nI al) (zn_F ak) ++ z_w1 cA g (nI he) (zn_F nm) es ev (nI (z_P ky kl)) (nI kl) pl ro) → va_S (fun q : Nat => s.heap.size ≤ q) s.heap H locs → W p l e room_1 s m #[Value.ref b] below meth c H locs 13 1175 (lw_Z below #[Value.ref b] s) (F0 m 218 ls []) := by
  obtain ⟨hx, hb, hr, hml, hown, hts0, hX, hbl, hlocks, hgv⟩ := C0
  have hts : ∀ w ∈ lw_all, w.before #[Value.ref b] s = true := fun w h => hts0 w (lw_all_tbl h)
  have hA : ∀ q : Nat, s.heap.size ≤ q → (fun q : Nat => s.heap.size ≤ q) q := fun _ h => h
  have hbA : ¬ (fun q : Nat => s.heap.size ≤ q) b := Nat.not_le.mpr hbl
  intro kl ky ch nu be he en es ev nm an ap ao ar al ak pl ro hI hak H locs hP hD hS
  obtain ⟨hkl, hky, hhe, hnm, hT, hsb, hen, hals, hrm⟩ := id hI
  refine lv_aload_n hx hb dL_law_218 rfl (lv_at hl 1 rfl) ?_
  refine z_calliR (As := []) (rest := []) (wr := z_w1 cA g (nI he) (zn_F nm) es ev (nI (z_P ky kl)) (nI kl) pl ro) ⟨hx, hb, hml, hown, hts⟩ (zc_exists l D cA H.size h kl ky ch nu be he en es ev an ap ao ar al ak nm hI hak) (cwV 0 hts (lw_V q129 q130 q131 q21 q132) rfl rfl rfl (by decide +kernel) ⟨Nat.le_of_ble_eq_true rfl, Nat.le_of_ble_eq_true rfl⟩) (va_recv hK hP (ci := 0) (q0 := 0) rfl rfl) hK hP hD hS hA [0, 1, 2, 3, 4, 5, 6, 7, 8] [9, 10, 11, 12] rfl rfl rfl (by decide) (by decide) (by decide) rfl hl.1 rfl (Nat.le_of_ble_eq_true rfl) dL_law_219 (Nat.le_of_ble_eq_true rfl) (Nat.le_of_ble_eq_true rfl) (fun rx ux H locs hwx hP hD hS => ?_)
  have hP : va_P D z_cl (z_w1 cA g (nI he) (zn_F nm) es ev (nI (z_P ky kl)) (nI kl) pl ro ++ z_w0 cA h (nI kl) (zn_F ky) (zn_F ch) (zn_F nu) (zn_F be) (nI he) (zn_F en) es ev an ap ao ar (nI al) (zn_F ak)) H := hP
  have hD : va_D (fun q : Nat => s.heap.size ≤ q) (z_w1 cA g (nI he) (zn_F nm) es ev (nI (z_P ky kl)) (nI kl) pl ro ++ z_w0 cA h (nI kl) (zn_F ky) (zn_F ch) (zn_F nu) (zn_F be) (nI he) (zn_F en) es ev an ap ao ar (nI al) (zn_F ak)) := hD
  refine lv_aload_n hx hb dL_law_222 rfl (lv_at hl 2 rfl) ?_
  refine z_calliR (As := []) (rest := [.int rx]) (wr := z_w0 cA h (nI kl) (zn_F ky) (zn_F ch) (zn_F nu) (zn_F be) (nI he) (zn_F en) es ev an ap ao ar (nI al) (zn_F ak)) ⟨hx, hb, hml, hown, hts⟩ (zd_exists l D cA H.size g he nm es ev (z_P ky kl) (nI kl) pl ro hhe (z_P_lt4 hky hkl) hnm) (cwV 0 hts (lw_V q243 q244 q245 q22 q246) rfl rfl rfl (by decide +kernel) ⟨Nat.le_of_ble_eq_true rfl, Nat.le_of_ble_eq_true rfl⟩) (va_recv hK hP (ci := 1) (q0 := 0) rfl rfl) hK hP hD hS hA [0, 1, 2, 3] [4, 5, 6, 7, 8, 9, 10, 11, 12] rfl rfl rfl (by decide) (by decide) (by decide) rfl hl.1 rfl (Nat.le_of_ble_eq_true rfl) dL_law_223 (Nat.le_of_ble_eq_true rfl) (Nat.le_of_ble_eq_true rfl) (fun rm um H locs hwm hP hD hS => ?_)
  have hP : va_P D z_cl (z_w0 cA h (nI kl) (zn_F ky) (zn_F ch) (zn_F nu) (zn_F be) (nI he) (zn_F en) es ev an ap ao ar (nI al) (zn_F ak) ++ z_w1 cA g (nI he) (zn_F nm) es ev (nI (z_P ky kl)) (nI kl) pl ro) H := hP
  have hD : va_D (fun q : Nat => s.heap.size ≤ q) (z_w0 cA h (nI kl) (zn_F ky) (zn_F ch) (zn_F nu) (zn_F be) (nI he) (zn_F en) es ev an ap ao ar (nI al) (zn_F ak) ++ z_w1 cA g (nI he) (zn_F nm) es ev (nI (z_P ky kl)) (nI kl) pl ro) := hD
  have eq : rx = rm := z_t_two hwx hwm
  refine lv_icmp_eq (tgt := 333) (x := rx) (y := rm) hx hb dL_law_226 (by decide) (fun _ => ?_) (fun q => absurd eq q)
  exact hnext kl ky ch nu be he en es ev nm an ap ao ar al ak pl ro hI hak _ _ hP hD hS ls hl
set_option maxHeartbeats 4000000 in
/-- look: both answer alike, the invariant stays -/
theorem zl_look {p : Program} {l : Launch} {e : Env} {s : State} {m : MethodId} {below : List Frame} {meth : Method} {c : Code} {D : va_G} {cA : ClassId} {b L : Nat} {xs : Nat → Int32} (hL : L ≤ 192) (C0 : lw_At p s m meth c b L xs) (hK : va_K D z_cl [(cA, .int)] s) (h g : Nat → Nat) (i : Nat) (hi : i + 3 ≤ L) (ls : Array Slot) (hl : lv_has ls 4 [(0, .ref b), (1, .ref (h 0)), (2, .ref (g 0)), (3, .int (nI i))]) (hnext : ∀ (kl : Nat) (ky ch nu be : Nat → Nat) (he : Nat) (en : Nat → Nat) (es ev : Nat → Int32) (nm : Nat → Nat) (an ap ao ar : Int32) (al : Nat) (ak : Nat → Nat) (pl ro : Int32), z_I kl ky ch nu be he en es ev nm → (∀ j, ak j < 8) → ∀ (H : Heap) (locs : List Loc), va_P D z_cl (z_w0 cA h (nI kl) (zn_F ky) (zn_F ch) (zn_F nu) (zn_F be) (nI he) (zn_F en) es ev an ap ao ar (nI al) (zn_F ak) ++ z_w1 cA g (nI he) (zn_F nm) es ev (nI (z_P ky kl)) (nI kl) pl ro) H → va_D (fun q : Nat => s.heap.size ≤ q) (z_w0 cA h (nI kl) (zn_F ky) (zn_F ch) (zn_F nu) (zn_F be) (nI he) (zn_F en) es ev an ap ao ar (nI al) (zn_F ak) ++ z_w1 cA g (nI he) (zn_F nm) es ev (nI (z_P ky kl)) (nI kl) pl ro) → va_S (fun q : Nat => s.heap.size ≤ q) s.heap H locs → ∀ ls : Array Slot, lv_has ls 4 [(0, .ref b), (1, .ref (h 0)), (2, .ref (g 0)), (3, .int (nI i))] → W p l e room_1 s m #[Value.ref b] below meth c H locs 13 1175 (lw_Z below #[Value.ref b] s) (F0 m 333 ls [])) :
    ∀ (kl : Nat) (ky ch nu be : Nat → Nat) (he : Nat) (en : Nat → Nat) (es ev : Nat → Int32) (nm : Nat → Nat) (an ap ao ar : Int32) (al : Nat) (ak : Nat → Nat) (pl ro : Int32), z_I kl ky ch nu be he en es ev nm → (∀ j, ak j < 8) → ∀ (H : Heap) (locs : List Loc), va_P D z_cl (z_w0 cA h (nI kl) (zn_F ky) (zn_F ch) (zn_F nu) (zn_F be) (nI he) (zn_F en) es ev an ap ao ar (nI al) (zn_F ak) ++ z_w1 cA g (nI he) (zn_F nm) es ev (nI (z_P ky kl)) (nI kl) pl ro) H → va_D (fun q : Nat => s.heap.size ≤ q) (z_w0 cA h (nI kl) (zn_F ky) (zn_F ch) (zn_F nu) (zn_F be) (nI he) (zn_F en) es ev an ap ao ar (nI al) (zn_F ak) ++ z_w1 cA g (nI he) (zn_F nm) es ev (nI (z_P ky kl)) (nI kl) pl ro) → va_S (fun q : Nat => s.heap.size ≤ q) s.heap H locs → W p l e room_1 s m #[Value.ref b] below meth c H locs 13 1175 (lw_Z below #[Value.ref b] s) (F0 m 231 ls []) := by
  obtain ⟨hx, hb, hr, hml, hown, hts0, hX, hbl, hlocks, hgv⟩ := C0
  have hts : ∀ w ∈ lw_all, w.before #[Value.ref b] s = true := fun w h => hts0 w (lw_all_tbl h)
  have hA : ∀ q : Nat, s.heap.size ≤ q → (fun q : Nat => s.heap.size ≤ q) q := fun _ h => h
  have hbA : ¬ (fun q : Nat => s.heap.size ≤ q) b := Nat.not_le.mpr hbl
  intro kl ky ch nu be he en es ev nm an ap ao ar al ak pl ro hI hak H locs hP hD hS
  obtain ⟨hkl, hky, hhe, hnm, hT, hsb, hen, hals, hrm⟩ := id hI
  refine lv_aload_n hx hb dL_law_231 rfl (lv_at hl 1 rfl) ?_
  refine lv_aload_n hx hb dL_law_232 rfl (lv_at hl 0 rfl) ?_
  refine lv_iload_n hx hb dL_law_233 rfl (lv_at hl 3 rfl) ?_
  refine lv_iconst (v := nI 1) hx hb dL_law_234 (by decide) ?_
  refine zn_iadd hx hb (a := i) (b := 1) dL_law_235 ?_
  refine zn_sld hx hb hX hbl hbA hS (i := i + 1) (by omega) (by omega) dL_law_236 ?_
  refine z_calliR (As := [.int (xs (i + 1))]) (rest := []) (wr := z_w1 cA g (nI he) (zn_F nm) es ev (nI (z_P ky kl)) (nI kl) pl ro) ⟨hx, hb, hml, hown, hts⟩ (zc_look l D cA H.size h kl ky ch nu be he en es ev an ap ao ar al ak (xs (i + 1)) nm hI hak) (cwV 1 hts (lw_V q133 q134 q135 q21 q136) rfl rfl rfl (by decide +kernel) ⟨Nat.le_of_ble_eq_true rfl, Nat.le_of_ble_eq_true rfl⟩) (va_recv hK hP (ci := 0) (q0 := 0) rfl rfl) hK hP hD hS hA [0, 1, 2, 3, 4, 5, 6, 7, 8] [9, 10, 11, 12] rfl rfl rfl (by decide) (by decide) (by decide) rfl hl.1 rfl (Nat.le_of_ble_eq_true rfl) dL_law_237 (Nat.le_of_ble_eq_true rfl) (Nat.le_of_ble_eq_true rfl) (fun rx ux H locs hwx hP hD hS => ?_)
  have hP : va_P D z_cl (z_w1 cA g (nI he) (zn_F nm) es ev (nI (z_P ky kl)) (nI kl) pl ro ++ z_w0 cA h (nI kl) (zn_F ky) (zn_F ch) (zn_F nu) (zn_F be) (nI he) (zn_F en) es ev ux.1 ux.2.1 ux.2.2.1 ux.2.2.2.1 (nI ux.2.2.2.2.1) (zn_F ux.2.2.2.2.2)) H := hP
  have hD : va_D (fun q : Nat => s.heap.size ≤ q) (z_w1 cA g (nI he) (zn_F nm) es ev (nI (z_P ky kl)) (nI kl) pl ro ++ z_w0 cA h (nI kl) (zn_F ky) (zn_F ch) (zn_F nu) (zn_F be) (nI he) (zn_F en) es ev ux.1 ux.2.1 ux.2.2.1 ux.2.2.2.1 (nI ux.2.2.2.2.1) (zn_F ux.2.2.2.2.2)) := hD
  refine lv_aload_n hx hb dL_law_240 rfl (lv_at hl 2 rfl) ?_
  refine lv_aload_n hx hb dL_law_241 rfl (lv_at hl 0 rfl) ?_
  refine lv_iload_n hx hb dL_law_242 rfl (lv_at hl 3 rfl) ?_
  refine lv_iconst (v := nI 1) hx hb dL_law_243 (by decide) ?_
  refine zn_iadd hx hb (a := i) (b := 1) dL_law_244 ?_
  refine zn_sld hx hb hX hbl hbA hS (i := i + 1) (by omega) (by omega) dL_law_245 ?_
  refine z_calliR (As := [.int (xs (i + 1))]) (rest := [.int rx]) (wr := z_w0 cA h (nI kl) (zn_F ky) (zn_F ch) (zn_F nu) (zn_F be) (nI he) (zn_F en) es ev ux.1 ux.2.1 ux.2.2.1 ux.2.2.2.1 (nI ux.2.2.2.2.1) (zn_F ux.2.2.2.2.2)) ⟨hx, hb, hml, hown, hts⟩ (zd_look l D cA H.size g he nm es ev (z_P ky kl) (nI kl) pl ro (xs (i + 1)) hhe (z_vn_P hky hkl) hnm hals) (cwV 1 hts (lw_V q254 q255 q256 q22 q257) rfl rfl rfl (by decide +kernel) ⟨Nat.le_of_ble_eq_true rfl, Nat.le_of_ble_eq_true rfl⟩) (va_recv hK hP (ci := 1) (q0 := 0) rfl rfl) hK hP hD hS hA [0, 1, 2, 3] [4, 5, 6, 7, 8, 9, 10, 11, 12] rfl rfl rfl (by decide) (by decide) (by decide) rfl hl.1 rfl (Nat.le_of_ble_eq_true rfl) dL_law_246 (Nat.le_of_ble_eq_true rfl) (Nat.le_of_ble_eq_true rfl) (fun rm um H locs hwm hP hD hS => ?_)
  have hP : va_P D z_cl (z_w0 cA h (nI kl) (zn_F ky) (zn_F ch) (zn_F nu) (zn_F be) (nI he) (zn_F en) es ev ux.1 ux.2.1 ux.2.2.1 ux.2.2.2.1 (nI ux.2.2.2.2.1) (zn_F ux.2.2.2.2.2) ++ z_w1 cA g (nI he) (zn_F nm) es ev (nI (z_P ky kl)) (nI kl) um.1 um.2) H := hP
  have hD : va_D (fun q : Nat => s.heap.size ≤ q) (z_w0 cA h (nI kl) (zn_F ky) (zn_F ch) (zn_F nu) (zn_F be) (nI he) (zn_F en) es ev ux.1 ux.2.1 ux.2.2.1 ux.2.2.2.1 (nI ux.2.2.2.2.1) (zn_F ux.2.2.2.2.2) ++ z_w1 cA g (nI he) (zn_F nm) es ev (nI (z_P ky kl)) (nI kl) um.1 um.2) := hD
  have eq : rx = rm := z_t_two2 hwx.2 hwm
  refine lv_icmp_eq (tgt := 333) (x := rx) (y := rm) hx hb dL_law_249 (by decide) (fun _ => ?_) (fun q => absurd eq q)
  exact hnext kl ky ch nu be he en es ev nm ux.1 ux.2.1 ux.2.2.1 ux.2.2.2.1 ux.2.2.2.2.1 ux.2.2.2.2.2 um.1 um.2 hI hwx.1 _ _ hP hD hS ls hl
set_option maxHeartbeats 4000000 in
/-- place: both answer alike, the invariant stays -/
theorem zl_place {p : Program} {l : Launch} {e : Env} {s : State} {m : MethodId} {below : List Frame} {meth : Method} {c : Code} {D : va_G} {cA : ClassId} {b L : Nat} {xs : Nat → Int32} (hL : L ≤ 192) (C0 : lw_At p s m meth c b L xs) (hK : va_K D z_cl [(cA, .int)] s) (h g : Nat → Nat) (i : Nat) (hi : i + 3 ≤ L) (ls : Array Slot) (hl : lv_has ls 4 [(0, .ref b), (1, .ref (h 0)), (2, .ref (g 0)), (3, .int (nI i))]) (hnext : ∀ (kl : Nat) (ky ch nu be : Nat → Nat) (he : Nat) (en : Nat → Nat) (es ev : Nat → Int32) (nm : Nat → Nat) (an ap ao ar : Int32) (al : Nat) (ak : Nat → Nat) (pl ro : Int32), z_I kl ky ch nu be he en es ev nm → (∀ j, ak j < 8) → ∀ (H : Heap) (locs : List Loc), va_P D z_cl (z_w0 cA h (nI kl) (zn_F ky) (zn_F ch) (zn_F nu) (zn_F be) (nI he) (zn_F en) es ev an ap ao ar (nI al) (zn_F ak) ++ z_w1 cA g (nI he) (zn_F nm) es ev (nI (z_P ky kl)) (nI kl) pl ro) H → va_D (fun q : Nat => s.heap.size ≤ q) (z_w0 cA h (nI kl) (zn_F ky) (zn_F ch) (zn_F nu) (zn_F be) (nI he) (zn_F en) es ev an ap ao ar (nI al) (zn_F ak) ++ z_w1 cA g (nI he) (zn_F nm) es ev (nI (z_P ky kl)) (nI kl) pl ro) → va_S (fun q : Nat => s.heap.size ≤ q) s.heap H locs → ∀ ls : Array Slot, lv_has ls 4 [(0, .ref b), (1, .ref (h 0)), (2, .ref (g 0)), (3, .int (nI i))] → W p l e room_1 s m #[Value.ref b] below meth c H locs 13 1175 (lw_Z below #[Value.ref b] s) (F0 m 333 ls [])) :
    ∀ (kl : Nat) (ky ch nu be : Nat → Nat) (he : Nat) (en : Nat → Nat) (es ev : Nat → Int32) (nm : Nat → Nat) (an ap ao ar : Int32) (al : Nat) (ak : Nat → Nat) (pl ro : Int32), z_I kl ky ch nu be he en es ev nm → (∀ j, ak j < 8) → ∀ (H : Heap) (locs : List Loc), va_P D z_cl (z_w0 cA h (nI kl) (zn_F ky) (zn_F ch) (zn_F nu) (zn_F be) (nI he) (zn_F en) es ev an ap ao ar (nI al) (zn_F ak) ++ z_w1 cA g (nI he) (zn_F nm) es ev (nI (z_P ky kl)) (nI kl) pl ro) H → va_D (fun q : Nat => s.heap.size ≤ q) (z_w0 cA h (nI kl) (zn_F ky) (zn_F ch) (zn_F nu) (zn_F be) (nI he) (zn_F en) es ev an ap ao ar (nI al) (zn_F ak) ++ z_w1 cA g (nI he) (zn_F nm) es ev (nI (z_P ky kl)) (nI kl) pl ro) → va_S (fun q : Nat => s.heap.size ≤ q) s.heap H locs → W p l e room_1 s m #[Value.ref b] below meth c H locs 13 1175 (lw_Z below #[Value.ref b] s) (F0 m 254 ls []) := by
  obtain ⟨hx, hb, hr, hml, hown, hts0, hX, hbl, hlocks, hgv⟩ := C0
  have hts : ∀ w ∈ lw_all, w.before #[Value.ref b] s = true := fun w h => hts0 w (lw_all_tbl h)
  have hA : ∀ q : Nat, s.heap.size ≤ q → (fun q : Nat => s.heap.size ≤ q) q := fun _ h => h
  have hbA : ¬ (fun q : Nat => s.heap.size ≤ q) b := Nat.not_le.mpr hbl
  intro kl ky ch nu be he en es ev nm an ap ao ar al ak pl ro hI hak H locs hP hD hS
  obtain ⟨hkl, hky, hhe, hnm, hT, hsb, hen, hals, hrm⟩ := id hI
  refine lv_aload_n hx hb dL_law_254 rfl (lv_at hl 1 rfl) ?_
  refine lv_aload_n hx hb dL_law_255 rfl (lv_at hl 0 rfl) ?_
  refine lv_iload_n hx hb dL_law_256 rfl (lv_at hl 3 rfl) ?_
  refine lv_iconst (v := nI 1) hx hb dL_law_257 (by decide) ?_
  refine zn_iadd hx hb (a := i) (b := 1) dL_law_258 ?_
  refine zn_sld hx hb hX hbl hbA hS (i := i + 1) (by omega) (by omega) dL_law_259 ?_
  refine z_calliR (As := [.int (xs (i + 1))]) (rest := []) (wr := z_w1 cA g (nI he) (zn_F nm) es ev (nI (z_P ky kl)) (nI kl) pl ro) ⟨hx, hb, hml, hown, hts⟩ (zc_place l D cA H.size h kl ky ch nu be he en es ev an ap ao ar al ak (xs (i + 1)) nm hI hak) (cwV 1 hts (lw_V q165 q166 q167 q21 q168) rfl rfl rfl (by decide +kernel) ⟨Nat.le_of_ble_eq_true rfl, Nat.le_of_ble_eq_true rfl⟩) (va_recv hK hP (ci := 0) (q0 := 0) rfl rfl) hK hP hD hS hA [0, 1, 2, 3, 4, 5, 6, 7, 8] [9, 10, 11, 12] rfl rfl rfl (by decide) (by decide) (by decide) rfl hl.1 rfl (Nat.le_of_ble_eq_true rfl) dL_law_260 (Nat.le_of_ble_eq_true rfl) (Nat.le_of_ble_eq_true rfl) (fun rx ux H locs hwx hP hD hS => ?_)
  have hP : va_P D z_cl (z_w1 cA g (nI he) (zn_F nm) es ev (nI (z_P ky kl)) (nI kl) pl ro ++ z_w0 cA h (nI kl) (zn_F ky) (zn_F ch) (zn_F nu) (zn_F be) (nI he) (zn_F en) es ev ux.1 ux.2.1 ux.2.2.1 ux.2.2.2.1 (nI ux.2.2.2.2.1) (zn_F ux.2.2.2.2.2)) H := hP
  have hD : va_D (fun q : Nat => s.heap.size ≤ q) (z_w1 cA g (nI he) (zn_F nm) es ev (nI (z_P ky kl)) (nI kl) pl ro ++ z_w0 cA h (nI kl) (zn_F ky) (zn_F ch) (zn_F nu) (zn_F be) (nI he) (zn_F en) es ev ux.1 ux.2.1 ux.2.2.1 ux.2.2.2.1 (nI ux.2.2.2.2.1) (zn_F ux.2.2.2.2.2)) := hD
  refine lv_aload_n hx hb dL_law_263 rfl (lv_at hl 2 rfl) ?_
  refine lv_aload_n hx hb dL_law_264 rfl (lv_at hl 0 rfl) ?_
  refine lv_iload_n hx hb dL_law_265 rfl (lv_at hl 3 rfl) ?_
  refine lv_iconst (v := nI 1) hx hb dL_law_266 (by decide) ?_
  refine zn_iadd hx hb (a := i) (b := 1) dL_law_267 ?_
  refine zn_sld hx hb hX hbl hbA hS (i := i + 1) (by omega) (by omega) dL_law_268 ?_
  refine z_calliR (As := [.int (xs (i + 1))]) (rest := [.int rx]) (wr := z_w0 cA h (nI kl) (zn_F ky) (zn_F ch) (zn_F nu) (zn_F be) (nI he) (zn_F en) es ev ux.1 ux.2.1 ux.2.2.1 ux.2.2.2.1 (nI ux.2.2.2.2.1) (zn_F ux.2.2.2.2.2)) ⟨hx, hb, hml, hown, hts⟩ (zd_place l D cA H.size g he nm es ev (z_P ky kl) (nI kl) pl ro (xs (i + 1)) hhe (z_vn_P hky hkl) hnm hals) (cwV 1 hts (lw_V q277 q278 q279 q22 q280) rfl rfl rfl (by decide +kernel) ⟨Nat.le_of_ble_eq_true rfl, Nat.le_of_ble_eq_true rfl⟩) (va_recv hK hP (ci := 1) (q0 := 0) rfl rfl) hK hP hD hS hA [0, 1, 2, 3] [4, 5, 6, 7, 8, 9, 10, 11, 12] rfl rfl rfl (by decide) (by decide) (by decide) rfl hl.1 rfl (Nat.le_of_ble_eq_true rfl) dL_law_269 (Nat.le_of_ble_eq_true rfl) (Nat.le_of_ble_eq_true rfl) (fun rm um H locs hwm hP hD hS => ?_)
  have hP : va_P D z_cl (z_w0 cA h (nI kl) (zn_F ky) (zn_F ch) (zn_F nu) (zn_F be) (nI he) (zn_F en) es ev ux.1 ux.2.1 ux.2.2.1 ux.2.2.2.1 (nI ux.2.2.2.2.1) (zn_F ux.2.2.2.2.2) ++ z_w1 cA g (nI he) (zn_F nm) es ev (nI (z_P ky kl)) (nI kl) um.1 um.2) H := hP
  have hD : va_D (fun q : Nat => s.heap.size ≤ q) (z_w0 cA h (nI kl) (zn_F ky) (zn_F ch) (zn_F nu) (zn_F be) (nI he) (zn_F en) es ev ux.1 ux.2.1 ux.2.2.1 ux.2.2.2.1 (nI ux.2.2.2.2.1) (zn_F ux.2.2.2.2.2) ++ z_w1 cA g (nI he) (zn_F nm) es ev (nI (z_P ky kl)) (nI kl) um.1 um.2) := hD
  have eq : rx = rm := z_t_two2 hwx.2 hwm
  refine lv_icmp_eq (tgt := 333) (x := rx) (y := rm) hx hb dL_law_272 (by decide) (fun _ => ?_) (fun q => absurd eq q)
  exact hnext kl ky ch nu be he en es ev nm ux.1 ux.2.1 ux.2.2.1 ux.2.2.2.1 ux.2.2.2.2.1 ux.2.2.2.2.2 um.1 um.2 hI hwx.1 _ _ hP hD hS ls hl
set_option maxHeartbeats 4000000 in
/-- rounds: both answer alike, the invariant stays -/
theorem zl_rounds {p : Program} {l : Launch} {e : Env} {s : State} {m : MethodId} {below : List Frame} {meth : Method} {c : Code} {D : va_G} {cA : ClassId} {b L : Nat} {xs : Nat → Int32} (hL : L ≤ 192) (C0 : lw_At p s m meth c b L xs) (hK : va_K D z_cl [(cA, .int)] s) (h g : Nat → Nat) (i : Nat) (hi : i + 3 ≤ L) (ls : Array Slot) (hl : lv_has ls 4 [(0, .ref b), (1, .ref (h 0)), (2, .ref (g 0)), (3, .int (nI i))]) (hnext : ∀ (kl : Nat) (ky ch nu be : Nat → Nat) (he : Nat) (en : Nat → Nat) (es ev : Nat → Int32) (nm : Nat → Nat) (an ap ao ar : Int32) (al : Nat) (ak : Nat → Nat) (pl ro : Int32), z_I kl ky ch nu be he en es ev nm → (∀ j, ak j < 8) → ∀ (H : Heap) (locs : List Loc), va_P D z_cl (z_w0 cA h (nI kl) (zn_F ky) (zn_F ch) (zn_F nu) (zn_F be) (nI he) (zn_F en) es ev an ap ao ar (nI al) (zn_F ak) ++ z_w1 cA g (nI he) (zn_F nm) es ev (nI (z_P ky kl)) (nI kl) pl ro) H → va_D (fun q : Nat => s.heap.size ≤ q) (z_w0 cA h (nI kl) (zn_F ky) (zn_F ch) (zn_F nu) (zn_F be) (nI he) (zn_F en) es ev an ap ao ar (nI al) (zn_F ak) ++ z_w1 cA g (nI he) (zn_F nm) es ev (nI (z_P ky kl)) (nI kl) pl ro) → va_S (fun q : Nat => s.heap.size ≤ q) s.heap H locs → ∀ ls : Array Slot, lv_has ls 4 [(0, .ref b), (1, .ref (h 0)), (2, .ref (g 0)), (3, .int (nI i))] → W p l e room_1 s m #[Value.ref b] below meth c H locs 13 1175 (lw_Z below #[Value.ref b] s) (F0 m 333 ls [])) :
    ∀ (kl : Nat) (ky ch nu be : Nat → Nat) (he : Nat) (en : Nat → Nat) (es ev : Nat → Int32) (nm : Nat → Nat) (an ap ao ar : Int32) (al : Nat) (ak : Nat → Nat) (pl ro : Int32), z_I kl ky ch nu be he en es ev nm → (∀ j, ak j < 8) → ∀ (H : Heap) (locs : List Loc), va_P D z_cl (z_w0 cA h (nI kl) (zn_F ky) (zn_F ch) (zn_F nu) (zn_F be) (nI he) (zn_F en) es ev an ap ao ar (nI al) (zn_F ak) ++ z_w1 cA g (nI he) (zn_F nm) es ev (nI (z_P ky kl)) (nI kl) pl ro) H → va_D (fun q : Nat => s.heap.size ≤ q) (z_w0 cA h (nI kl) (zn_F ky) (zn_F ch) (zn_F nu) (zn_F be) (nI he) (zn_F en) es ev an ap ao ar (nI al) (zn_F ak) ++ z_w1 cA g (nI he) (zn_F nm) es ev (nI (z_P ky kl)) (nI kl) pl ro) → va_S (fun q : Nat => s.heap.size ≤ q) s.heap H locs → W p l e room_1 s m #[Value.ref b] below meth c H locs 13 1175 (lw_Z below #[Value.ref b] s) (F0 m 277 ls []) := by
  obtain ⟨hx, hb, hr, hml, hown, hts0, hX, hbl, hlocks, hgv⟩ := C0
  have hts : ∀ w ∈ lw_all, w.before #[Value.ref b] s = true := fun w h => hts0 w (lw_all_tbl h)
  have hA : ∀ q : Nat, s.heap.size ≤ q → (fun q : Nat => s.heap.size ≤ q) q := fun _ h => h
  have hbA : ¬ (fun q : Nat => s.heap.size ≤ q) b := Nat.not_le.mpr hbl
  intro kl ky ch nu be he en es ev nm an ap ao ar al ak pl ro hI hak H locs hP hD hS
  obtain ⟨hkl, hky, hhe, hnm, hT, hsb, hen, hals, hrm⟩ := id hI
  refine lv_aload_n hx hb dL_law_277 rfl (lv_at hl 1 rfl) ?_
  refine lv_aload_n hx hb dL_law_278 rfl (lv_at hl 0 rfl) ?_
  refine lv_iload_n hx hb dL_law_279 rfl (lv_at hl 3 rfl) ?_
  refine lv_iconst (v := nI 1) hx hb dL_law_280 (by decide) ?_
  refine zn_iadd hx hb (a := i) (b := 1) dL_law_281 ?_
  refine zn_sld hx hb hX hbl hbA hS (i := i + 1) (by omega) (by omega) dL_law_282 ?_
  refine z_calliR (As := [.int (xs (i + 1))]) (rest := []) (wr := z_w1 cA g (nI he) (zn_F nm) es ev (nI (z_P ky kl)) (nI kl) pl ro) ⟨hx, hb, hml, hown, hts⟩ (zc_rounds l D cA H.size h kl ky ch nu be he en es ev an ap ao ar al ak (xs (i + 1)) nm hI hak) (cwV 1 hts (lw_V q169 q170 q171 q21 q172) rfl rfl rfl (by decide +kernel) ⟨Nat.le_of_ble_eq_true rfl, Nat.le_of_ble_eq_true rfl⟩) (va_recv hK hP (ci := 0) (q0 := 0) rfl rfl) hK hP hD hS hA [0, 1, 2, 3, 4, 5, 6, 7, 8] [9, 10, 11, 12] rfl rfl rfl (by decide) (by decide) (by decide) rfl hl.1 rfl (Nat.le_of_ble_eq_true rfl) dL_law_283 (Nat.le_of_ble_eq_true rfl) (Nat.le_of_ble_eq_true rfl) (fun rx ux H locs hwx hP hD hS => ?_)
  have hP : va_P D z_cl (z_w1 cA g (nI he) (zn_F nm) es ev (nI (z_P ky kl)) (nI kl) pl ro ++ z_w0 cA h (nI kl) (zn_F ky) (zn_F ch) (zn_F nu) (zn_F be) (nI he) (zn_F en) es ev ux.1 ux.2.1 ux.2.2.1 ux.2.2.2.1 (nI ux.2.2.2.2.1) (zn_F ux.2.2.2.2.2)) H := hP
  have hD : va_D (fun q : Nat => s.heap.size ≤ q) (z_w1 cA g (nI he) (zn_F nm) es ev (nI (z_P ky kl)) (nI kl) pl ro ++ z_w0 cA h (nI kl) (zn_F ky) (zn_F ch) (zn_F nu) (zn_F be) (nI he) (zn_F en) es ev ux.1 ux.2.1 ux.2.2.1 ux.2.2.2.1 (nI ux.2.2.2.2.1) (zn_F ux.2.2.2.2.2)) := hD
  refine lv_aload_n hx hb dL_law_286 rfl (lv_at hl 2 rfl) ?_
  refine lv_aload_n hx hb dL_law_287 rfl (lv_at hl 0 rfl) ?_
  refine lv_iload_n hx hb dL_law_288 rfl (lv_at hl 3 rfl) ?_
  refine lv_iconst (v := nI 1) hx hb dL_law_289 (by decide) ?_
  refine zn_iadd hx hb (a := i) (b := 1) dL_law_290 ?_
  refine zn_sld hx hb hX hbl hbA hS (i := i + 1) (by omega) (by omega) dL_law_291 ?_
  refine z_calliR (As := [.int (xs (i + 1))]) (rest := [.int rx]) (wr := z_w0 cA h (nI kl) (zn_F ky) (zn_F ch) (zn_F nu) (zn_F be) (nI he) (zn_F en) es ev ux.1 ux.2.1 ux.2.2.1 ux.2.2.2.1 (nI ux.2.2.2.2.1) (zn_F ux.2.2.2.2.2)) ⟨hx, hb, hml, hown, hts⟩ (zd_rounds l D cA H.size g he nm es ev (z_P ky kl) (nI kl) pl ro (xs (i + 1)) hhe (z_vn_P hky hkl) hnm hals) (cwV 1 hts (lw_V q281 q282 q283 q22 q284) rfl rfl rfl (by decide +kernel) ⟨Nat.le_of_ble_eq_true rfl, Nat.le_of_ble_eq_true rfl⟩) (va_recv hK hP (ci := 1) (q0 := 0) rfl rfl) hK hP hD hS hA [0, 1, 2, 3] [4, 5, 6, 7, 8, 9, 10, 11, 12] rfl rfl rfl (by decide) (by decide) (by decide) rfl hl.1 rfl (Nat.le_of_ble_eq_true rfl) dL_law_292 (Nat.le_of_ble_eq_true rfl) (Nat.le_of_ble_eq_true rfl) (fun rm um H locs hwm hP hD hS => ?_)
  have hP : va_P D z_cl (z_w0 cA h (nI kl) (zn_F ky) (zn_F ch) (zn_F nu) (zn_F be) (nI he) (zn_F en) es ev ux.1 ux.2.1 ux.2.2.1 ux.2.2.2.1 (nI ux.2.2.2.2.1) (zn_F ux.2.2.2.2.2) ++ z_w1 cA g (nI he) (zn_F nm) es ev (nI (z_P ky kl)) (nI kl) um.1 um.2) H := hP
  have hD : va_D (fun q : Nat => s.heap.size ≤ q) (z_w0 cA h (nI kl) (zn_F ky) (zn_F ch) (zn_F nu) (zn_F be) (nI he) (zn_F en) es ev ux.1 ux.2.1 ux.2.2.1 ux.2.2.2.1 (nI ux.2.2.2.2.1) (zn_F ux.2.2.2.2.2) ++ z_w1 cA g (nI he) (zn_F nm) es ev (nI (z_P ky kl)) (nI kl) um.1 um.2) := hD
  have eq : rx = rm := z_t_two2 hwx.2 hwm
  refine lv_icmp_eq (tgt := 333) (x := rx) (y := rm) hx hb dL_law_295 (by decide) (fun _ => ?_) (fun q => absurd eq q)
  exact hnext kl ky ch nu be he en es ev nm ux.1 ux.2.1 ux.2.2.1 ux.2.2.2.1 ux.2.2.2.2.1 ux.2.2.2.2.2 um.1 um.2 hI hwx.1 _ _ hP hD hS ls hl
set_option maxHeartbeats 4000000 in
/-- value: both answer alike, the invariant stays -/
theorem zl_value {p : Program} {l : Launch} {e : Env} {s : State} {m : MethodId} {below : List Frame} {meth : Method} {c : Code} {D : va_G} {cA : ClassId} {b L : Nat} {xs : Nat → Int32} (hL : L ≤ 192) (C0 : lw_At p s m meth c b L xs) (hK : va_K D z_cl [(cA, .int)] s) (h g : Nat → Nat) (i : Nat) (hi : i + 3 ≤ L) (ls : Array Slot) (hl : lv_has ls 4 [(0, .ref b), (1, .ref (h 0)), (2, .ref (g 0)), (3, .int (nI i))]) (hnext : ∀ (kl : Nat) (ky ch nu be : Nat → Nat) (he : Nat) (en : Nat → Nat) (es ev : Nat → Int32) (nm : Nat → Nat) (an ap ao ar : Int32) (al : Nat) (ak : Nat → Nat) (pl ro : Int32), z_I kl ky ch nu be he en es ev nm → (∀ j, ak j < 8) → ∀ (H : Heap) (locs : List Loc), va_P D z_cl (z_w0 cA h (nI kl) (zn_F ky) (zn_F ch) (zn_F nu) (zn_F be) (nI he) (zn_F en) es ev an ap ao ar (nI al) (zn_F ak) ++ z_w1 cA g (nI he) (zn_F nm) es ev (nI (z_P ky kl)) (nI kl) pl ro) H → va_D (fun q : Nat => s.heap.size ≤ q) (z_w0 cA h (nI kl) (zn_F ky) (zn_F ch) (zn_F nu) (zn_F be) (nI he) (zn_F en) es ev an ap ao ar (nI al) (zn_F ak) ++ z_w1 cA g (nI he) (zn_F nm) es ev (nI (z_P ky kl)) (nI kl) pl ro) → va_S (fun q : Nat => s.heap.size ≤ q) s.heap H locs → ∀ ls : Array Slot, lv_has ls 4 [(0, .ref b), (1, .ref (h 0)), (2, .ref (g 0)), (3, .int (nI i))] → W p l e room_1 s m #[Value.ref b] below meth c H locs 13 1175 (lw_Z below #[Value.ref b] s) (F0 m 333 ls [])) :
    ∀ (kl : Nat) (ky ch nu be : Nat → Nat) (he : Nat) (en : Nat → Nat) (es ev : Nat → Int32) (nm : Nat → Nat) (an ap ao ar : Int32) (al : Nat) (ak : Nat → Nat) (pl ro : Int32), z_I kl ky ch nu be he en es ev nm → (∀ j, ak j < 8) → ∀ (H : Heap) (locs : List Loc), va_P D z_cl (z_w0 cA h (nI kl) (zn_F ky) (zn_F ch) (zn_F nu) (zn_F be) (nI he) (zn_F en) es ev an ap ao ar (nI al) (zn_F ak) ++ z_w1 cA g (nI he) (zn_F nm) es ev (nI (z_P ky kl)) (nI kl) pl ro) H → va_D (fun q : Nat => s.heap.size ≤ q) (z_w0 cA h (nI kl) (zn_F ky) (zn_F ch) (zn_F nu) (zn_F be) (nI he) (zn_F en) es ev an ap ao ar (nI al) (zn_F ak) ++ z_w1 cA g (nI he) (zn_F nm) es ev (nI (z_P ky kl)) (nI kl) pl ro) → va_S (fun q : Nat => s.heap.size ≤ q) s.heap H locs → W p l e room_1 s m #[Value.ref b] below meth c H locs 13 1175 (lw_Z below #[Value.ref b] s) (F0 m 300 ls []) := by
  obtain ⟨hx, hb, hr, hml, hown, hts0, hX, hbl, hlocks, hgv⟩ := C0
  have hts : ∀ w ∈ lw_all, w.before #[Value.ref b] s = true := fun w h => hts0 w (lw_all_tbl h)
  have hA : ∀ q : Nat, s.heap.size ≤ q → (fun q : Nat => s.heap.size ≤ q) q := fun _ h => h
  have hbA : ¬ (fun q : Nat => s.heap.size ≤ q) b := Nat.not_le.mpr hbl
  intro kl ky ch nu be he en es ev nm an ap ao ar al ak pl ro hI hak H locs hP hD hS
  obtain ⟨hkl, hky, hhe, hnm, hT, hsb, hen, hals, hrm⟩ := id hI
  refine lv_aload_n hx hb dL_law_300 rfl (lv_at hl 1 rfl) ?_
  refine lv_aload_n hx hb dL_law_301 rfl (lv_at hl 0 rfl) ?_
  refine lv_iload_n hx hb dL_law_302 rfl (lv_at hl 3 rfl) ?_
  refine lv_iconst (v := nI 1) hx hb dL_law_303 (by decide) ?_
  refine zn_iadd hx hb (a := i) (b := 1) dL_law_304 ?_
  refine zn_sld hx hb hX hbl hbA hS (i := i + 1) (by omega) (by omega) dL_law_305 ?_
  refine lv_aload_n hx hb dL_law_306 rfl (lv_at hl 0 rfl) ?_
  refine lv_iload_n hx hb dL_law_307 rfl (lv_at hl 3 rfl) ?_
  refine lv_iconst (v := nI 2) hx hb dL_law_308 (by decide) ?_
  refine zn_iadd hx hb (a := i) (b := 2) dL_law_309 ?_
  refine zn_sld hx hb hX hbl hbA hS (i := i + 2) (by omega) (by omega) dL_law_310 ?_
  refine z_calliR (As := [.int (xs (i + 1)), .int (xs (i + 2))]) (rest := []) (wr := z_w1 cA g (nI he) (zn_F nm) es ev (nI (z_P ky kl)) (nI kl) pl ro) ⟨hx, hb, hml, hown, hts⟩ (zc_value l D cA H.size h kl ky ch nu be he en es ev an ap ao ar al ak (xs (i + 1)) (xs (i + 2)) nm hI hak) (cwV 2 hts (lw_V q173 q174 q175 q21 q176) rfl rfl rfl (by decide +kernel) ⟨Nat.le_of_ble_eq_true rfl, Nat.le_of_ble_eq_true rfl⟩) (va_recv hK hP (ci := 0) (q0 := 0) rfl rfl) hK hP hD hS hA [0, 1, 2, 3, 4, 5, 6, 7, 8] [9, 10, 11, 12] rfl rfl rfl (by decide) (by decide) (by decide) rfl hl.1 rfl (Nat.le_of_ble_eq_true rfl) dL_law_311 (Nat.le_of_ble_eq_true rfl) (Nat.le_of_ble_eq_true rfl) (fun rx ux H locs hwx hP hD hS => ?_)
  have hP : va_P D z_cl (z_w1 cA g (nI he) (zn_F nm) es ev (nI (z_P ky kl)) (nI kl) pl ro ++ z_w0 cA h (nI kl) (zn_F ky) (zn_F ch) (zn_F nu) (zn_F be) (nI he) (zn_F en) es ev ux.1 ux.2.1 ux.2.2.1 ux.2.2.2.1 (nI ux.2.2.2.2.1) (zn_F ux.2.2.2.2.2)) H := hP
  have hD : va_D (fun q : Nat => s.heap.size ≤ q) (z_w1 cA g (nI he) (zn_F nm) es ev (nI (z_P ky kl)) (nI kl) pl ro ++ z_w0 cA h (nI kl) (zn_F ky) (zn_F ch) (zn_F nu) (zn_F be) (nI he) (zn_F en) es ev ux.1 ux.2.1 ux.2.2.1 ux.2.2.2.1 (nI ux.2.2.2.2.1) (zn_F ux.2.2.2.2.2)) := hD
  refine lv_aload_n hx hb dL_law_314 rfl (lv_at hl 2 rfl) ?_
  refine lv_aload_n hx hb dL_law_315 rfl (lv_at hl 0 rfl) ?_
  refine lv_iload_n hx hb dL_law_316 rfl (lv_at hl 3 rfl) ?_
  refine lv_iconst (v := nI 1) hx hb dL_law_317 (by decide) ?_
  refine zn_iadd hx hb (a := i) (b := 1) dL_law_318 ?_
  refine zn_sld hx hb hX hbl hbA hS (i := i + 1) (by omega) (by omega) dL_law_319 ?_
  refine lv_aload_n hx hb dL_law_320 rfl (lv_at hl 0 rfl) ?_
  refine lv_iload_n hx hb dL_law_321 rfl (lv_at hl 3 rfl) ?_
  refine lv_iconst (v := nI 2) hx hb dL_law_322 (by decide) ?_
  refine zn_iadd hx hb (a := i) (b := 2) dL_law_323 ?_
  refine zn_sld hx hb hX hbl hbA hS (i := i + 2) (by omega) (by omega) dL_law_324 ?_
  refine z_calliR (As := [.int (xs (i + 1)), .int (xs (i + 2))]) (rest := [.int rx]) (wr := z_w0 cA h (nI kl) (zn_F ky) (zn_F ch) (zn_F nu) (zn_F be) (nI he) (zn_F en) es ev ux.1 ux.2.1 ux.2.2.1 ux.2.2.2.1 (nI ux.2.2.2.2.1) (zn_F ux.2.2.2.2.2)) ⟨hx, hb, hml, hown, hts⟩ (zd_value l D cA H.size g he nm es ev (z_P ky kl) (nI kl) pl ro (xs (i + 1)) (xs (i + 2)) hhe (z_vn_P hky hkl) hnm hals) (cwV 2 hts (lw_V q285 q286 q287 q22 q288) rfl rfl rfl (by decide +kernel) ⟨Nat.le_of_ble_eq_true rfl, Nat.le_of_ble_eq_true rfl⟩) (va_recv hK hP (ci := 1) (q0 := 0) rfl rfl) hK hP hD hS hA [0, 1, 2, 3] [4, 5, 6, 7, 8, 9, 10, 11, 12] rfl rfl rfl (by decide) (by decide) (by decide) rfl hl.1 rfl (Nat.le_of_ble_eq_true rfl) dL_law_325 (Nat.le_of_ble_eq_true rfl) (Nat.le_of_ble_eq_true rfl) (fun rm um H locs hwm hP hD hS => ?_)
  have hP : va_P D z_cl (z_w0 cA h (nI kl) (zn_F ky) (zn_F ch) (zn_F nu) (zn_F be) (nI he) (zn_F en) es ev ux.1 ux.2.1 ux.2.2.1 ux.2.2.2.1 (nI ux.2.2.2.2.1) (zn_F ux.2.2.2.2.2) ++ z_w1 cA g (nI he) (zn_F nm) es ev (nI (z_P ky kl)) (nI kl) um.1 um.2) H := hP
  have hD : va_D (fun q : Nat => s.heap.size ≤ q) (z_w0 cA h (nI kl) (zn_F ky) (zn_F ch) (zn_F nu) (zn_F be) (nI he) (zn_F en) es ev ux.1 ux.2.1 ux.2.2.1 ux.2.2.2.1 (nI ux.2.2.2.2.1) (zn_F ux.2.2.2.2.2) ++ z_w1 cA g (nI he) (zn_F nm) es ev (nI (z_P ky kl)) (nI kl) um.1 um.2) := hD
  have eq : rx = rm := z_t_two2 hwx.2 hwm
  refine lv_icmp_eq (tgt := 333) (x := rx) (y := rm) hx hb dL_law_328 (by decide) (fun _ => ?_) (fun q => absurd eq q)
  exact hnext kl ky ch nu be he en es ev nm ux.1 ux.2.1 ux.2.2.1 ux.2.2.2.1 ux.2.2.2.2.1 ux.2.2.2.2.2 um.1 um.2 hI hwx.1 _ _ hP hD hS ls hl
end
section
/-! THE LAW: its loop, its start, the claim -/
set_option maxRecDepth 100000
set_option maxHeartbeats 4000000 in
theorem zl_loop {p : Program} {l : Launch} {e : Env} {s : State} {m : MethodId} {below : List Frame} {meth : Method} {c : Code} {D : va_G} {cA : ClassId} {b L : Nat} {xs : Nat → Int32} (hL : L ≤ 192) (C0 : lw_At p s m meth c b L xs) (hK : va_K D z_cl [(cA, .int)] s) (h g : Nat → Nat) : ∀ (n i : Nat), i ≤ L + 3 → L + 3 < i + n → ∀ (kl : Nat) (ky ch nu be : Nat → Nat) (he : Nat) (en : Nat → Nat) (es ev : Nat → Int32) (nm : Nat → Nat) (an ap ao ar : Int32) (al : Nat) (ak : Nat → Nat) (pl ro : Int32), z_I kl ky ch nu be he en es ev nm → (∀ j, ak j < 8) → ∀ (H : Heap) (locs : List Loc), va_P D z_cl (z_w0 cA h (nI kl) (zn_F ky) (zn_F ch) (zn_F nu) (zn_F be) (nI he) (zn_F en) es ev an ap ao ar (nI al) (zn_F ak) ++ z_w1 cA g (nI he) (zn_F nm) es ev (nI (z_P ky kl)) (nI kl) pl ro) H → va_D (fun q : Nat => s.heap.size ≤ q) (z_w0 cA h (nI kl) (zn_F ky) (zn_F ch) (zn_F nu) (zn_F be) (nI he) (zn_F en) es ev an ap ao ar (nI al) (zn_F ak) ++ z_w1 cA g (nI he) (zn_F nm) es ev (nI (z_P ky kl)) (nI kl) pl ro) → va_S (fun q : Nat => s.heap.size ≤ q) s.heap H locs → ∀ ls : Array Slot, lv_has ls 4 [(0, .ref b), (1, .ref (h 0)), (2, .ref (g 0)), (3, .int (nI i))] → W p l e room_1 s m #[Value.ref b] below meth c H locs 13 1175 (lw_Z below #[Value.ref b] s) (F0 m 18 ls []) := by
  have C1 := C0
  obtain ⟨hx, hb, hr, hml, hown, hts0, hX, hbl, hlocks, hgv⟩ := C0
  have hts : ∀ w ∈ lw_all, w.before #[Value.ref b] s = true := fun w h => hts0 w (lw_all_tbl h)
  have hA : ∀ q : Nat, s.heap.size ≤ q → (fun q : Nat => s.heap.size ≤ q) q := fun _ h => h
  have hbA : ¬ (fun q : Nat => s.heap.size ≤ q) b := Nat.not_le.mpr hbl
  intro n
  induction n with
  | zero =>
    intro i h1 h2
    exact absurd h2 (by omega)
  | succ n ih =>
    intro i hi hn kl ky ch nu be he en es ev nm an ap ao ar al ak pl ro hI hak H locs hP hD hS ls hl
    refine lv_iload_n hx hb dL_law_18 rfl (lv_at hl 3 rfl) ?_
    refine lv_aload_n hx hb dL_law_19 rfl (lv_at hl 0 rfl) ?_
    refine va_slen hx hb hX hbl hbA hS dL_law_20 ?_
    refine lv_iconst (v := nI 3) hx hb dL_law_21 (by decide) ?_
    refine lv_isub hx hb dL_law_22 ?_
    refine lv_icmp_gt (tgt := 339) (x := nI i) (y := nI L - nI 3) hx hb dL_law_23 (by decide) (fun c_23 => ?_) (fun c_23 => ?_)
    · refine lv_iconst (v := 1) hx hb dL_law_339 (by decide) ?_
      refine va_forget (fun q hq => hS.2.2 q hq) ?_
      refine W.widen (k := 600000) (n := 7290000) (Nat.le_of_ble_eq_true rfl) (Nat.le_of_ble_eq_true rfl) ?_
      exact lw_ret hx hb hr hlocks dL_law_340
    · have hi3 : i + 3 ≤ L := z_more (by omega) (by omega) c_23
      have hnext : ∀ (kl : Nat) (ky ch nu be : Nat → Nat) (he : Nat) (en : Nat → Nat) (es ev : Nat → Int32) (nm : Nat → Nat) (an ap ao ar : Int32) (al : Nat) (ak : Nat → Nat) (pl ro : Int32), z_I kl ky ch nu be he en es ev nm → (∀ j, ak j < 8) → ∀ (H : Heap) (locs : List Loc), va_P D z_cl (z_w0 cA h (nI kl) (zn_F ky) (zn_F ch) (zn_F nu) (zn_F be) (nI he) (zn_F en) es ev an ap ao ar (nI al) (zn_F ak) ++ z_w1 cA g (nI he) (zn_F nm) es ev (nI (z_P ky kl)) (nI kl) pl ro) H → va_D (fun q : Nat => s.heap.size ≤ q) (z_w0 cA h (nI kl) (zn_F ky) (zn_F ch) (zn_F nu) (zn_F be) (nI he) (zn_F en) es ev an ap ao ar (nI al) (zn_F ak) ++ z_w1 cA g (nI he) (zn_F nm) es ev (nI (z_P ky kl)) (nI kl) pl ro) → va_S (fun q : Nat => s.heap.size ≤ q) s.heap H locs → ∀ ls : Array Slot, lv_has ls 4 [(0, .ref b), (1, .ref (h 0)), (2, .ref (g 0)), (3, .int (nI i))] → W p l e room_1 s m #[Value.ref b] below meth c H locs 13 1175 (lw_Z below #[Value.ref b] s) (F0 m 333 ls []) := by
        intro kl ky ch nu be he en es ev nm an ap ao ar al ak pl ro hI hak H locs hP hD hS ls hl
        refine lv_iinc (v := nI (i + 3)) (lv' := [(3, .int (nI (i + 3))), (0, .ref b), (1, .ref (h 0)), (2, .ref (g 0))]) hx hb dL_law_333 hl (k := 3) rfl (nI_add i 3) (by decide) rfl (fun ls hl => ?_)
        refine lv_goto (tgt := 18) hx hb dL_law_336 (by decide) ?_
        exact ih (i + 3) (by omega) (by omega) kl ky ch nu be he en es ev nm an ap ao ar al ak pl ro hI hak _ _ hP hD hS ls (lv_sub hl [1, 2, 3, 0] rfl)
      refine lv_aload_n hx hb dL_law_26 rfl (lv_at hl 0 rfl) ?_
      refine lv_iload_n hx hb dL_law_27 rfl (lv_at hl 3 rfl) ?_
      refine zn_sld hx hb hX hbl hbA hS (i := i) (by omega) (by omega) dL_law_28 ?_
      refine lv_bipush (v := nI 15) hx hb dL_law_29 (by decide) ?_
      refine zn_iand15 hx hb dL_law_31 (fun v hv => ?_)
      match v, hv with
      | 0, _ =>
        refine lv_tableIn (tgt := 92) hx hb dL_law_32 (by decide) (by decide) rfl (by decide) ?_
        exact zl_label hL C1 hK h g i hi3 ls hl hnext kl ky ch nu be he en es ev nm an ap ao ar al ak pl ro hI hak _ _ hP hD hS
      | 1, _ =>
        refine lv_tableIn (tgt := 115) hx hb dL_law_32 (by decide) (by decide) rfl (by decide) ?_
        exact zl_back hL C1 hK h g i hi3 ls hl hnext kl ky ch nu be he en es ev nm an ap ao ar al ak pl ro hI hak _ _ hP hD hS
      | 2, _ =>
        refine lv_tableIn (tgt := 128) hx hb dL_law_32 (by decide) (by decide) rfl (by decide) ?_
        exact zl_erase hL C1 hK h g i hi3 ls hl hnext kl ky ch nu be he en es ev nm an ap ao ar al ak pl ro hI hak _ _ hP hD hS
      | 3, _ =>
        refine lv_tableIn (tgt := 139) hx hb dL_law_32 (by decide) (by decide) rfl (by decide) ?_
        exact zl_number hL C1 hK h g i hi3 ls hl hnext kl ky ch nu be he en es ev nm an ap ao ar al ak pl ro hI hak _ _ hP hD hS
      | 4, _ =>
        refine lv_tableIn (tgt := 152) hx hb dL_law_32 (by decide) (by decide) rfl (by decide) ?_
        exact zl_add hL C1 hK h g i hi3 ls hl hnext kl ky ch nu be he en es ev nm an ap ao ar al ak pl ro hI hak _ _ hP hD hS
      | 5, _ =>
        refine lv_tableIn (tgt := 185) hx hb dL_law_32 (by decide) (by decide) rfl (by decide) ?_
        exact zl_remove hL C1 hK h g i hi3 ls hl hnext kl ky ch nu be he en es ev nm an ap ao ar al ak pl ro hI hak _ _ hP hD hS
      | 6, _ =>
        refine lv_tableIn (tgt := 218) hx hb dL_law_32 (by decide) (by decide) rfl (by decide) ?_
        exact zl_exists hL C1 hK h g i hi3 ls hl hnext kl ky ch nu be he en es ev nm an ap ao ar al ak pl ro hI hak _ _ hP hD hS
      | 7, _ =>
        refine lv_tableIn (tgt := 231) hx hb dL_law_32 (by decide) (by decide) rfl (by decide) ?_
        exact zl_look hL C1 hK h g i hi3 ls hl hnext kl ky ch nu be he en es ev nm an ap ao ar al ak pl ro hI hak _ _ hP hD hS
      | 8, _ =>
        refine lv_tableIn (tgt := 254) hx hb dL_law_32 (by decide) (by decide) rfl (by decide) ?_
        exact zl_place hL C1 hK h g i hi3 ls hl hnext kl ky ch nu be he en es ev nm an ap ao ar al ak pl ro hI hak _ _ hP hD hS
      | 9, _ =>
        refine lv_tableIn (tgt := 277) hx hb dL_law_32 (by decide) (by decide) rfl (by decide) ?_
        exact zl_rounds hL C1 hK h g i hi3 ls hl hnext kl ky ch nu be he en es ev nm an ap ao ar al ak pl ro hI hak _ _ hP hD hS
      | 10, _ =>
        refine lv_tableIn (tgt := 300) hx hb dL_law_32 (by decide) (by decide) rfl (by decide) ?_
        exact zl_value hL C1 hK h g i hi3 ls hl hnext kl ky ch nu be he en es ev nm an ap ao ar al ak pl ro hI hak _ _ hP hD hS
      | v + 11, hv =>
        refine lv_tableOut (tgt := 333) hx hb dL_law_32 (Or.inr (by rw [nI_toInt (by omega)]; omega)) (by decide) ?_
        exact hnext kl ky ch nu be he en es ev nm an ap ao ar al ak pl ro hI hak _ _ hP hD hS ls hl
set_option maxHeartbeats 4000000 in
/-- THE LAW, from its entry -/
theorem whole_start {p : Program} {e : Env} {s : State} {m : MethodId} {below : List Frame} {meth : Method} {c : Code} (l : Launch) {b L : Nat} {xs : Nat → Int32} (hL : L ≤ 192) (C0 : lw_At p s m meth c b L xs) : W p l e room_1 s m #[Value.ref b] below meth c s.heap [] 0 0 (lw_Z below #[Value.ref b] s) (entryFrame m ([Value.ref b] : List Value).toArray 4) := by
  have C1 := C0
  obtain ⟨hx, hb, hr, hml, hown, hts0, hX, hbl, hlocks, hgv⟩ := C0
  have hts : ∀ w ∈ lw_all, w.before #[Value.ref b] s = true := fun w h => hts0 w (lw_all_tbl h)
  have hA : ∀ q : Nat, s.heap.size ≤ q → (fun q : Nat => s.heap.size ≤ q) q := fun _ h => h
  have hbA : ¬ (fun q : Nat => s.heap.size ≤ q) b := Nat.not_le.mpr hbl
  obtain ⟨c0_, iS0, hKn0⟩ := u_known (C := RX0) (T := TX0) (N := 15) (n := 15) hts0 (fun w h => lw_all_tbl (in_X0 w h)) (hts _ q24)
  obtain ⟨c1_, iS1, hKn1⟩ := u_known (C := RX1) (T := TX1) (N := 8) (n := 8) hts0 (fun w h => lw_all_tbl (in_X1 w h)) (hts _ q178)
  obtain ⟨D, hKc⟩ : ∃ D : va_G, ∀ (k : Nat) (q : vw_C), z_cl[k]? = some q → u_Kn s q.1 q.2.1 q.2.2 (D.1 k) (D.2 k) := by
    refine ⟨(fun k => if k = 0 then c0_ else c1_, fun k => if k = 0 then iS0 else iS1), ?_⟩
    intro k q hq
    match k, hq with
    | 0, hq => cases hq; exact hKn0
    | 1, hq => cases hq; exact hKn1
    | k + 2, hq => simp [z_cl] at hq
  obtain ⟨cA, kA, comp, hf1, hf2, hf3⟩ := Cond.arrayClass_spec (hts _ q77)
  have hK : va_K D z_cl [(cA, .int)] s := by
    refine ⟨hKc, fun k q hq => ?_⟩
    match k, hq with
    | 0, hq => cases hq; exact ⟨fun n z => ⟨fun k h => (by cases h), kA, hf2, comp, hf3⟩, hf1⟩
    | k + 1, hq => simp at hq
  have hS : va_S (fun q : Nat => s.heap.size ≤ q) s.heap s.heap [] := va_S.rf
  have hP : va_P D z_cl [] s.heap := fun k q h => by simp at h
  have hD : va_D (fun q : Nat => s.heap.size ≤ q) [] := ⟨fun i j p q h => by simp at h, fun k q h => by simp at h⟩
  have hl := lv_entry ([.ref b]) (n := 4) (Nat.le_of_ble_eq_true rfl)
  rw [lg_entry_eq]
  generalize (lg_sl ([.ref b]) ++ List.replicate (4 - (lg_sl ([.ref b])).length) Slot.unset).toArray = ls at hl ⊢
  have hl : lv_has ls 4 [(0, .ref b)] := hl
  refine va_new (ci := 0) (fs := [.int 0, .null, .null, .null, .null, .int 0, .null, .null, .null, .int 0, .int 0, .int 0, .int 0, .int 0, .null]) (C := RX0) (T := TX0) (N := 15) hx hb hts in_X0 tyX0 tyX0_ok hown (hts _ q23) (hts _ q24) (hts _ q21) hK hP hD hS hA rfl (fun j hj => by rcases (show j = 0 ∨ j = 1 ∨ j = 2 ∨ j = 3 ∨ j = 4 ∨ j = 5 ∨ j = 6 ∨ j = 7 ∨ j = 8 ∨ j = 9 ∨ j = 10 ∨ j = 11 ∨ j = 12 ∨ j = 13 ∨ j = 14 by omega) with rfl | rfl | rfl | rfl | rfl | rfl | rfl | rfl | rfl | rfl | rfl | rfl | rfl | rfl | rfl <;> rfl) (Nat.le_of_ble_eq_true rfl) (Nat.le_of_ble_eq_true rfl) dL_law_0 (fun q0v H hP hD hS => ?_)
  have hP : va_P D z_cl ([(q0v, .inr (0, [.int 0, .null, .null, .null, .null, .int 0, .null, .null, .null, .int 0, .int 0, .int 0, .int 0, .int 0, .null]))]) H := hP
  have hD : va_D (fun q : Nat => s.heap.size ≤ q) ([(q0v, .inr (0, [.int 0, .null, .null, .null, .null, .int 0, .null, .null, .null, .int 0, .int 0, .int 0, .int 0, .int 0, .null]))]) := hD
  refine W.widen (k := 1) (n := 15) (by decide) (by decide) ?_
  refine lv_dup hx hb dL_law_3 rfl ?_
  refine z_callnR (rest := [.ref q0v]) (wr := []) ⟨hx, hb, hml, hown, hts⟩ (zc_init l D cA H.size q0v) (cwI 0 hts (lw_meth q27) rfl rfl rfl (hts _ q21) (hts _ q25) (hts _ q26) rfl (by decide +kernel) ⟨Nat.le_of_ble_eq_true rfl, Nat.le_of_ble_eq_true rfl⟩) hK hP hD hS hA [0] [] rfl rfl rfl (by decide) (by decide) (by decide) hl.1 rfl (Nat.le_of_ble_eq_true rfl) dL_law_4 (Nat.le_of_ble_eq_true rfl) (Nat.le_of_ble_eq_true rfl) (fun h H locs hw hP hD hS => ?_)
  have hP : va_P D z_cl (z_w0 cA h (nI 0) (zn_F (fun _ => 0)) (zn_F (fun _ => 0)) (zn_F (fun _ => 0)) (zn_F (fun _ => 0)) (nI 0) (zn_F (fun _ => 0)) (fun _ => 0) (fun _ => 0) (nI 0) (nI 0) (nI 0) (nI 0) (nI 0) (zn_F (fun _ => 0))) H := hP
  have hD : va_D (fun q : Nat => s.heap.size ≤ q) (z_w0 cA h (nI 0) (zn_F (fun _ => 0)) (zn_F (fun _ => 0)) (zn_F (fun _ => 0)) (zn_F (fun _ => 0)) (nI 0) (zn_F (fun _ => 0)) (fun _ => 0) (fun _ => 0) (nI 0) (nI 0) (nI 0) (nI 0) (nI 0) (zn_F (fun _ => 0))) := hD
  have hw : h 0 = q0v := hw
  refine W.widen (k := 9) (n := 1095) (by decide) (by decide) ?_
  rw [← hw]
  refine lv_astore_n (lv' := [(1, .ref (h 0)), (0, .ref b)]) hx hb dL_law_7 rfl hl (by decide) rfl (fun ls hl => ?_)
  refine va_new (ci := 1) (fs := [.int 0, .null, .null, .null, .int 0, .int 0, .int 0, .int 0]) (C := RX1) (T := TX1) (N := 8) hx hb hts in_X1 tyX1 tyX1_ok hown (hts _ q177) (hts _ q178) (hts _ q22) hK hP hD hS hA rfl (fun j hj => by rcases (show j = 0 ∨ j = 1 ∨ j = 2 ∨ j = 3 ∨ j = 4 ∨ j = 5 ∨ j = 6 ∨ j = 7 by omega) with rfl | rfl | rfl | rfl | rfl | rfl | rfl | rfl <;> rfl) (Nat.le_of_ble_eq_true rfl) (Nat.le_of_ble_eq_true rfl) dL_law_8 (fun q1v H hP hD hS => ?_)
  have hP : va_P D z_cl (z_w0 cA h (nI 0) (zn_F (fun _ => 0)) (zn_F (fun _ => 0)) (zn_F (fun _ => 0)) (zn_F (fun _ => 0)) (nI 0) (zn_F (fun _ => 0)) (fun _ => 0) (fun _ => 0) (nI 0) (nI 0) (nI 0) (nI 0) (nI 0) (zn_F (fun _ => 0)) ++ [(q1v, .inr (1, [.int 0, .null, .null, .null, .int 0, .int 0, .int 0, .int 0]))]) H := hP
  have hD : va_D (fun q : Nat => s.heap.size ≤ q) (z_w0 cA h (nI 0) (zn_F (fun _ => 0)) (zn_F (fun _ => 0)) (zn_F (fun _ => 0)) (zn_F (fun _ => 0)) (nI 0) (zn_F (fun _ => 0)) (fun _ => 0) (fun _ => 0) (nI 0) (nI 0) (nI 0) (nI 0) (nI 0) (zn_F (fun _ => 0)) ++ [(q1v, .inr (1, [.int 0, .null, .null, .null, .int 0, .int 0, .int 0, .int 0]))]) := hD
  refine W.widen (k := 10) (n := 1103) (by decide) (by decide) ?_
  refine lv_dup hx hb dL_law_11 rfl ?_
  refine z_callnR (rest := [.ref q1v]) (wr := z_w0 cA h (nI 0) (zn_F (fun _ => 0)) (zn_F (fun _ => 0)) (zn_F (fun _ => 0)) (zn_F (fun _ => 0)) (nI 0) (zn_F (fun _ => 0)) (fun _ => 0) (fun _ => 0) (nI 0) (nI 0) (nI 0) (nI 0) (nI 0) (zn_F (fun _ => 0))) ⟨hx, hb, hml, hown, hts⟩ (zd_init l D cA H.size q1v) (cwI 0 hts (lw_meth q181) rfl rfl rfl (hts _ q22) (hts _ q179) (hts _ q180) rfl (by decide +kernel) ⟨Nat.le_of_ble_eq_true rfl, Nat.le_of_ble_eq_true rfl⟩) hK hP hD hS hA [9] [0, 1, 2, 3, 4, 5, 6, 7, 8] rfl rfl rfl (by decide) (by decide) (by decide) hl.1 rfl (Nat.le_of_ble_eq_true rfl) dL_law_12 (Nat.le_of_ble_eq_true rfl) (Nat.le_of_ble_eq_true rfl) (fun g H locs hw hP hD hS => ?_)
  have hP : va_P D z_cl (z_w0 cA h (nI 0) (zn_F (fun _ => 0)) (zn_F (fun _ => 0)) (zn_F (fun _ => 0)) (zn_F (fun _ => 0)) (nI 0) (zn_F (fun _ => 0)) (fun _ => 0) (fun _ => 0) (nI 0) (nI 0) (nI 0) (nI 0) (nI 0) (zn_F (fun _ => 0)) ++ z_w1 cA g (nI 0) (zn_F (fun _ => 0)) (fun _ => 0) (fun _ => 0) (nI 0) (nI 0) (nI 0) (nI 0)) H := hP
  have hD : va_D (fun q : Nat => s.heap.size ≤ q) (z_w0 cA h (nI 0) (zn_F (fun _ => 0)) (zn_F (fun _ => 0)) (zn_F (fun _ => 0)) (zn_F (fun _ => 0)) (nI 0) (zn_F (fun _ => 0)) (fun _ => 0) (fun _ => 0) (nI 0) (nI 0) (nI 0) (nI 0) (nI 0) (zn_F (fun _ => 0)) ++ z_w1 cA g (nI 0) (zn_F (fun _ => 0)) (fun _ => 0) (fun _ => 0) (nI 0) (nI 0) (nI 0) (nI 0)) := hD
  have hw : g 0 = q1v := hw
  refine W.widen (k := 13) (n := 1175) (by decide) (by decide) ?_
  rw [← hw]
  refine lv_astore_n (lv' := [(2, .ref (g 0)), (1, .ref (h 0)), (0, .ref b)]) hx hb dL_law_15 rfl hl (by decide) rfl (fun ls hl => ?_)
  refine lv_iconst (v := nI 0) hx hb dL_law_16 (by decide) ?_
  refine lv_istore_n (lv' := [(3, .int (nI 0)), (2, .ref (g 0)), (1, .ref (h 0)), (0, .ref b)]) hx hb dL_law_17 rfl hl (by decide) rfl (fun ls hl => ?_)
  exact zl_loop hL C1 hK h g (L + 4) 0 (Nat.zero_le _) (by omega) 0 (fun _ => 0) (fun _ => 0) (fun _ => 0) (fun _ => 0) 0 (fun _ => 0) (fun _ => 0) (fun _ => 0) (fun _ => 0) (nI 0) (nI 0) (nI 0) (nI 0) 0 (fun _ => 0) (nI 0) (nI 0) z_I_0 (fun _ => Nat.zero_lt_succ 7) _ _ hP hD hS ls (lv_sub hl [3, 2, 1, 0] rfl)
end
section
set_option maxHeartbeats 4000000 in
theorem lw_walk (l : Launch) (b : Addr) (xs : List Int32) : MetFree l x (headSpec (Jvm.Cond.code x code maxLocals ret :: tables_1) room_1) (lw_P b xs) (fun _ _ _ _ _ => True) lw_Q := by
  refine MetFree.of_bodyS (code := code) (maxLocals := maxLocals) (ret := ret) (by decide) ?_ ?_
  · intro args s m h hn
    obtain ⟨meth, c, h1, h2, h3, h4, h5, h6, -, -⟩ := Cond.code_spec hn (atoms_spec (ws := Jvm.Cond.code x code maxLocals ret :: tables_1) h _ List.mem_cons_self)
    exact ⟨meth, c, h1, h2, h3, h4, h5, h6⟩
  · intro p e s m args below meth c s₁ B hml0 hP _
    obtain ⟨rfl, hx, hbd, hgv⟩ := hP
    obtain ⟨scr, harrAt, hlist, hof, hsmall⟩ := hx
    obtain ⟨hcb, hkn, -, -⟩ := State.arrayAt?_spec harrAt
    have hown : s.vm.findClass R_law = some m.cls := findClass_of_methodNamed B.named
    have hts0 : ∀ c ∈ (Jvm.Cond.code x code maxLocals ret :: tables_1), c.before #[Value.ref b] s = true := atoms_spec (ws := Jvm.Cond.code x code maxLocals ret :: tables_1) B.pre
    have hts : ∀ w ∈ lw_tbl, w.before #[Value.ref b] s = true := k2_hts_sels lw_privs (fun w hw => hts0 w (List.mem_cons_of_mem _ hw)) lw_privs_ok
    have hml : c.maxLocals = 4 := B.maxLocals_eq (hts0 _ List.mem_cons_self)
    have X₀ : Stand p l e room_1 s m #[Value.ref b] below meth c s₁ [] 0 0 := Stand.of_body B
    have hh0 : s₁.heap = s.heap := by rw [B.state]; rfl
    have hsz : scr.slots.size = xs.length := by rw [← Array.length_toList, hlist, List.length_map]
    have hval : ∀ j : Nat, j < xs.length → scr.slots[j]? = some (.int (xs.getD j 0)) := fun j hj => by
      rw [← Array.getElem?_toList, hlist]
      simp [hj]
    have hbl : b < s.heap.size := (Array.getElem?_eq_some_iff.mp hcb).1
    have hX : va_X b xs.length (fun j => xs.getD j 0) s s.heap := ⟨scr, hcb, hof, hkn, hsz, hval⟩
    have K : W p l e room_1 s m #[Value.ref b] below meth c s₁.heap [] 0 0 (lw_Z below #[Value.ref b] s) (entryFrame m ([Value.ref b] : List Value).toArray 4) := by
      rw [hh0]
      exact whole_start l hbd ⟨B.exec, B.bytes, B.returns, hml, hown, hts, hX, hbl, B.notSynchronized, hgv⟩
    obtain ⟨t, a1, o, b1, b2, b3⟩ := K s₁ rfl X₀
    exact ⟨t, o, a1, b1, b2, b3⟩
theorem lw_pre_spec {args : Array Value} {s : State} (h : (Jvm.Cond.and given_1 narrow_1).before args s = true) (hr : rest_1_c.before args s = true) : ∃ (b : Addr) (xs : List Int32), lw_P b xs args s := by
  have hs := flat_of_before _ h
  have hq := flat_of_before _ hr
  have hc : (Cond.count 1).before args s = true := hs _ (by decide +kernel)
  have harr : (Cond.arrayOf (.arg 0) .int).before args s = true := hs _ (by decide +kernel)
  have hle : (Cond.le (.length (.arg 0)) (.int 192)).before args s = true := hs _ (by decide +kernel)
  have hlen : (Cond.isInt (.length (.arg 0))).before args s = true := hq _ (by decide +kernel)
  have hall : (Cond.all (.arg 0) (.isInt (.elem (.arg 0) (.index 0)))).before args s = true := hq _ (by decide +kernel)
  obtain ⟨b, xs, hb, hx⟩ := State.ints_of_pre rfl harr hlen hall
  have hsm : xs.length < 2 ^ 31 := hx.choose_spec.2.2.2
  have hev : (Term.length (.arg 0)).eval args s none [] s = some (.int xs.length.toInt32) := hx.length_eval hb
  have hv := Cond.le_ints hev (show (Term.int 192).eval args s none [] s = some (.int 192) from rfl)
  have hd : xs.length.toInt32 ≤ 192 := by
    simpa [Cond.before, Cond.holds, hv] using hle
  have hN : xs.length ≤ 192 := (Int32.ofNat_le_ofNat hsm (by decide)).mp (show Int32.ofNat xs.length ≤ Int32.ofNat 192 from hd)
  exact ⟨b, xs, Cond.one_arg hc (show args[0]? = some (.ref b) from hb), hx, hN, h⟩
theorem lw_comes (l : Launch) : Comes l x (Jvm.Cond.code x code maxLocals ret :: tables_1) room_1 (fun tb e args s => Calls_1 tb e args s ∧ rest_1 tb e args s ∧ Pre_1 tb e args s)
    (fun _ _ args s o t => lw_Q args s o t) := by
  intro p e ha hc hk s m args below hf hfit hheap happ hpre
  obtain ⟨b, xs, hP⟩ := lw_pre_spec hpre.2.2 hpre.2.1
  obtain ⟨k, o, h1, h2, h3, hQ⟩ := lw_walk l b xs p e ha hc hk s m args below hf ((Spec.applies_iff_loose hf).mp happ).1 hP trivial
  exact ⟨k, o, h1, h2, h3, hQ⟩
theorem lw_frame {s t : State} {o : Outcome} {args : Array Value} (h : Framed s o t [] 600000 7290000) :
    Framed s o t (fieldLocs frame_1_writes args s ++ arrayLocs frame_1_arrays args s ++ staticLocs frame_1_statics s) 600000 7290000 := h
theorem lw_limb (L : Cond) (hL : ∀ (args : Array Value) (s t : State), L.after args s (.returned (some (.int 1))) t = true) :
    ArmFor flags0 classFile x code maxLocals ret World_1 tables_1 room_1 Calls_1 rest_1 Pre_1
      (fun tb e a s o t => postC L tb e a s o t ∧ Framed s o t (fieldLocs frame_1_writes a s ++ arrayLocs frame_1_arrays a s ++ staticLocs frame_1_statics s) 600000 7290000) := by
  intro l _ _ _ p e ha hc hk s m args below hf hfit hheap happ hpre
  obtain ⟨k, o, h1, h2, h3, rfl, hF⟩ := lw_comes l p e ha hc hk s m args below hf hfit hheap happ hpre
  exact ⟨k, _, h1, h2, h3, hL args s _, lw_frame hF⟩
theorem i_vc : Claimed_1_1 ∧ Claimed_1_2 := ⟨lw_limb limb_1_1 (fun args s t => by simp [limb_1_1, Cond.after, Cond.holds, Cond.value]), lw_limb limb_1_2 (fun args s t => Cond.after_iff.mpr (by
  first | (rw [show limb_1_2 = Cond.eq .result (.int 1) from rfl, Cond.eq_ints (x := 1) (y := 1) rfl rfl]; simp; done) | (simp [limb_1_2, Cond.value, Term.eval]; done)))⟩
end
