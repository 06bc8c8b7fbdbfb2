section
-- ===== PART A: goes FIRST, ahead of the names: the tables' words, and 'selects' of the private methods out of them =====
/-- a private method of a class that the tables say can be made, by its rows of tables_1 -/
def lw_okq (q : MethodName × Nat) : Prop := (q.1.cls ≠ "java/lang/invoke/MethodHandle" ∧ q.1.cls ≠ "java/lang/invoke/VarHandle") ∧ Cond.instantiable q.1.cls q.2 ∈ tables_1 ∧ Cond.privateMethod q.1 ∈ tables_1 ∧ Cond.instanceMethod q.1 ∈ tables_1
set_option maxRecDepth 100000
theorem lw_p0 : lw_okq (⟨"RelationTuples", "isPerson", "(I)Z"⟩, 14) := ⟨⟨by decide +kernel, by decide +kernel⟩, List.mem_of_getElem? (i := 4) rfl, List.mem_of_getElem? (i := 62) rfl, List.mem_of_getElem? (i := 63) rfl⟩
theorem lw_p1 : lw_okq (⟨"RelationTuples", "isGroup", "(I)Z"⟩, 14) := ⟨⟨by decide +kernel, by decide +kernel⟩, List.mem_of_getElem? (i := 4) rfl, List.mem_of_getElem? (i := 66) rfl, List.mem_of_getElem? (i := 67) rfl⟩
theorem lw_p2 : lw_okq (⟨"RelationTuples", "load", "(I)V"⟩, 14) := ⟨⟨by decide +kernel, by decide +kernel⟩, List.mem_of_getElem? (i := 4) rfl, List.mem_of_getElem? (i := 70) rfl, List.mem_of_getElem? (i := 71) rfl⟩
theorem lw_p3 : lw_okq (⟨"RelationTuples", "make", "(IZ)V"⟩, 14) := ⟨⟨by decide +kernel, by decide +kernel⟩, List.mem_of_getElem? (i := 4) rfl, List.mem_of_getElem? (i := 74) rfl, List.mem_of_getElem? (i := 75) rfl⟩
theorem lw_p4 : lw_okq (⟨"RelationTuples", "noteChange", "(IIIZZ)V"⟩, 14) := ⟨⟨by decide +kernel, by decide +kernel⟩, List.mem_of_getElem? (i := 4) rfl, List.mem_of_getElem? (i := 78) rfl, List.mem_of_getElem? (i := 79) rfl⟩
theorem lw_p5 : lw_okq (⟨"RelationTuples", "isState", "(I)Z"⟩, 14) := ⟨⟨by decide +kernel, by decide +kernel⟩, List.mem_of_getElem? (i := 4) rfl, List.mem_of_getElem? (i := 98) rfl, List.mem_of_getElem? (i := 99) rfl⟩
theorem lw_p6 : lw_okq (⟨"RelationTuples", "isKept", "(I)Z"⟩, 14) := ⟨⟨by decide +kernel, by decide +kernel⟩, List.mem_of_getElem? (i := 4) rfl, List.mem_of_getElem? (i := 102) rfl, List.mem_of_getElem? (i := 103) rfl⟩
theorem lw_p7 : lw_okq (⟨"RelationTuples", "membersOf", "(I)I"⟩, 14) := ⟨⟨by decide +kernel, by decide +kernel⟩, List.mem_of_getElem? (i := 4) rfl, List.mem_of_getElem? (i := 106) rfl, List.mem_of_getElem? (i := 107) rfl⟩
theorem lw_p8 : lw_okq (⟨"RelationTuples", "sourcesTo", "(I)I"⟩, 14) := ⟨⟨by decide +kernel, by decide +kernel⟩, List.mem_of_getElem? (i := 4) rfl, List.mem_of_getElem? (i := 110) rfl, List.mem_of_getElem? (i := 111) rfl⟩
theorem lw_p9 : lw_okq (⟨"RelationTuples", "byRules", "(I)I"⟩, 14) := ⟨⟨by decide +kernel, by decide +kernel⟩, List.mem_of_getElem? (i := 4) rfl, List.mem_of_getElem? (i := 115) rfl, List.mem_of_getElem? (i := 116) rfl⟩
theorem lw_p10 : lw_okq (⟨"RelationTuplesModel", "isPerson", "(I)Z"⟩, 5) := ⟨⟨by decide +kernel, by decide +kernel⟩, List.mem_of_getElem? (i := 140) rfl, List.mem_of_getElem? (i := 166) rfl, List.mem_of_getElem? (i := 167) rfl⟩
theorem lw_p11 : lw_okq (⟨"RelationTuplesModel", "isGroup", "(I)Z"⟩, 5) := ⟨⟨by decide +kernel, by decide +kernel⟩, List.mem_of_getElem? (i := 140) rfl, List.mem_of_getElem? (i := 170) rfl, List.mem_of_getElem? (i := 171) rfl⟩
theorem lw_p12 : lw_okq (⟨"RelationTuplesModel", "next", "()I"⟩, 5) := ⟨⟨by decide +kernel, by decide +kernel⟩, List.mem_of_getElem? (i := 140) rfl, List.mem_of_getElem? (i := 174) rfl, List.mem_of_getElem? (i := 175) rfl⟩
theorem lw_p13 : lw_okq (⟨"RelationTuplesModel", "with", "(IIZ)I"⟩, 5) := ⟨⟨by decide +kernel, by decide +kernel⟩, List.mem_of_getElem? (i := 140) rfl, List.mem_of_getElem? (i := 178) rfl, List.mem_of_getElem? (i := 179) rfl⟩
theorem lw_p14 : lw_okq (⟨"RelationTuplesModel", "exists", "(I)Z"⟩, 5) := ⟨⟨by decide +kernel, by decide +kernel⟩, List.mem_of_getElem? (i := 140) rfl, List.mem_of_getElem? (i := 198) rfl, List.mem_of_getElem? (i := 199) rfl⟩
theorem lw_p15 : lw_okq (⟨"RelationTuplesModel", "isKept", "(I)Z"⟩, 5) := ⟨⟨by decide +kernel, by decide +kernel⟩, List.mem_of_getElem? (i := 140) rfl, List.mem_of_getElem? (i := 202) rfl, List.mem_of_getElem? (i := 203) rfl⟩
def lw_privs_1 : List (MethodName × Nat) := [(⟨"RelationTuples", "isPerson", "(I)Z"⟩, 14), (⟨"RelationTuples", "isGroup", "(I)Z"⟩, 14), (⟨"RelationTuples", "load", "(I)V"⟩, 14), (⟨"RelationTuples", "make", "(IZ)V"⟩, 14), (⟨"RelationTuples", "noteChange", "(IIIZZ)V"⟩, 14), (⟨"RelationTuples", "isState", "(I)Z"⟩, 14), (⟨"RelationTuples", "isKept", "(I)Z"⟩, 14), (⟨"RelationTuples", "membersOf", "(I)I"⟩, 14), (⟨"RelationTuples", "sourcesTo", "(I)I"⟩, 14), (⟨"RelationTuples", "byRules", "(I)I"⟩, 14), (⟨"RelationTuplesModel", "isPerson", "(I)Z"⟩, 5), (⟨"RelationTuplesModel", "isGroup", "(I)Z"⟩, 5), (⟨"RelationTuplesModel", "next", "()I"⟩, 5), (⟨"RelationTuplesModel", "with", "(IIZ)I"⟩, 5), (⟨"RelationTuplesModel", "exists", "(I)Z"⟩, 5), (⟨"RelationTuplesModel", "isKept", "(I)Z"⟩, 5)]
theorem lw_r1 : ∀ q ∈ lw_privs_1, lw_okq q := List.forall_mem_cons.mpr ⟨lw_p0, List.forall_mem_cons.mpr ⟨lw_p1, List.forall_mem_cons.mpr ⟨lw_p2, List.forall_mem_cons.mpr ⟨lw_p3, List.forall_mem_cons.mpr ⟨lw_p4, List.forall_mem_cons.mpr ⟨lw_p5, List.forall_mem_cons.mpr ⟨lw_p6, List.forall_mem_cons.mpr ⟨lw_p7, List.forall_mem_cons.mpr ⟨lw_p8, List.forall_mem_cons.mpr ⟨lw_p9, List.forall_mem_cons.mpr ⟨lw_p10, List.forall_mem_cons.mpr ⟨lw_p11, List.forall_mem_cons.mpr ⟨lw_p12, List.forall_mem_cons.mpr ⟨lw_p13, List.forall_mem_cons.mpr ⟨lw_p14, List.forall_mem_cons.mpr ⟨lw_p15, fun _ h => absurd h List.not_mem_nil⟩⟩⟩⟩⟩⟩⟩⟩⟩⟩⟩⟩⟩⟩⟩⟩
theorem lw_p16 : lw_okq (⟨"RelationTuplesModel", "addAll", "(I)V"⟩, 5) := ⟨⟨by decide +kernel, by decide +kernel⟩, List.mem_of_getElem? (i := 140) rfl, List.mem_of_getElem? (i := 206) rfl, List.mem_of_getElem? (i := 207) rfl⟩
theorem lw_p17 : lw_okq (⟨"RelationTuplesModel", "passes", "(III)Z"⟩, 5) := ⟨⟨by decide +kernel, by decide +kernel⟩, List.mem_of_getElem? (i := 140) rfl, List.mem_of_getElem? (i := 210) rfl, List.mem_of_getElem? (i := 211) rfl⟩
theorem lw_p18 : lw_okq (⟨"RelationTuplesModel", "in", "(II)Z"⟩, 5) := ⟨⟨by decide +kernel, by decide +kernel⟩, List.mem_of_getElem? (i := 140) rfl, List.mem_of_getElem? (i := 214) rfl, List.mem_of_getElem? (i := 215) rfl⟩
def lw_privs_2 : List (MethodName × Nat) := [(⟨"RelationTuplesModel", "addAll", "(I)V"⟩, 5), (⟨"RelationTuplesModel", "passes", "(III)Z"⟩, 5), (⟨"RelationTuplesModel", "in", "(II)Z"⟩, 5)]
theorem lw_r2 : ∀ q ∈ lw_privs_2, lw_okq q := List.forall_mem_cons.mpr ⟨lw_p16, List.forall_mem_cons.mpr ⟨lw_p17, List.forall_mem_cons.mpr ⟨lw_p18, fun _ h => absurd h List.not_mem_nil⟩⟩⟩
def lw_privs : List (MethodName × Nat) := lw_privs_1 ++ (lw_privs_2)
def lw_tbl : List Cond := k2_sels lw_privs ++ tables_1
theorem lw_privs_ok : ∀ q ∈ lw_privs, lw_okq q := by
  show ∀ q ∈ lw_privs_1 ++ (lw_privs_2), lw_okq q
  exact List.forall_mem_append.mpr ⟨lw_r1, lw_r2⟩
-- ===== ONE list of words for every method: the tables' words that hold all through a run =====
def lw_all : List Cond := lw_tbl.filter goodWord
/-- a word of the tables by its place: claim/WORDS.tsv -/
theorem lw_w {w : Cond} (i : Nat) (h : lw_tbl[i]? = some w) (g : goodWord w = true) : w ∈ lw_all := List.mem_filter.mpr ⟨List.mem_of_getElem? h, g⟩
theorem lw_all_tbl {w : Cond} (h : w ∈ lw_all) : w ∈ lw_tbl := (List.mem_filter.mp h).1
theorem lw_self : GoodIn lw_all lw_all := fun w h => ⟨h, good_of_word (List.mem_filter.mp h).2⟩
/-- a class's field words, by their places -/
theorem lw_in (ws : List Cond) (ps : List Nat) (hp : ws = ps.filterMap (fun i => lw_tbl[i]?)) (hg : ws.all goodWord = true) : ∀ w ∈ ws, w ∈ lw_all := by
  intro w h
  have h1 := List.all_eq_true.mp hg w h
  rw [hp] at h
  obtain ⟨i, -, hi⟩ := List.mem_filterMap.mp h
  exact lw_w i hi h1
/-- the words of a contract for the method y with code b, L locals, answer r -/
abbrev ws_ (y : MethodName) (b : ByteArray) (L : Nat) (r : Option FieldType) : List Cond := Cond.code y b L r :: lw_all
theorem lw_meth {y : MethodName} {b : ByteArray} {L : Nat} {r : Option FieldType} (h : Cond.code y b L r ∈ lw_all) : GoodIn lw_all (ws_ y b L r) := by
  intro w hw
  rcases List.mem_cons.mp hw with e | e
  · rw [e]
    exact lw_self _ h
  · exact lw_self _ e
theorem lw_app {a c : List Cond} (ha : ∀ w ∈ a, w ∈ lw_all) (hc : GoodIn lw_all c) : GoodIn lw_all (a ++ c) := by
  intro w hw
  rcases List.mem_append.mp hw with e | e
  · exact lw_self w (ha w e)
  · exact hc w e
/-- what a call through an object asks: cwV n hts (lw_V ..) -/
theorem lw_V {own : String} {idx : Nat} {C : String} {y : MethodName} {b : ByteArray} {L : Nat} {r : Option FieldType} (h1 : Cond.methodLink own idx y ∈ lw_all) (h2 : Cond.instanceMethod y ∈ lw_all) (h3 : Cond.selects C y y ∈ lw_all) (h4 : Cond.initialized C ∈ lw_all) (h5 : Cond.code y b L r ∈ lw_all) : GoodIn lw_all (wsV own idx C y (ws_ y b L r)) := by
  refine lw_app ?_ (lw_meth h5)
  intro w hw
  simp only [List.mem_cons, List.not_mem_nil, or_false] at hw
  rcases hw with e | e | e | e
  · rw [e]; exact h1
  · rw [e]; exact h2
  · rw [e]; exact h3
  · rw [e]; exact h4
/-- what a static call asks: va_cwS n hts (lw_S ..) -/
theorem lw_S {own : String} {idx : Nat} {y : MethodName} {b : ByteArray} {L : Nat} {r : Option FieldType} (h1 : Cond.methodLink own idx y ∈ lw_all) (h2 : Cond.static y ∈ lw_all) (h3 : Cond.initialized y.cls ∈ lw_all) (h4 : Cond.code y b L r ∈ lw_all) : GoodIn lw_all (va_wsS own idx y (ws_ y b L r)) := by
  refine lw_app ?_ (lw_meth h4)
  intro w hw
  simp only [List.mem_cons, List.not_mem_nil, or_false] at hw
  rcases hw with e | e | e
  · rw [e]; exact h1
  · rw [e]; exact h2
  · rw [e]; exact h3
/-- the words of a contract for a method WITH HANDLERS (hh: its table) -/
abbrev wsW_ (y : MethodName) (b : ByteArray) (L : Nat) (r : Option FieldType) (hh : List (Nat × Nat × Nat × Nat)) : List Cond := Cond.codeWith y b L r hh :: lw_all
theorem lw_methW {y : MethodName} {b : ByteArray} {L : Nat} {r : Option FieldType} {hh : List (Nat × Nat × Nat × Nat)} (h : Cond.codeWith y b L r hh ∈ lw_all) : GoodIn lw_all (wsW_ y b L r hh) := by
  intro w hw
  rcases List.mem_cons.mp hw with e | e
  · rw [e]
    exact lw_self _ h
  · exact lw_self _ e
/-- any list of words by their places (lw_in), good -/
theorem lw_good {ws : List Cond} (h : ∀ w ∈ ws, w ∈ lw_all) : GoodIn lw_all ws := fun w hw => lw_self w (h w hw)
/-- what a call of a method with handlers asks: vx_cwVW n hts (lw_VW ..), vx_cwSW n hts (lw_SW ..) -/
theorem lw_VW {own : String} {idx : Nat} {C : String} {y : MethodName} {b : ByteArray} {L : Nat} {r : Option FieldType} {hh : List (Nat × Nat × Nat × Nat)} (h1 : Cond.methodLink own idx y ∈ lw_all) (h2 : Cond.instanceMethod y ∈ lw_all) (h3 : Cond.selects C y y ∈ lw_all) (h4 : Cond.initialized C ∈ lw_all) (h5 : Cond.codeWith y b L r hh ∈ lw_all) : GoodIn lw_all (wsV own idx C y (wsW_ y b L r hh)) := by
  refine lw_app ?_ (lw_methW h5)
  intro w hw
  simp only [List.mem_cons, List.not_mem_nil, or_false] at hw
  rcases hw with e | e | e | e
  · rw [e]; exact h1
  · rw [e]; exact h2
  · rw [e]; exact h3
  · rw [e]; exact h4
theorem lw_SW {own : String} {idx : Nat} {y : MethodName} {b : ByteArray} {L : Nat} {r : Option FieldType} {hh : List (Nat × Nat × Nat × Nat)} (h1 : Cond.methodLink own idx y ∈ lw_all) (h2 : Cond.static y ∈ lw_all) (h3 : Cond.initialized y.cls ∈ lw_all) (h4 : Cond.codeWith y b L r hh ∈ lw_all) : GoodIn lw_all (va_wsS own idx y (wsW_ y b L r hh)) := by
  refine lw_app ?_ (lw_methW h4)
  intro w hw
  simp only [List.mem_cons, List.not_mem_nil, or_false] at hw
  rcases hw with e | e | e
  · rw [e]; exact h1
  · rw [e]; exact h2
  · rw [e]; exact h3
/-- a word by its place in its run of the tables -/
theorem lw_at {r : List Cond} (hr : ∀ w ∈ r, w ∈ lw_tbl) {w : Cond} (i : Nat) (h : r[i]? = some w) : w ∈ lw_tbl := hr w (List.mem_of_getElem? h)
theorem lw_g {w : Cond} (h : w ∈ lw_tbl) (g : goodWord w = true) : w ∈ lw_all := List.mem_filter.mpr ⟨h, g⟩
theorem lw_ms : ∀ w ∈ k2_sels lw_privs, w ∈ lw_tbl := fun w h => show w ∈ k2_sels lw_privs ++ tables_1 from List.mem_append_left _ h
theorem lw_m0 : ∀ w ∈ tables_1, w ∈ lw_tbl := fun w h => show w ∈ k2_sels lw_privs ++ tables_1 from List.mem_append_right (k2_sels lw_privs) h
theorem qs0 : (Cond.selects "RelationTuples" ⟨"RelationTuples", "isPerson", "(I)Z"⟩ ⟨"RelationTuples", "isPerson", "(I)Z"⟩) ∈ lw_all := lw_g (lw_at lw_ms 0 rfl) rfl
theorem qs1 : (Cond.selects "RelationTuples" ⟨"RelationTuples", "isGroup", "(I)Z"⟩ ⟨"RelationTuples", "isGroup", "(I)Z"⟩) ∈ lw_all := lw_g (lw_at lw_ms 1 rfl) rfl
theorem qs2 : (Cond.selects "RelationTuples" ⟨"RelationTuples", "load", "(I)V"⟩ ⟨"RelationTuples", "load", "(I)V"⟩) ∈ lw_all := lw_g (lw_at lw_ms 2 rfl) rfl
theorem qs3 : (Cond.selects "RelationTuples" ⟨"RelationTuples", "make", "(IZ)V"⟩ ⟨"RelationTuples", "make", "(IZ)V"⟩) ∈ lw_all := lw_g (lw_at lw_ms 3 rfl) rfl
theorem qs4 : (Cond.selects "RelationTuples" ⟨"RelationTuples", "noteChange", "(IIIZZ)V"⟩ ⟨"RelationTuples", "noteChange", "(IIIZZ)V"⟩) ∈ lw_all := lw_g (lw_at lw_ms 4 rfl) rfl
theorem qs5 : (Cond.selects "RelationTuples" ⟨"RelationTuples", "isState", "(I)Z"⟩ ⟨"RelationTuples", "isState", "(I)Z"⟩) ∈ lw_all := lw_g (lw_at lw_ms 5 rfl) rfl
theorem qs6 : (Cond.selects "RelationTuples" ⟨"RelationTuples", "isKept", "(I)Z"⟩ ⟨"RelationTuples", "isKept", "(I)Z"⟩) ∈ lw_all := lw_g (lw_at lw_ms 6 rfl) rfl
theorem qs7 : (Cond.selects "RelationTuples" ⟨"RelationTuples", "membersOf", "(I)I"⟩ ⟨"RelationTuples", "membersOf", "(I)I"⟩) ∈ lw_all := lw_g (lw_at lw_ms 7 rfl) rfl
theorem qs8 : (Cond.selects "RelationTuples" ⟨"RelationTuples", "sourcesTo", "(I)I"⟩ ⟨"RelationTuples", "sourcesTo", "(I)I"⟩) ∈ lw_all := lw_g (lw_at lw_ms 8 rfl) rfl
theorem qs9 : (Cond.selects "RelationTuples" ⟨"RelationTuples", "byRules", "(I)I"⟩ ⟨"RelationTuples", "byRules", "(I)I"⟩) ∈ lw_all := lw_g (lw_at lw_ms 9 rfl) rfl
theorem qs10 : (Cond.selects "RelationTuplesModel" ⟨"RelationTuplesModel", "isPerson", "(I)Z"⟩ ⟨"RelationTuplesModel", "isPerson", "(I)Z"⟩) ∈ lw_all := lw_g (lw_at lw_ms 10 rfl) rfl
theorem qs11 : (Cond.selects "RelationTuplesModel" ⟨"RelationTuplesModel", "isGroup", "(I)Z"⟩ ⟨"RelationTuplesModel", "isGroup", "(I)Z"⟩) ∈ lw_all := lw_g (lw_at lw_ms 11 rfl) rfl
theorem qs12 : (Cond.selects "RelationTuplesModel" ⟨"RelationTuplesModel", "next", "()I"⟩ ⟨"RelationTuplesModel", "next", "()I"⟩) ∈ lw_all := lw_g (lw_at lw_ms 12 rfl) rfl
theorem qs13 : (Cond.selects "RelationTuplesModel" ⟨"RelationTuplesModel", "with", "(IIZ)I"⟩ ⟨"RelationTuplesModel", "with", "(IIZ)I"⟩) ∈ lw_all := lw_g (lw_at lw_ms 13 rfl) rfl
theorem qs14 : (Cond.selects "RelationTuplesModel" ⟨"RelationTuplesModel", "exists", "(I)Z"⟩ ⟨"RelationTuplesModel", "exists", "(I)Z"⟩) ∈ lw_all := lw_g (lw_at lw_ms 14 rfl) rfl
theorem qs15 : (Cond.selects "RelationTuplesModel" ⟨"RelationTuplesModel", "isKept", "(I)Z"⟩ ⟨"RelationTuplesModel", "isKept", "(I)Z"⟩) ∈ lw_all := lw_g (lw_at lw_ms 15 rfl) rfl
theorem qs16 : (Cond.selects "RelationTuplesModel" ⟨"RelationTuplesModel", "addAll", "(I)V"⟩ ⟨"RelationTuplesModel", "addAll", "(I)V"⟩) ∈ lw_all := lw_g (lw_at lw_ms 16 rfl) rfl
theorem qs17 : (Cond.selects "RelationTuplesModel" ⟨"RelationTuplesModel", "passes", "(III)Z"⟩ ⟨"RelationTuplesModel", "passes", "(III)Z"⟩) ∈ lw_all := lw_g (lw_at lw_ms 17 rfl) rfl
theorem qs18 : (Cond.selects "RelationTuplesModel" ⟨"RelationTuplesModel", "in", "(II)Z"⟩ ⟨"RelationTuplesModel", "in", "(II)Z"⟩) ∈ lw_all := lw_g (lw_at lw_ms 18 rfl) rfl
end
section
/-! bits: the family bt of BITS.to-paste (kit/laws), then rows on sets of bits and on states, ours -/
def bt (x : Int32) (i : Nat) : Bool := x.toBitVec.getLsbD i
theorem b_ext {x y : Int32} (h : ∀ i, i < 32 → bt x i = bt y i) : x = y := Int32.toBitVec_inj.mp (BitVec.eq_of_getLsbD_eq (fun i hi => h i hi))
theorem b_or (x y : Int32) (i : Nat) : bt (x ||| y) i = (bt x i || bt y i) := by unfold bt; rw [Int32.toBitVec_or, BitVec.getLsbD_or]
theorem b_and (x y : Int32) (i : Nat) : bt (x &&& y) i = (bt x i && bt y i) := by unfold bt; rw [Int32.toBitVec_and, BitVec.getLsbD_and]
theorem b_xor (x y : Int32) (i : Nat) : bt (x ^^^ y) i = (bt x i ^^ bt y i) := by unfold bt; rw [Int32.toBitVec_xor, BitVec.getLsbD_xor]
theorem b_big {x : Int32} {i : Nat} (h : 32 ≤ i) : bt x i = false := BitVec.getLsbD_of_ge _ _ h
theorem b_255 (i : Nat) : bt 255 i = decide (i < 8) := by
  rcases Nat.lt_or_ge i 32 with h | h
  · exact (by decide +kernel : ∀ i, i < 32 → bt 255 i = decide (i < 8)) i h
  · rw [b_big h, decide_eq_false (by omega)]
theorem b_65535 (i : Nat) : bt 65535 i = decide (i < 16) := by
  rcases Nat.lt_or_ge i 32 with h | h
  · exact (by decide +kernel : ∀ i, i < 32 → bt 65535 i = decide (i < 16)) i h
  · rw [b_big h, decide_eq_false (by omega)]
theorem b_m1 : ∀ i, i < 32 → bt (-1) i = true := by decide +kernel
theorem b_0 (i : Nat) : bt 0 i = false := BitVec.getLsbD_zero
theorem s_l : ∀ n, n < 32 → ((nI n &&& 31).toBitVec.smod 32).toNat = n := by decide +kernel
theorem s_u : ∀ n, n < 32 → (((nI n).toUInt32 &&& Int32.toUInt32 31).toBitVec % 32).toNat = n := by decide +kernel
theorem b_shl (n : Nat) (hn : n < 32) (x : Int32) {i : Nat} (hi : i < 32) : bt (x <<< (nI n &&& 31)) i = (decide (n ≤ i) && bt x (i - n)) := by
  unfold bt
  rw [Int32.toBitVec_shiftLeft]
  show (x.toBitVec <<< ((nI n &&& 31).toBitVec.smod 32).toNat).getLsbD i = _
  rw [s_l n hn, BitVec.getLsbD_shiftLeft]
  rcases Nat.lt_or_ge i n with h | h
  · simp [h, Nat.not_le.mpr h]
  · simp [hi, h, Nat.not_lt.mpr h]
theorem b_ushr (n : Nat) (hn : n < 32) (x : Int32) (i : Nat) : bt ((x.toUInt32 >>> ((nI n).toUInt32 &&& Int32.toUInt32 31)).toInt32) i = bt x (n + i) := by
  show (x.toUInt32 >>> ((nI n).toUInt32 &&& Int32.toUInt32 31)).toBitVec.getLsbD i = x.toUInt32.toBitVec.getLsbD (n + i)
  rw [UInt32.toBitVec_shiftRight]
  show (x.toUInt32.toBitVec >>> (((nI n).toUInt32 &&& Int32.toUInt32 31).toBitVec % 32).toNat).getLsbD i = _
  rw [s_u n hn, BitVec.getLsbD_ushiftRight]
theorem b_sshr (n : Nat) (hn : n < 32) (x : Int32) {i : Nat} (hi : i < 32) : bt (x >>> (nI n &&& 31)) i = if n + i < 32 then bt x (n + i) else bt x 31 := by
  unfold bt
  rw [Int32.toBitVec_shiftRight]
  show (x.toBitVec.sshiftRight ((nI n &&& 31).toBitVec.smod 32).toNat).getLsbD i = _
  rw [s_l n hn, BitVec.getLsbD_sshiftRight, BitVec.msb_eq_getLsbD_last]
  simp [hi]
def rt_b (b : Bool) : Int32 := if b then nI 1 else nI 0
theorem rt_n0 : nI 0 = 0 := by decide
theorem rt_n1 : nI 1 = 1 := by decide
theorem rt_b_0 {b : Bool} : rt_b b = 0 ↔ b = false := by cases b <;> decide
theorem rt_b_1 {b : Bool} : rt_b b = nI 1 ↔ b = true := by cases b <;> decide
theorem rt_b_inj {a b : Bool} : rt_b a = rt_b b ↔ a = b := by cases a <;> cases b <;> decide
theorem rt_bt1 : ∀ i, i < 32 → bt (nI 1) i = decide (i = 0) := by decide +kernel
theorem rt_btb (b : Bool) {i : Nat} (hi : i < 32) : bt (rt_b b) i = (b && decide (i = 0)) := by
  cases b
  · rw [show rt_b false = 0 by decide, b_0]; rfl
  · rw [show rt_b true = nI 1 from rfl, rt_bt1 i hi]; rfl
/-- x >> n & 1 -/
theorem rt_get (x : Int32) {n : Nat} (hn : n < 32) : (x >>> (nI n &&& 31)) &&& nI 1 = rt_b (bt x n) := by
  apply b_ext
  intro i hi
  rw [b_and, rt_bt1 i hi, rt_btb _ hi]
  by_cases h0 : i = 0
  · subst h0
    rw [b_sshr n hn x (by omega), if_pos (by omega)]
    simp
  · simp [h0]
theorem rt_shl1 {p i : Nat} (hp : p < 32) (hi : i < 32) : bt (nI 1 <<< (nI p &&& 31)) i = decide (i = p) := by
  rw [b_shl p hp (nI 1) hi]
  by_cases h2 : p ≤ i
  · rw [rt_bt1 (i - p) (by omega)]
    by_cases h : i = p
    · subst h; simp
    · rw [decide_eq_false (show ¬ i - p = 0 by omega), decide_eq_false h, Bool.and_false]
  · rw [decide_eq_false h2, decide_eq_false (show ¬ i = p by omega), Bool.false_and]
def rt_set (x : Int32) (p : Nat) (b : Bool) : Int32 := if b then x ||| (nI 1 <<< (nI p &&& 31)) else x &&& ((nI 1 <<< (nI p &&& 31)) ^^^ (-1))
theorem rt_set_bt (x : Int32) {p i : Nat} (b : Bool) (hp : p < 32) (hi : i < 32) : bt (rt_set x p b) i = if i = p then b else bt x i := by
  cases b
  · rw [show rt_set x p false = x &&& ((nI 1 <<< (nI p &&& 31)) ^^^ (-1)) from rfl, b_and, b_xor, rt_shl1 hp hi, b_m1 i hi]
    by_cases h : i = p <;> simp [h]
  · rw [show rt_set x p true = x ||| (nI 1 <<< (nI p &&& 31)) from rfl, b_or, rt_shl1 hp hi]
    by_cases h : i = p <;> simp [h]
theorem rt_set_undo (x : Int32) {p : Nat} (a : Bool) (hp : p < 32) : rt_set (rt_set x p a) p (bt x p) = x := by
  apply b_ext
  intro i hi
  rw [rt_set_bt _ _ hp hi, rt_set_bt _ _ hp hi]
  by_cases h : i = p
  · subst h; simp
  · simp [h]
theorem rt_mask : ∀ i, i < 32 → bt 262143 i = decide (i < 18) := by decide +kernel
theorem rt_top : ∀ i, i < 32 → bt 262144 i = decide (i = 18) := by decide +kernel
theorem rt_i2b : ∀ k, k < 128 → (nI k).toInt8.toInt32 = nI k := by decide +kernel
theorem rt_narB : ∀ k, k < 128 → vp_nar .byte (nI k) = nI k := fun k hk => by rw [vp_nar_byte, rt_i2b k hk]
theorem rt_narZ (b : Bool) : vp_nar .boolean (rt_b b) = rt_b b := by cases b <;> rfl
theorem rt_nZ (b : Bool) : narrow .boolean (.int (rt_b b)) = .int (rt_b b) := by cases b <;> rfl
/-! states: a table of arrays; a scalar is place 0 of its array -/
abbrev rt_S : Type := Nat → Nat → Int32
def rt_u (S : rt_S) (k i : Nat) (x : Int32) : rt_S := fun a => if a = k then upd (S k) i x else S a
theorem rt_u_k (S : rt_S) (k i : Nat) (x : Int32) : rt_u S k i x k = upd (S k) i x := if_pos rfl
theorem rt_u_n (S : rt_S) {k a : Nat} (i : Nat) (x : Int32) (h : a ≠ k) : rt_u S k i x a = S a := if_neg h
theorem rt_u_s (S : rt_S) (k i : Nat) (x : Int32) : rt_u S k i x k i = x := by rw [rt_u_k]; exact pk_us
theorem rt_u_o (S : rt_S) (k : Nat) {i j : Nat} (x : Int32) (h : j ≠ i) : rt_u S k i x k j = S k j := by rw [rt_u_k]; exact pk_un h
theorem rt_u_at (S : rt_S) (k i a j : Nat) (x : Int32) : rt_u S k i x a j = if a = k ∧ j = i then x else S a j := by
  by_cases h : a = k
  · subst h
    by_cases h2 : j = i
    · subst h2; rw [rt_u_s]; simp
    · rw [rt_u_o _ _ _ h2]; simp [h2]
  · rw [rt_u_n _ _ _ h]; simp [h]
theorem rt_u_uu (S : rt_S) (k i : Nat) (x y : Int32) : rt_u (rt_u S k i x) k i y = rt_u S k i y := by
  funext a j
  rw [rt_u_at, rt_u_at, rt_u_at]
  by_cases h : a = k ∧ j = i <;> simp [h]
theorem rt_u_self (S : rt_S) (k i : Nat) : rt_u S k i (S k i) = S := by
  funext a j
  rw [rt_u_at]
  by_cases h : a = k ∧ j = i
  · rw [if_pos h, h.1, h.2]
  · rw [if_neg h]
/-- bit p of place i of array k is set to b -/
def rt_ap (S : rt_S) (k i p : Nat) (b : Bool) : rt_S := rt_u S k i (rt_set (S k i) p b)
theorem rt_ap_undo (S : rt_S) (k i : Nat) {p : Nat} (a : Bool) (hp : p < 32) : rt_ap (rt_ap S k i p a) k i p (bt (S k i) p) = S := by
  unfold rt_ap
  rw [rt_u_s, rt_set_undo _ _ hp, rt_u_uu, rt_u_self]
/-! counting -/
def rt_c (f : Nat → Bool) : Nat → Nat
  | 0 => 0
  | n + 1 => rt_c f n + (if f n then 1 else 0)
theorem rt_c_s (f : Nat → Bool) (n : Nat) : rt_c f (n + 1) = rt_c f n + (if f n then 1 else 0) := rfl
theorem rt_c_le (f : Nat → Bool) : ∀ n, rt_c f n ≤ n
  | 0 => Nat.le_refl 0
  | n + 1 => by
    have := rt_c_le f n
    rw [rt_c_s]
    split <;> omega
theorem rt_c_mono {f g : Nat → Bool} : ∀ n, (∀ i, i < n → f i = true → g i = true) → rt_c f n ≤ rt_c g n
  | 0, _ => Nat.le_refl 0
  | n + 1, h => by
    have h1 := rt_c_mono n (fun i hi => h i (by omega))
    rw [rt_c_s, rt_c_s]
    by_cases hf : f n = true
    · rw [if_pos hf, if_pos (h n (by omega) hf)]; omega
    · rw [if_neg hf]; omega
theorem rt_c_lt {f g : Nat → Bool} : ∀ n, (∀ i, i < n → f i = true → g i = true) → (∃ b, b < n ∧ ¬ f b = true ∧ g b = true) → rt_c f n < rt_c g n
  | 0, _, h => by obtain ⟨b, hb, -⟩ := h; omega
  | n + 1, h, ⟨b, hb, h1, h2⟩ => by
    rw [rt_c_s, rt_c_s]
    by_cases hbn : b = n
    · subst hbn
      have h3 := rt_c_mono b (fun i hi => h i (by omega))
      rw [if_neg h1, if_pos h2]
      omega
    · have h3 := rt_c_lt n (fun i hi => h i (by omega)) ⟨b, by omega, h1, h2⟩
      by_cases hf : f n = true
      · rw [if_pos hf, if_pos (h n (by omega) hf)]; omega
      · rw [if_neg hf]; omega
theorem rt_c_full {f : Nat → Bool} : ∀ n, n ≤ rt_c f n → ∀ i, i < n → f i = true
  | 0, _, i, hi => by omega
  | n + 1, h, i, hi => by
    have h1 := rt_c_le f n
    rw [rt_c_s] at h
    by_cases hf : f n = true
    · rw [if_pos hf] at h
      by_cases hin : i = n
      · rw [hin]; exact hf
      · exact rt_c_full n (by omega) i (by omega)
    · rw [if_neg hf] at h; omega
theorem rt_c_or {f g : Nat → Bool} : ∀ n, (∀ i, i < n → f i = true → g i = true → False) → rt_c (fun i => f i || g i) n = rt_c f n + rt_c g n
  | 0, _ => rfl
  | n + 1, h => by
    have h1 := rt_c_or n (fun i hi => h i (by omega))
    rw [rt_c_s, rt_c_s, rt_c_s, h1]
    by_cases hf : f n = true
    · have hg : ¬ g n = true := fun hg => h n (by omega) hf hg
      simp [hf, hg]; omega
    · by_cases hg : g n = true
      · simp [hf, hg]; omega
      · simp [hf, hg]
theorem rt_c_congr {f g : Nat → Bool} (n : Nat) (h : ∀ i, i < n → f i = g i) : rt_c f n = rt_c g n :=
  Nat.le_antisymm (rt_c_mono n (fun i hi hf => by rw [← h i hi]; exact hf)) (rt_c_mono n (fun i hi hg => by rw [h i hi]; exact hg))
theorem rt_c_pos {f : Nat → Bool} {b n : Nat} (hb : b < n) (h : f b = true) : 1 ≤ rt_c f n := by
  have h1 := rt_c_lt (f := fun _ => false) (g := f) n (fun i _ h => by cases h) ⟨b, hb, by decide, h⟩
  omega
/-! sums -/
def rt_sum (f : Nat → Nat) : Nat → Nat
  | 0 => 0
  | n + 1 => rt_sum f n + f n
theorem rt_sum_s (f : Nat → Nat) (n : Nat) : rt_sum f (n + 1) = rt_sum f n + f n := rfl
theorem rt_sum_add (f g : Nat → Nat) : ∀ n, rt_sum (fun i => f i + g i) n = rt_sum f n + rt_sum g n
  | 0 => rfl
  | n + 1 => by rw [rt_sum_s, rt_sum_s, rt_sum_s, rt_sum_add f g n]; omega
theorem rt_sum_0 : ∀ n, rt_sum (fun _ => 0) n = 0
  | 0 => rfl
  | n + 1 => by rw [rt_sum_s, rt_sum_0 n]
theorem rt_sum_congr {f g : Nat → Nat} : ∀ n, (∀ i, i < n → f i = g i) → rt_sum f n = rt_sum g n
  | 0, _ => rfl
  | n + 1, h => by rw [rt_sum_s, rt_sum_s, rt_sum_congr n (fun i hi => h i (by omega)), h n (by omega)]
theorem rt_sum_swap (F : Nat → Nat → Nat) (m : Nat) : ∀ n, rt_sum (fun a => rt_sum (fun b => F a b) m) n = rt_sum (fun b => rt_sum (fun a => F a b) n) m
  | 0 => (rt_sum_0 m).symm
  | n + 1 => by
    rw [rt_sum_s, rt_sum_swap F m n, ← rt_sum_add]
    rfl
theorem rt_sum_le {f : Nat → Nat} {c : Nat} (h : ∀ i, f i ≤ c) : ∀ n, rt_sum f n ≤ n * c
  | 0 => Nat.zero_le _
  | n + 1 => by
    have h1 := rt_sum_le h n
    have h2 := h n
    rw [rt_sum_s, Nat.succ_mul]
    omega
end
section
/-! which groups pass their members to which, with no program in sight: edges, reaching, members; the rounds of the reference; the list of waiting groups of the class -/
def rt_ed (S : rt_S) (a b : Nat) : Bool := bt (S 1 b) a || (decide (a / 3 = b / 3) && bt (S 2 (b % 3)) (a % 3))
def rt_wf (S : rt_S) : Prop := (∀ g i, g < 18 → 18 ≤ i → bt (S 1 g) i = false) ∧ ∀ k i, k < 3 → 3 ≤ i → bt (S 2 k) i = false
theorem rt_pred (S : rt_S) (hw : rt_wf S) {g i : Nat} (hg : g < 18) (hi : i < 32) : bt (S 1 g ||| (S 2 (g % 3) <<< (nI (g / 3 * 3) &&& 31))) i = (decide (i < 18) && rt_ed S i g) := by
  rw [b_or, b_shl (g / 3 * 3) (by omega) _ hi]
  unfold rt_ed
  by_cases h18 : i < 18
  · rw [decide_eq_true h18, Bool.true_and]
    congr 1
    by_cases hq : i / 3 = g / 3
    · rw [decide_eq_true hq, decide_eq_true (show g / 3 * 3 ≤ i by omega), show i - g / 3 * 3 = i % 3 by omega]
    · rw [decide_eq_false hq, Bool.false_and]
      by_cases hl : g / 3 * 3 ≤ i
      · rw [hw.2 (g % 3) (i - g / 3 * 3) (by omega) (by omega), Bool.and_false]
      · rw [decide_eq_false hl, Bool.false_and]
  · rw [decide_eq_false h18, Bool.false_and, hw.1 g i hg (by omega), hw.2 (g % 3) (i - g / 3 * 3) (by omega) (by omega), Bool.and_false, Bool.or_false]
theorem rt_wf_ap {S : rt_S} (hw : rt_wf S) {k i p : Nat} (b : Bool) (hp : p < 18) (h2 : k = 2 → p < 3) : rt_wf (rt_ap S k i p b) := by
  unfold rt_ap
  refine ⟨fun g j hg hj => ?_, fun g j hg hj => ?_⟩
  · rw [rt_u_at]
    by_cases h : 1 = k ∧ g = i
    · rw [if_pos h]
      rcases Nat.lt_or_ge j 32 with h32 | h32
      · rw [rt_set_bt _ _ (by omega) h32, if_neg (by omega), ← h.1, ← h.2]
        exact hw.1 g j hg hj
      · exact b_big h32
    · rw [if_neg h]
      exact hw.1 g j hg hj
  · rw [rt_u_at]
    by_cases h : 2 = k ∧ g = i
    · rw [if_pos h]
      have h3 := h2 h.1.symm
      rcases Nat.lt_or_ge j 32 with h32 | h32
      · rw [rt_set_bt _ _ (by omega) h32, if_neg (by omega), ← h.1, ← h.2]
        exact hw.2 g j hg hj
      · exact b_big h32
    · rw [if_neg h]
      exact hw.2 g j hg hj
/-- members of h belong to g: h lies in every set that holds g and, with a group, all that pass to it -/
def rt_rc (S : rt_S) (h g : Nat) : Prop := ∀ P : Nat → Prop, P g → (∀ a b, a < 18 → b < 18 → P b → rt_ed S a b = true → P a) → P h
theorem rt_rc_refl (S : rt_S) (g : Nat) : rt_rc S g g := fun _ h _ => h
theorem rt_rc_step {S : rt_S} {a b g : Nat} (ha : a < 18) (hb : b < 18) (he : rt_ed S a b = true) (h : rt_rc S b g) : rt_rc S a g := fun P h1 h2 => h2 a b ha hb (h P h1 h2) he
theorem rt_rc_trans {S : rt_S} {a b c : Nat} (h1 : rt_rc S a b) (h2 : rt_rc S b c) : rt_rc S a c := fun P p1 p2 => h1 P (h2 P p1 p2) p2
theorem rt_rc_lt {S : rt_S} {h g : Nat} (hg : g < 18) (hr : rt_rc S h g) : h < 18 := hr (fun x => x < 18) hg (fun _ _ ha _ _ _ => ha)
noncomputable def rt_rb (S : rt_S) (h g : Nat) : Bool := @decide (rt_rc S h g) (Classical.propDecidable _)
theorem rt_rb_iff {S : rt_S} {h g : Nat} : rt_rb S h g = true ↔ rt_rc S h g := by
  unfold rt_rb
  exact @decide_eq_true_iff _ (Classical.propDecidable _)
def rt_mc (S : rt_S) (g i : Nat) : Prop := ∃ h, h < 18 ∧ rt_rc S h g ∧ bt (S 0 h) i = true
noncomputable def rt_m (S : rt_S) (g i : Nat) : Bool := @decide (rt_mc S g i) (Classical.propDecidable _)
theorem rt_m_iff {S : rt_S} {g i : Nat} : rt_m S g i = true ↔ rt_mc S g i := by
  unfold rt_m
  exact @decide_eq_true_iff _ (Classical.propDecidable _)
theorem rt_m_base {S : rt_S} {g i : Nat} (hg : g < 18) (h : bt (S 0 g) i = true) : rt_m S g i = true := rt_m_iff.mpr ⟨g, hg, rt_rc_refl S g, h⟩
theorem rt_m_ed {S : rt_S} {a b i : Nat} (ha : a < 18) (hb : b < 18) (he : rt_ed S a b = true) (h : rt_m S a i = true) : rt_m S b i = true := by
  obtain ⟨x, hx, hr, hbt⟩ := rt_m_iff.mp h
  exact rt_m_iff.mpr ⟨x, hx, rt_rc_trans hr (rt_rc_step ha hb he (rt_rc_refl S b)), hbt⟩
theorem rt_b_eq {a b : Bool} (h1 : a = true → b = true) (h2 : b = true → a = true) : a = b := by
  cases a <;> cases b
  · rfl
  · exact absurd (h2 rfl) (by decide)
  · exact absurd (h1 rfl) (by decide)
  · rfl
/-! rounds: 324 pairs each; what passes from place fr j to place to j -/
def rt_cl (E : Nat → Nat → Bool) (f : Nat → Bool) : Prop := ∀ a b, a < 18 → b < 18 → E a b = true → f a = true → f b = true
def rt_in (E : Nat → Nat → Bool) (fr to : Nat → Nat) (f0 f : Nat → Bool) (n : Nat) : Prop := (∀ g, g < 18 → f0 g = true → f g = true) ∧ (∀ j, j < n → E (fr j) (to j) = true → f0 (fr j) = true → f (to j) = true) ∧ (rt_cl E f0 → ∀ g, g < 18 → f g = true → f0 g = true)
theorem rt_in_0 (E : Nat → Nat → Bool) (fr to : Nat → Nat) (f : Nat → Bool) : rt_in E fr to f f 0 := ⟨fun _ _ h => h, fun j h => by omega, fun _ _ _ h => h⟩
theorem rt_in_s {E : Nat → Nat → Bool} {fr to : Nat → Nat} {f0 f f' : Nat → Bool} {n : Nat} (hb : ∀ j, j < 324 → fr j < 18 ∧ to j < 18) (hn : n < 324) (h : rt_in E fr to f0 f n)
    (h1 : ∀ g, g < 18 → f' g = (f g || (decide (g = to n) && (E (fr n) (to n) && f (fr n))))) : rt_in E fr to f0 f' (n + 1) := by
  refine ⟨fun g hg h0 => ?_, fun j hj he h0 => ?_, fun hc g hg hf => ?_⟩
  · rw [h1 g hg, h.1 g hg h0, Bool.true_or]
  · by_cases hjn : j = n
    · subst hjn
      rw [h1 _ (hb j hn).2, he, h.1 _ (hb j hn).1 h0, decide_eq_true rfl, Bool.true_and, Bool.true_and, Bool.or_true]
    · rw [h1 _ (hb j (by omega)).2, h.2.1 j (by omega) he h0, Bool.true_or]
  · rw [h1 g hg] at hf
    simp only [Bool.or_eq_true, Bool.and_eq_true, decide_eq_true_eq] at hf
    rcases hf with q | ⟨q1, q2, q3⟩
    · exact h.2.2 hc g hg q
    · rw [q1]
      exact hc _ _ (hb n hn).1 (hb n hn).2 q2 (h.2.2 hc _ (hb n hn).1 q3)
def rt_out (E : Nat → Nat → Bool) (f : Nat → Bool) (r : Nat) : Prop := rt_cl E f ∨ r ≤ rt_c f 18
theorem rt_out_0 (E : Nat → Nat → Bool) (f : Nat → Bool) : rt_out E f 0 := Or.inr (Nat.zero_le _)
theorem rt_out_s {E : Nat → Nat → Bool} {fr to : Nat → Nat} {f0 f : Nat → Bool} {r : Nat} (hcov : ∀ a b, a < 18 → b < 18 → ∃ j, j < 324 ∧ fr j = a ∧ to j = b) (h0 : rt_out E f0 r) (h : rt_in E fr to f0 f 324) : rt_out E f (r + 1) := by
  by_cases hc : rt_cl E f0
  · exact Or.inl (fun a b ha hb he hf => h.1 b hb (hc a b ha hb he (h.2.2 hc a ha hf)))
  · right
    have h1 : r ≤ rt_c f0 18 := h0.resolve_left hc
    have h2 : ∃ a b, a < 18 ∧ b < 18 ∧ E a b = true ∧ f0 a = true ∧ ¬ f0 b = true := by
      apply Classical.byContradiction
      intro hn
      exact hc (fun a b ha hb he hf => Classical.byContradiction fun hb' => hn ⟨a, b, ha, hb, he, hf, hb'⟩)
    obtain ⟨a, b, ha, hb, he, hf, hfb⟩ := h2
    obtain ⟨j, hj, rfl, rfl⟩ := hcov a b ha hb
    have h3 := rt_c_lt 18 h.1 ⟨to j, hb, hfb, h.2.1 j hj he hf⟩
    omega
theorem rt_out_end {E : Nat → Nat → Bool} {f : Nat → Bool} (h : rt_out E f 18) : rt_cl E f := h.elim id (fun h _ b _ hb _ _ => rt_c_full 18 h b hb)
theorem rt_cov1 : ∀ a b, a < 18 → b < 18 → ∃ j, j < 324 ∧ j / 18 = a ∧ j % 18 = b := fun a b ha hb => ⟨18 * a + b, by omega, by omega, by omega⟩
theorem rt_cov2 : ∀ a b, a < 18 → b < 18 → ∃ j, j < 324 ∧ j % 18 = a ∧ j / 18 = b := fun a b ha hb => ⟨18 * b + a, by omega, by omega, by omega⟩
theorem rt_bd1 : ∀ j, j < 324 → j / 18 < 18 ∧ j % 18 < 18 := fun j hj => ⟨by omega, by omega⟩
theorem rt_bd2 : ∀ j, j < 324 → j % 18 < 18 ∧ j / 18 < 18 := fun j hj => ⟨by omega, by omega⟩
/-- the reference's members, when nothing new comes -/
theorem rt_mem_end {S : rt_S} {f : Nat → Bool} {i : Nat} (hs : ∀ g, g < 18 → f g = true → rt_m S g i = true) (hb : ∀ g, g < 18 → bt (S 0 g) i = true → f g = true) (hc : rt_cl (rt_ed S) f) {g : Nat} (hg : g < 18) : f g = rt_m S g i := by
  refine rt_b_eq (hs g hg) (fun h => ?_)
  obtain ⟨x, hx, hr, hbt⟩ := rt_m_iff.mp h
  exact hr (fun x => f x = true → f g = true) id (fun a b ha hb pb he fa => pb (hc a b ha hb he fa)) (hb x hx hbt)
/-- the reference's sources, when nothing new comes -/
theorem rt_src_end {S : rt_S} {f : Nat → Bool} {g0 : Nat} (h0 : f g0 = true) (hs : ∀ x, x < 18 → f x = true → rt_rc S x g0) (hc : rt_cl (fun x y => rt_ed S y x) f) {x : Nat} (hx : x < 18) : f x = rt_rb S x g0 := by
  refine rt_b_eq (fun h => rt_rb_iff.mpr (hs x hx h)) (fun h => ?_)
  exact (rt_rb_iff.mp h) (fun x => f x = true) h0 (fun a b ha hb pb he => hc b a hb ha he pb)
/-! groups still to be looked at: f what was come to, w[0..n) the groups that wait -/
def rt_wl (S : rt_S) (g0 : Nat) (f : Nat → Bool) (w : Nat → Int32) (n : Nat) : Prop :=
  f g0 = true ∧ (∀ i, f i = true → i < 18 ∧ rt_rc S i g0) ∧ (∀ j, j < n → ∃ b, b < 18 ∧ w j = nI b ∧ f b = true) ∧ (∀ b, b < 18 → f b = true → (∀ a, a < 18 → rt_ed S a b = true → f a = true) ∨ ∃ j, j < n ∧ w j = nI b) ∧ n ≤ rt_c f 18
theorem rt_nI18 {a b : Nat} (ha : a < 18) (hb : b < 18) (h : nI a = nI b) : a = b := (nI_eq (by omega) (by omega)).mp h
theorem rt_wl_0 {S : rt_S} {g0 : Nat} {f : Nat → Bool} {w : Nat → Int32} (hg : g0 < 18) (hf : ∀ i, f i = decide (i = g0)) (hw : w 0 = nI g0) : rt_wl S g0 f w 1 := by
  have h0 : f g0 = true := by rw [hf]; exact decide_eq_true rfl
  have h1 : ∀ i, f i = true → i = g0 := fun i h => by rw [hf] at h; exact of_decide_eq_true h
  refine ⟨h0, fun i h => ?_, fun j hj => ⟨g0, hg, ?_, h0⟩, fun b hb h => Or.inr ⟨0, by omega, ?_⟩, rt_c_pos hg h0⟩
  · rw [h1 i h]; exact ⟨hg, rt_rc_refl S g0⟩
  · rw [show j = 0 by omega]; exact hw
  · rw [h1 b h]; exact hw
theorem rt_wl_end {S : rt_S} {g0 : Nat} {f : Nat → Bool} {w : Nat → Int32} (h : rt_wl S g0 f w 0) (i : Nat) : f i = (decide (i < 18) && rt_rb S i g0) := by
  refine rt_b_eq (fun hf => ?_) (fun hf => ?_)
  · rw [decide_eq_true (h.2.1 i hf).1, rt_rb_iff.mpr (h.2.1 i hf).2]; rfl
  · simp only [Bool.and_eq_true, decide_eq_true_eq] at hf
    refine (rt_rb_iff.mp hf.2) (fun x => f x = true) h.1 (fun a b ha hb pb he => ?_)
    rcases h.2.2.2.1 b hb pb with q | ⟨j, hj, -⟩
    · exact q a ha he
    · omega
theorem rt_wl_top {S : rt_S} {g0 : Nat} {f : Nat → Bool} {w : Nat → Int32} {n : Nat} (h : rt_wl S g0 f w (n + 1)) : ∃ b, b < 18 ∧ w n = nI b ∧ f b = true := h.2.2.1 n (by omega)
theorem rt_wl_known {S : rt_S} {g0 b : Nat} {f f' : Nat → Bool} {w : Nat → Int32} {n : Nat} (h : rt_wl S g0 f w (n + 1)) (hb18 : b < 18) (hb : w n = nI b) (hfb : f b = true) (hf : ∀ i, f' i = (f i || (decide (i < 18) && rt_rb S i b))) : rt_wl S g0 f' w n := by
  have up : ∀ i, f i = true → f' i = true := fun i hi => by rw [hf, hi, Bool.true_or]
  have nw : ∀ i, i < 18 → rt_rc S i b → f' i = true := fun i hi hr => by rw [hf, decide_eq_true hi, rt_rb_iff.mpr hr, Bool.true_and, Bool.or_true]
  have cs : ∀ i, f' i = true → f i = true ∨ (i < 18 ∧ rt_rc S i b) := fun i hi => by
    rw [hf] at hi
    simp only [Bool.or_eq_true, Bool.and_eq_true, decide_eq_true_eq] at hi
    exact hi.imp id (fun q => ⟨q.1, rt_rb_iff.mp q.2⟩)
  have lf : ∀ c, c < 18 → rt_rc S c b → ∀ a, a < 18 → rt_ed S a c = true → f' a = true := fun c hc hr a ha he => nw a ha (rt_rc_step ha hc he hr)
  refine ⟨up _ h.1, fun i hi => ?_, fun j hj => ?_, fun c hc hi => ?_, ?_⟩
  · rcases cs i hi with q | q
    · exact h.2.1 i q
    · exact ⟨q.1, rt_rc_trans q.2 (h.2.1 b hfb).2⟩
  · obtain ⟨c, h1, h2, h3⟩ := h.2.2.1 j (by omega)
    exact ⟨c, h1, h2, up c h3⟩
  · rcases cs c hi with q | q
    · rcases h.2.2.2.1 c hc q with z | ⟨j, hj, hw⟩
      · exact Or.inl (fun a ha he => up a (z a ha he))
      · by_cases hjn : j = n
        · subst hjn
          have e := rt_nI18 hc hb18 (hw.symm.trans hb)
          subst e
          exact Or.inl (lf c hc (rt_rc_refl S c))
        · exact Or.inr ⟨j, by omega, hw⟩
    · exact Or.inl (lf c hc q.2)
  · have h1 := h.2.2.2.2
    have h2 := rt_c_mono 18 (fun i _ => up i)
    omega
/-- while the new ones are put on the list: those under h are -/
def rt_wg (S : rt_S) (b : Nat) (f fr : Nat → Bool) (w : Nat → Int32) (n0 n h : Nat) : Prop :=
  (∀ j, j < n → ∃ c, c < 18 ∧ w j = nI c ∧ (f c = true ∨ fr c = true)) ∧ (∀ c, c < 18 → f c = true → c ≠ b → (∀ a, a < 18 → rt_ed S a c = true → f a = true) ∨ ∃ j, j < n ∧ w j = nI c) ∧ (∀ c, c < h → fr c = true → ∃ j, j < n ∧ w j = nI c) ∧ n = n0 + rt_c fr h
theorem rt_wg_0 {S : rt_S} {g0 b : Nat} {f fr : Nat → Bool} {w : Nat → Int32} {n : Nat} (h : rt_wl S g0 f w (n + 1)) (hb18 : b < 18) (hb : w n = nI b) : rt_wg S b f fr w n n 0 := by
  refine ⟨fun j hj => ?_, fun c hc hf hcb => ?_, fun c hc => by omega, rfl⟩
  · obtain ⟨c, h1, h2, h3⟩ := h.2.2.1 j (by omega)
    exact ⟨c, h1, h2, Or.inl h3⟩
  · rcases h.2.2.2.1 c hc hf with z | ⟨j, hj, hw⟩
    · exact Or.inl z
    · by_cases hjn : j = n
      · subst hjn
        exact absurd (rt_nI18 hc hb18 (hw.symm.trans hb)) hcb
      · exact Or.inr ⟨j, by omega, hw⟩
theorem rt_wg_skip {S : rt_S} {b : Nat} {f fr : Nat → Bool} {w : Nat → Int32} {n0 n h : Nat} (g : rt_wg S b f fr w n0 n h) (hn : fr h = false) : rt_wg S b f fr w n0 n (h + 1) := by
  refine ⟨g.1, g.2.1, fun c hc hf => ?_, ?_⟩
  · by_cases e : c = h
    · subst e; rw [hn] at hf; cases hf
    · exact g.2.2.1 c (by omega) hf
  · rw [rt_c_s, hn, g.2.2.2]; rfl
theorem rt_wg_push {S : rt_S} {b : Nat} {f fr : Nat → Bool} {w w' : Nat → Int32} {n0 n h : Nat} (g : rt_wg S b f fr w n0 n h) (h18 : h < 18) (hn : fr h = true) (hw : ∀ j, w' j = if j = n then nI h else w j) : rt_wg S b f fr w' n0 (n + 1) (h + 1) := by
  have ol : ∀ j, j < n → w' j = w j := fun j hj => by rw [hw, if_neg (by omega)]
  have nw : w' n = nI h := by rw [hw, if_pos rfl]
  refine ⟨fun j hj => ?_, fun c hc hf hcb => ?_, fun c hc hf => ?_, ?_⟩
  · by_cases e : j = n
    · subst e; exact ⟨h, h18, nw, Or.inr hn⟩
    · rw [ol j (by omega)]; exact g.1 j (by omega)
  · rcases g.2.1 c hc hf hcb with z | ⟨j, hj, hj2⟩
    · exact Or.inl z
    · exact Or.inr ⟨j, by omega, by rw [ol j hj]; exact hj2⟩
  · by_cases e : c = h
    · subst e; exact ⟨n, by omega, nw⟩
    · obtain ⟨j, hj, hj2⟩ := g.2.2.1 c (by omega) hf
      exact ⟨j, by omega, by rw [ol j hj]; exact hj2⟩
  · rw [rt_c_s, hn, if_pos rfl, g.2.2.2]; omega
theorem rt_c_len {f : Nat → Bool} {h : Nat} : ∀ n, h ≤ n → rt_c f h ≤ rt_c f n
  | 0, hn => by rw [show h = 0 by omega]; exact Nat.le_refl _
  | n + 1, hn => by
    by_cases e : h = n + 1
    · rw [e]; exact Nat.le_refl _
    · have h1 : rt_c f h ≤ rt_c f n := rt_c_len n (by omega)
      rw [rt_c_s]; omega
/-- the new ones: those that pass to b and were not come to -/
def rt_fr (S : rt_S) (b : Nat) (f fr : Nat → Bool) : Prop := ∀ i, fr i = (decide (i < 18) && rt_ed S i b && !f i)
theorem rt_fr_lt {S : rt_S} {b : Nat} {f fr : Nat → Bool} (h : rt_fr S b f fr) {i : Nat} (hi : fr i = true) : i < 18 ∧ rt_ed S i b = true ∧ f i = false := by
  rw [h] at hi
  simp only [Bool.and_eq_true, decide_eq_true_eq, Bool.not_eq_true'] at hi
  exact ⟨hi.1.1, hi.1.2, hi.2⟩
theorem rt_fr_c {S : rt_S} {b : Nat} {f fr : Nat → Bool} (h : rt_fr S b f fr) : rt_c (fun i => f i || fr i) 18 = rt_c f 18 + rt_c fr 18 := rt_c_or 18 (fun i _ h1 h2 => by rw [(rt_fr_lt h h2).2.2] at h1; cases h1)
theorem rt_wg_room {S : rt_S} {g0 b : Nat} {f fr : Nat → Bool} {w w0 : Nat → Int32} {n0 n h : Nat} (hl : rt_wl S g0 f w0 (n0 + 1)) (hfr : rt_fr S b f fr) (g : rt_wg S b f fr w n0 n h) (h18 : h < 18) (hn : fr h = true) : n < 18 := by
  have h1 := rt_fr_c hfr
  have h2 := rt_c_le (fun i => f i || fr i) 18
  have h3 : rt_c fr (h + 1) ≤ rt_c fr 18 := rt_c_len 18 (by omega)
  rw [rt_c_s, hn, if_pos rfl] at h3
  have h4 := hl.2.2.2.2
  have h5 := g.2.2.2
  omega
theorem rt_wg_end {S : rt_S} {g0 b : Nat} {f fr f' : Nat → Bool} {w w0 : Nat → Int32} {n0 n : Nat} (hl : rt_wl S g0 f w0 (n0 + 1)) (hb18 : b < 18) (hfb : f b = true) (hfr : rt_fr S b f fr) (g : rt_wg S b f fr w n0 n 18) (hf' : ∀ i, f' i = (f i || fr i)) : rt_wl S g0 f' w n ∧ n + rt_c f 18 = n0 + rt_c f' 18 := by
  have up : ∀ i, f i = true → f' i = true := fun i hi => by rw [hf', hi, Bool.true_or]
  have nw : ∀ i, fr i = true → f' i = true := fun i hi => by rw [hf', hi, Bool.or_true]
  have cs : ∀ i, f' i = true → f i = true ∨ fr i = true := fun i hi => by
    rw [hf'] at hi
    simpa only [Bool.or_eq_true] using hi
  have hc : rt_c f' 18 = rt_c f 18 + rt_c fr 18 := by rw [← rt_fr_c hfr]; exact rt_c_congr 18 (fun i _ => hf' i)
  have h4 := hl.2.2.2.2
  have h5 := g.2.2.2
  refine ⟨⟨up _ hl.1, fun i hi => ?_, fun j hj => ?_, fun c hc hi => ?_, by omega⟩, by omega⟩
  · rcases cs i hi with q | q
    · exact hl.2.1 i q
    · obtain ⟨q1, q2, -⟩ := rt_fr_lt hfr q
      exact ⟨q1, rt_rc_step q1 hb18 q2 (hl.2.1 b hfb).2⟩
  · obtain ⟨c, h1, h2, h3⟩ := g.1 j hj
    exact ⟨c, h1, h2, h3.elim (up c) (nw c)⟩
  · rcases cs c hi with q | q
    · by_cases e : c = b
      · subst e
        left
        intro a ha he
        by_cases hfa : f a = true
        · exact up a hfa
        · refine nw a ?_
          rw [hfr, decide_eq_true ha, he]
          simp [hfa]
      · exact (g.2.1 c hc q e).imp (fun z a ha he => up a (z a ha he)) id
    · exact Or.inr (g.2.2.1 c hc q)
/-- a known answer -/
def rt_ca (S : rt_S) (g : Nat) (x : Int32) : Prop := x = 0 ∨ ∀ i, i < 32 → bt x i = (decide (i < 18) && rt_rb S i g || decide (i = 18))
theorem rt_ca_yes {S : rt_S} {g : Nat} {x : Int32} (h : rt_ca S g x) (hb : bt x 18 = true) : ∀ i, i < 32 → bt (x &&& 262143) i = (decide (i < 18) && rt_rb S i g) := by
  intro i hi
  rcases h with h | h
  · rw [h, b_0] at hb; cases hb
  · rw [b_and, h i hi, rt_mask i hi]
    by_cases h18 : i < 18
    · rw [decide_eq_true h18, decide_eq_false (show ¬ i = 18 by omega)]; simp
    · rw [decide_eq_false h18]; simp
theorem rt_ca_mk {S : rt_S} {g : Nat} {x : Int32} (h : ∀ i, i < 32 → bt x i = (decide (i < 18) && rt_rb S i g)) : rt_ca S g (x ||| 262144) := by
  right
  intro i hi
  rw [b_or, h i hi, rt_top i hi]
/-- or of what is entered in the sources -/
def rt_or (S : rt_S) (f : Nat → Bool) (n i : Nat) : Prop := ∃ h, h < n ∧ f h = true ∧ bt (S 0 h) i = true
theorem rt_ext {x : Int32} {f : Nat → Bool} {y : Int32} (hx : ∀ i, i < 32 → bt x i = f i) (hy : ∀ i, i < 32 → bt y i = f i) : x = y := b_ext (fun i hi => (hx i hi).trans (hy i hi).symm)
end
section
/-! RelationTuples -/
set_option maxRecDepth 100000
def RX0 : String := "RelationTuples"
def TX0 : u_T := fun k => match k with
  | 0 => ("RelationTuples", "entered", "[I", true)
  | 1 => ("RelationTuples", "nested", "[I", true)
  | 2 => ("RelationTuples", "ruledBy", "[I", true)
  | 3 => ("RelationTuples", "loaded", "I", false)
  | 4 => ("RelationTuples", "latestState", "I", false)
  | 5 => ("RelationTuples", "sortOf", "[B", true)
  | 6 => ("RelationTuples", "partOf", "[B", true)
  | 7 => ("RelationTuples", "placeOf", "[B", true)
  | 8 => ("RelationTuples", "beforeOf", "[Z", true)
  | 9 => ("RelationTuples", "afterOf", "[Z", true)
  | 10 => ("RelationTuples", "sourcesOf", "[I", true)
  | 11 => ("RelationTuples", "waiting", "I", false)
  | 12 => ("RelationTuples", "waitGroup", "[B", true)
  | _ => ("RelationTuples", "compared", "[I", true)
def tyX0 : Nat → FieldType := fun k => match k with
  | 0 => .array .int
  | 1 => .array .int
  | 2 => .array .int
  | 3 => .int
  | 4 => .int
  | 5 => .array .byte
  | 6 => .array .byte
  | 7 => .array .byte
  | 8 => .array .boolean
  | 9 => .array .boolean
  | 10 => .array .int
  | 11 => .int
  | 12 => .array .byte
  | _ => .array .int
abbrev wsX00 : List Cond := u_ws RX0 TX0 14
set_option maxRecDepth 100000 in
theorem nmX0 : ∀ a, a < 14 → ∀ b, b < 14 → a ≠ b → (TX0 a).2.1 ≠ (TX0 b).2.1 := by decide +kernel
set_option maxRecDepth 100000 in
theorem tyX0_ok : ∀ k, k < 14 → parseFieldDescriptor (TX0 k).2.2.1 = some (tyX0 k) := by decide +kernel
abbrev cX0_init : ByteArray := prog_1_method_1_code
def yX0_init : MethodName := ⟨RX0, "<init>", "()V"⟩
theorem dX0_init_0 : decode cX0_init 0 = .ok (.aload_n 0, 1) := by decide +kernel
theorem dX0_init_1 : decode cX0_init 1 = .ok (.invokespecial 1, 3) := by decide +kernel
theorem dX0_init_4 : decode cX0_init 4 = .ok (.aload_n 0, 1) := by decide +kernel
theorem dX0_init_5 : decode cX0_init 5 = .ok (.bipush 18, 2) := by decide +kernel
theorem dX0_init_7 : decode cX0_init 7 = .ok (.newarray .int, 2) := by decide +kernel
theorem dX0_init_9 : decode cX0_init 9 = .ok (.putfield 7, 3) := by decide +kernel
theorem dX0_init_12 : decode cX0_init 12 = .ok (.aload_n 0, 1) := by decide +kernel
theorem dX0_init_13 : decode cX0_init 13 = .ok (.bipush 18, 2) := by decide +kernel
theorem dX0_init_15 : decode cX0_init 15 = .ok (.newarray .int, 2) := by decide +kernel
theorem dX0_init_17 : decode cX0_init 17 = .ok (.putfield 13, 3) := by decide +kernel
theorem dX0_init_20 : decode cX0_init 20 = .ok (.aload_n 0, 1) := by decide +kernel
theorem dX0_init_21 : decode cX0_init 21 = .ok (.iconst 3, 1) := by decide +kernel
theorem dX0_init_22 : decode cX0_init 22 = .ok (.newarray .int, 2) := by decide +kernel
theorem dX0_init_24 : decode cX0_init 24 = .ok (.putfield 16, 3) := by decide +kernel
theorem dX0_init_27 : decode cX0_init 27 = .ok (.aload_n 0, 1) := by decide +kernel
theorem dX0_init_28 : decode cX0_init 28 = .ok (.bipush 8, 2) := by decide +kernel
theorem dX0_init_30 : decode cX0_init 30 = .ok (.newarray .byte, 2) := by decide +kernel
theorem dX0_init_32 : decode cX0_init 32 = .ok (.putfield 19, 3) := by decide +kernel
theorem dX0_init_35 : decode cX0_init 35 = .ok (.aload_n 0, 1) := by decide +kernel
theorem dX0_init_36 : decode cX0_init 36 = .ok (.bipush 8, 2) := by decide +kernel
theorem dX0_init_38 : decode cX0_init 38 = .ok (.newarray .byte, 2) := by decide +kernel
theorem dX0_init_40 : decode cX0_init 40 = .ok (.putfield 23, 3) := by decide +kernel
theorem dX0_init_43 : decode cX0_init 43 = .ok (.aload_n 0, 1) := by decide +kernel
theorem dX0_init_44 : decode cX0_init 44 = .ok (.bipush 8, 2) := by decide +kernel
theorem dX0_init_46 : decode cX0_init 46 = .ok (.newarray .byte, 2) := by decide +kernel
theorem dX0_init_48 : decode cX0_init 48 = .ok (.putfield 26, 3) := by decide +kernel
theorem dX0_init_51 : decode cX0_init 51 = .ok (.aload_n 0, 1) := by decide +kernel
theorem dX0_init_52 : decode cX0_init 52 = .ok (.bipush 8, 2) := by decide +kernel
theorem dX0_init_54 : decode cX0_init 54 = .ok (.newarray .boolean, 2) := by decide +kernel
theorem dX0_init_56 : decode cX0_init 56 = .ok (.putfield 29, 3) := by decide +kernel
theorem dX0_init_59 : decode cX0_init 59 = .ok (.aload_n 0, 1) := by decide +kernel
theorem dX0_init_60 : decode cX0_init 60 = .ok (.bipush 8, 2) := by decide +kernel
theorem dX0_init_62 : decode cX0_init 62 = .ok (.newarray .boolean, 2) := by decide +kernel
theorem dX0_init_64 : decode cX0_init 64 = .ok (.putfield 33, 3) := by decide +kernel
theorem dX0_init_67 : decode cX0_init 67 = .ok (.aload_n 0, 1) := by decide +kernel
theorem dX0_init_68 : decode cX0_init 68 = .ok (.bipush 18, 2) := by decide +kernel
theorem dX0_init_70 : decode cX0_init 70 = .ok (.newarray .int, 2) := by decide +kernel
theorem dX0_init_72 : decode cX0_init 72 = .ok (.putfield 36, 3) := by decide +kernel
theorem dX0_init_75 : decode cX0_init 75 = .ok (.aload_n 0, 1) := by decide +kernel
theorem dX0_init_76 : decode cX0_init 76 = .ok (.bipush 18, 2) := by decide +kernel
theorem dX0_init_78 : decode cX0_init 78 = .ok (.newarray .byte, 2) := by decide +kernel
theorem dX0_init_80 : decode cX0_init 80 = .ok (.putfield 39, 3) := by decide +kernel
theorem dX0_init_83 : decode cX0_init 83 = .ok (.aload_n 0, 1) := by decide +kernel
theorem dX0_init_84 : decode cX0_init 84 = .ok (.bipush 18, 2) := by decide +kernel
theorem dX0_init_86 : decode cX0_init 86 = .ok (.newarray .int, 2) := by decide +kernel
theorem dX0_init_88 : decode cX0_init 88 = .ok (.putfield 42, 3) := by decide +kernel
theorem dX0_init_91 : decode cX0_init 91 = .ok (.return_, 1) := by decide +kernel
abbrev cX0_enter : ByteArray := prog_1_method_2_code
def yX0_enter : MethodName := ⟨RX0, "enter", "(IIZ)I"⟩
theorem dX0_enter_0 : decode cX0_enter 0 = .ok (.aload_n 0, 1) := by decide +kernel
theorem dX0_enter_1 : decode cX0_enter 1 = .ok (.iload_n 1, 1) := by decide +kernel
theorem dX0_enter_2 : decode cX0_enter 2 = .ok (.invokevirtual 45, 3) := by decide +kernel
theorem dX0_enter_5 : decode cX0_enter 5 = .ok (.ifCond .eq 11, 3) := by decide +kernel
theorem dX0_enter_8 : decode cX0_enter 8 = .ok (.aload_n 0, 1) := by decide +kernel
theorem dX0_enter_9 : decode cX0_enter 9 = .ok (.iload_n 2, 1) := by decide +kernel
theorem dX0_enter_10 : decode cX0_enter 10 = .ok (.invokevirtual 49, 3) := by decide +kernel
theorem dX0_enter_13 : decode cX0_enter 13 = .ok (.ifCond .ne 5, 3) := by decide +kernel
theorem dX0_enter_16 : decode cX0_enter 16 = .ok (.iconst (-1), 1) := by decide +kernel
theorem dX0_enter_17 : decode cX0_enter 17 = .ok (.ireturn, 1) := by decide +kernel
theorem dX0_enter_18 : decode cX0_enter 18 = .ok (.aload_n 0, 1) := by decide +kernel
theorem dX0_enter_19 : decode cX0_enter 19 = .ok (.aload_n 0, 1) := by decide +kernel
theorem dX0_enter_20 : decode cX0_enter 20 = .ok (.getfield 52, 3) := by decide +kernel
theorem dX0_enter_23 : decode cX0_enter 23 = .ok (.invokevirtual 56, 3) := by decide +kernel
theorem dX0_enter_26 : decode cX0_enter 26 = .ok (.aload_n 0, 1) := by decide +kernel
theorem dX0_enter_27 : decode cX0_enter 27 = .ok (.iconst 0, 1) := by decide +kernel
theorem dX0_enter_28 : decode cX0_enter 28 = .ok (.iload_n 1, 1) := by decide +kernel
theorem dX0_enter_29 : decode cX0_enter 29 = .ok (.iload_n 2, 1) := by decide +kernel
theorem dX0_enter_30 : decode cX0_enter 30 = .ok (.aload_n 0, 1) := by decide +kernel
theorem dX0_enter_31 : decode cX0_enter 31 = .ok (.getfield 7, 3) := by decide +kernel
theorem dX0_enter_34 : decode cX0_enter 34 = .ok (.iload_n 2, 1) := by decide +kernel
theorem dX0_enter_35 : decode cX0_enter 35 = .ok (.iaload, 1) := by decide +kernel
theorem dX0_enter_36 : decode cX0_enter 36 = .ok (.iload_n 1, 1) := by decide +kernel
theorem dX0_enter_37 : decode cX0_enter 37 = .ok (.ishr, 1) := by decide +kernel
theorem dX0_enter_38 : decode cX0_enter 38 = .ok (.iconst 1, 1) := by decide +kernel
theorem dX0_enter_39 : decode cX0_enter 39 = .ok (.iand, 1) := by decide +kernel
theorem dX0_enter_40 : decode cX0_enter 40 = .ok (.ifCond .eq 7, 3) := by decide +kernel
theorem dX0_enter_43 : decode cX0_enter 43 = .ok (.iconst 1, 1) := by decide +kernel
theorem dX0_enter_44 : decode cX0_enter 44 = .ok (.goto 4, 3) := by decide +kernel
theorem dX0_enter_47 : decode cX0_enter 47 = .ok (.iconst 0, 1) := by decide +kernel
theorem dX0_enter_48 : decode cX0_enter 48 = .ok (.iload_n 3, 1) := by decide +kernel
theorem dX0_enter_49 : decode cX0_enter 49 = .ok (.invokevirtual 60, 3) := by decide +kernel
theorem dX0_enter_52 : decode cX0_enter 52 = .ok (.aload_n 0, 1) := by decide +kernel
theorem dX0_enter_53 : decode cX0_enter 53 = .ok (.getfield 52, 3) := by decide +kernel
theorem dX0_enter_56 : decode cX0_enter 56 = .ok (.ireturn, 1) := by decide +kernel
abbrev cX0_isPerson : ByteArray := prog_1_method_5_code
def yX0_isPerson : MethodName := ⟨RX0, "isPerson", "(I)Z"⟩
theorem dX0_isPerson_0 : decode cX0_isPerson 0 = .ok (.iload_n 1, 1) := by decide +kernel
theorem dX0_isPerson_1 : decode cX0_isPerson 1 = .ok (.ifCond .lt 12, 3) := by decide +kernel
theorem dX0_isPerson_4 : decode cX0_isPerson 4 = .ok (.iload_n 1, 1) := by decide +kernel
theorem dX0_isPerson_5 : decode cX0_isPerson 5 = .ok (.iconst 5, 1) := by decide +kernel
theorem dX0_isPerson_6 : decode cX0_isPerson 6 = .ok (.if_icmp .gt 7, 3) := by decide +kernel
theorem dX0_isPerson_9 : decode cX0_isPerson 9 = .ok (.iconst 1, 1) := by decide +kernel
theorem dX0_isPerson_10 : decode cX0_isPerson 10 = .ok (.goto 4, 3) := by decide +kernel
theorem dX0_isPerson_13 : decode cX0_isPerson 13 = .ok (.iconst 0, 1) := by decide +kernel
theorem dX0_isPerson_14 : decode cX0_isPerson 14 = .ok (.ireturn, 1) := by decide +kernel
abbrev cX0_isGroup : ByteArray := prog_1_method_6_code
def yX0_isGroup : MethodName := ⟨RX0, "isGroup", "(I)Z"⟩
theorem dX0_isGroup_0 : decode cX0_isGroup 0 = .ok (.iload_n 1, 1) := by decide +kernel
theorem dX0_isGroup_1 : decode cX0_isGroup 1 = .ok (.ifCond .lt 13, 3) := by decide +kernel
theorem dX0_isGroup_4 : decode cX0_isGroup 4 = .ok (.iload_n 1, 1) := by decide +kernel
theorem dX0_isGroup_5 : decode cX0_isGroup 5 = .ok (.bipush 18, 2) := by decide +kernel
theorem dX0_isGroup_7 : decode cX0_isGroup 7 = .ok (.if_icmp .ge 7, 3) := by decide +kernel
theorem dX0_isGroup_10 : decode cX0_isGroup 10 = .ok (.iconst 1, 1) := by decide +kernel
theorem dX0_isGroup_11 : decode cX0_isGroup 11 = .ok (.goto 4, 3) := by decide +kernel
theorem dX0_isGroup_14 : decode cX0_isGroup 14 = .ok (.iconst 0, 1) := by decide +kernel
theorem dX0_isGroup_15 : decode cX0_isGroup 15 = .ok (.ireturn, 1) := by decide +kernel
abbrev cX0_load : ByteArray := prog_1_method_12_code
def yX0_load : MethodName := ⟨RX0, "load", "(I)V"⟩
theorem dX0_load_0 : decode cX0_load 0 = .ok (.aload_n 0, 1) := by decide +kernel
theorem dX0_load_1 : decode cX0_load 1 = .ok (.getfield 68, 3) := by decide +kernel
theorem dX0_load_4 : decode cX0_load 4 = .ok (.iload_n 1, 1) := by decide +kernel
theorem dX0_load_5 : decode cX0_load 5 = .ok (.if_icmp .le 39, 3) := by decide +kernel
theorem dX0_load_8 : decode cX0_load 8 = .ok (.aload_n 0, 1) := by decide +kernel
theorem dX0_load_9 : decode cX0_load 9 = .ok (.aload_n 0, 1) := by decide +kernel
theorem dX0_load_10 : decode cX0_load 10 = .ok (.getfield 68, 3) := by decide +kernel
theorem dX0_load_13 : decode cX0_load 13 = .ok (.bipush 8, 2) := by decide +kernel
theorem dX0_load_15 : decode cX0_load 15 = .ok (.irem, 1) := by decide +kernel
theorem dX0_load_16 : decode cX0_load 16 = .ok (.aload_n 0, 1) := by decide +kernel
theorem dX0_load_17 : decode cX0_load 17 = .ok (.getfield 29, 3) := by decide +kernel
theorem dX0_load_20 : decode cX0_load 20 = .ok (.aload_n 0, 1) := by decide +kernel
theorem dX0_load_21 : decode cX0_load 21 = .ok (.getfield 68, 3) := by decide +kernel
theorem dX0_load_24 : decode cX0_load 24 = .ok (.bipush 8, 2) := by decide +kernel
theorem dX0_load_26 : decode cX0_load 26 = .ok (.irem, 1) := by decide +kernel
theorem dX0_load_27 : decode cX0_load 27 = .ok (.baload, 1) := by decide +kernel
theorem dX0_load_28 : decode cX0_load 28 = .ok (.invokevirtual 64, 3) := by decide +kernel
theorem dX0_load_31 : decode cX0_load 31 = .ok (.aload_n 0, 1) := by decide +kernel
theorem dX0_load_32 : decode cX0_load 32 = .ok (.dup, 1) := by decide +kernel
theorem dX0_load_33 : decode cX0_load 33 = .ok (.getfield 68, 3) := by decide +kernel
theorem dX0_load_36 : decode cX0_load 36 = .ok (.iconst 1, 1) := by decide +kernel
theorem dX0_load_37 : decode cX0_load 37 = .ok (.isub, 1) := by decide +kernel
theorem dX0_load_38 : decode cX0_load 38 = .ok (.putfield 68, 3) := by decide +kernel
theorem dX0_load_41 : decode cX0_load 41 = .ok (.goto (-41), 3) := by decide +kernel
theorem dX0_load_44 : decode cX0_load 44 = .ok (.aload_n 0, 1) := by decide +kernel
theorem dX0_load_45 : decode cX0_load 45 = .ok (.getfield 68, 3) := by decide +kernel
theorem dX0_load_48 : decode cX0_load 48 = .ok (.iload_n 1, 1) := by decide +kernel
theorem dX0_load_49 : decode cX0_load 49 = .ok (.if_icmp .ge 39, 3) := by decide +kernel
theorem dX0_load_52 : decode cX0_load 52 = .ok (.aload_n 0, 1) := by decide +kernel
theorem dX0_load_53 : decode cX0_load 53 = .ok (.dup, 1) := by decide +kernel
theorem dX0_load_54 : decode cX0_load 54 = .ok (.getfield 68, 3) := by decide +kernel
theorem dX0_load_57 : decode cX0_load 57 = .ok (.iconst 1, 1) := by decide +kernel
theorem dX0_load_58 : decode cX0_load 58 = .ok (.iadd, 1) := by decide +kernel
theorem dX0_load_59 : decode cX0_load 59 = .ok (.putfield 68, 3) := by decide +kernel
theorem dX0_load_62 : decode cX0_load 62 = .ok (.aload_n 0, 1) := by decide +kernel
theorem dX0_load_63 : decode cX0_load 63 = .ok (.aload_n 0, 1) := by decide +kernel
theorem dX0_load_64 : decode cX0_load 64 = .ok (.getfield 68, 3) := by decide +kernel
theorem dX0_load_67 : decode cX0_load 67 = .ok (.bipush 8, 2) := by decide +kernel
theorem dX0_load_69 : decode cX0_load 69 = .ok (.irem, 1) := by decide +kernel
theorem dX0_load_70 : decode cX0_load 70 = .ok (.aload_n 0, 1) := by decide +kernel
theorem dX0_load_71 : decode cX0_load 71 = .ok (.getfield 33, 3) := by decide +kernel
theorem dX0_load_74 : decode cX0_load 74 = .ok (.aload_n 0, 1) := by decide +kernel
theorem dX0_load_75 : decode cX0_load 75 = .ok (.getfield 68, 3) := by decide +kernel
theorem dX0_load_78 : decode cX0_load 78 = .ok (.bipush 8, 2) := by decide +kernel
theorem dX0_load_80 : decode cX0_load 80 = .ok (.irem, 1) := by decide +kernel
theorem dX0_load_81 : decode cX0_load 81 = .ok (.baload, 1) := by decide +kernel
theorem dX0_load_82 : decode cX0_load 82 = .ok (.invokevirtual 64, 3) := by decide +kernel
theorem dX0_load_85 : decode cX0_load 85 = .ok (.goto (-41), 3) := by decide +kernel
theorem dX0_load_88 : decode cX0_load 88 = .ok (.return_, 1) := by decide +kernel
abbrev cX0_make : ByteArray := prog_1_method_8_code
def yX0_make : MethodName := ⟨RX0, "make", "(IZ)V"⟩
theorem dX0_make_0 : decode cX0_make 0 = .ok (.aload_n 0, 1) := by decide +kernel
theorem dX0_make_1 : decode cX0_make 1 = .ok (.getfield 19, 3) := by decide +kernel
theorem dX0_make_4 : decode cX0_make 4 = .ok (.iload_n 1, 1) := by decide +kernel
theorem dX0_make_5 : decode cX0_make 5 = .ok (.baload, 1) := by decide +kernel
theorem dX0_make_6 : decode cX0_make 6 = .ok (.istore_n 3, 1) := by decide +kernel
theorem dX0_make_7 : decode cX0_make 7 = .ok (.iconst 1, 1) := by decide +kernel
theorem dX0_make_8 : decode cX0_make 8 = .ok (.aload_n 0, 1) := by decide +kernel
theorem dX0_make_9 : decode cX0_make 9 = .ok (.getfield 23, 3) := by decide +kernel
theorem dX0_make_12 : decode cX0_make 12 = .ok (.iload_n 1, 1) := by decide +kernel
theorem dX0_make_13 : decode cX0_make 13 = .ok (.baload, 1) := by decide +kernel
theorem dX0_make_14 : decode cX0_make 14 = .ok (.ishl, 1) := by decide +kernel
theorem dX0_make_15 : decode cX0_make 15 = .ok (.istore 4, 2) := by decide +kernel
theorem dX0_make_17 : decode cX0_make 17 = .ok (.aload_n 0, 1) := by decide +kernel
theorem dX0_make_18 : decode cX0_make 18 = .ok (.getfield 26, 3) := by decide +kernel
theorem dX0_make_21 : decode cX0_make 21 = .ok (.iload_n 1, 1) := by decide +kernel
theorem dX0_make_22 : decode cX0_make 22 = .ok (.baload, 1) := by decide +kernel
theorem dX0_make_23 : decode cX0_make 23 = .ok (.istore 5, 2) := by decide +kernel
theorem dX0_make_25 : decode cX0_make 25 = .ok (.iload_n 3, 1) := by decide +kernel
theorem dX0_make_26 : decode cX0_make 26 = .ok (.ifCond .ne 40, 3) := by decide +kernel
theorem dX0_make_29 : decode cX0_make 29 = .ok (.aload_n 0, 1) := by decide +kernel
theorem dX0_make_30 : decode cX0_make 30 = .ok (.getfield 7, 3) := by decide +kernel
theorem dX0_make_33 : decode cX0_make 33 = .ok (.iload 5, 2) := by decide +kernel
theorem dX0_make_35 : decode cX0_make 35 = .ok (.iload_n 2, 1) := by decide +kernel
theorem dX0_make_36 : decode cX0_make 36 = .ok (.ifCond .eq 16, 3) := by decide +kernel
theorem dX0_make_39 : decode cX0_make 39 = .ok (.aload_n 0, 1) := by decide +kernel
theorem dX0_make_40 : decode cX0_make 40 = .ok (.getfield 7, 3) := by decide +kernel
theorem dX0_make_43 : decode cX0_make 43 = .ok (.iload 5, 2) := by decide +kernel
theorem dX0_make_45 : decode cX0_make 45 = .ok (.iaload, 1) := by decide +kernel
theorem dX0_make_46 : decode cX0_make 46 = .ok (.iload 4, 2) := by decide +kernel
theorem dX0_make_48 : decode cX0_make 48 = .ok (.ior, 1) := by decide +kernel
theorem dX0_make_49 : decode cX0_make 49 = .ok (.goto 15, 3) := by decide +kernel
theorem dX0_make_52 : decode cX0_make 52 = .ok (.aload_n 0, 1) := by decide +kernel
theorem dX0_make_53 : decode cX0_make 53 = .ok (.getfield 7, 3) := by decide +kernel
theorem dX0_make_56 : decode cX0_make 56 = .ok (.iload 5, 2) := by decide +kernel
theorem dX0_make_58 : decode cX0_make 58 = .ok (.iaload, 1) := by decide +kernel
theorem dX0_make_59 : decode cX0_make 59 = .ok (.iload 4, 2) := by decide +kernel
theorem dX0_make_61 : decode cX0_make 61 = .ok (.iconst (-1), 1) := by decide +kernel
theorem dX0_make_62 : decode cX0_make 62 = .ok (.ixor, 1) := by decide +kernel
theorem dX0_make_63 : decode cX0_make 63 = .ok (.iand, 1) := by decide +kernel
theorem dX0_make_64 : decode cX0_make 64 = .ok (.iastore, 1) := by decide +kernel
theorem dX0_make_65 : decode cX0_make 65 = .ok (.return_, 1) := by decide +kernel
theorem dX0_make_66 : decode cX0_make 66 = .ok (.iload_n 3, 1) := by decide +kernel
theorem dX0_make_67 : decode cX0_make 67 = .ok (.iconst 1, 1) := by decide +kernel
theorem dX0_make_68 : decode cX0_make 68 = .ok (.if_icmp .ne 42, 3) := by decide +kernel
theorem dX0_make_71 : decode cX0_make 71 = .ok (.aload_n 0, 1) := by decide +kernel
theorem dX0_make_72 : decode cX0_make 72 = .ok (.getfield 13, 3) := by decide +kernel
theorem dX0_make_75 : decode cX0_make 75 = .ok (.iload 5, 2) := by decide +kernel
theorem dX0_make_77 : decode cX0_make 77 = .ok (.iload_n 2, 1) := by decide +kernel
theorem dX0_make_78 : decode cX0_make 78 = .ok (.ifCond .eq 16, 3) := by decide +kernel
theorem dX0_make_81 : decode cX0_make 81 = .ok (.aload_n 0, 1) := by decide +kernel
theorem dX0_make_82 : decode cX0_make 82 = .ok (.getfield 13, 3) := by decide +kernel
theorem dX0_make_85 : decode cX0_make 85 = .ok (.iload 5, 2) := by decide +kernel
theorem dX0_make_87 : decode cX0_make 87 = .ok (.iaload, 1) := by decide +kernel
theorem dX0_make_88 : decode cX0_make 88 = .ok (.iload 4, 2) := by decide +kernel
theorem dX0_make_90 : decode cX0_make 90 = .ok (.ior, 1) := by decide +kernel
theorem dX0_make_91 : decode cX0_make 91 = .ok (.goto 15, 3) := by decide +kernel
theorem dX0_make_94 : decode cX0_make 94 = .ok (.aload_n 0, 1) := by decide +kernel
theorem dX0_make_95 : decode cX0_make 95 = .ok (.getfield 13, 3) := by decide +kernel
theorem dX0_make_98 : decode cX0_make 98 = .ok (.iload 5, 2) := by decide +kernel
theorem dX0_make_100 : decode cX0_make 100 = .ok (.iaload, 1) := by decide +kernel
theorem dX0_make_101 : decode cX0_make 101 = .ok (.iload 4, 2) := by decide +kernel
theorem dX0_make_103 : decode cX0_make 103 = .ok (.iconst (-1), 1) := by decide +kernel
theorem dX0_make_104 : decode cX0_make 104 = .ok (.ixor, 1) := by decide +kernel
theorem dX0_make_105 : decode cX0_make 105 = .ok (.iand, 1) := by decide +kernel
theorem dX0_make_106 : decode cX0_make 106 = .ok (.iastore, 1) := by decide +kernel
theorem dX0_make_107 : decode cX0_make 107 = .ok (.goto 39, 3) := by decide +kernel
theorem dX0_make_110 : decode cX0_make 110 = .ok (.aload_n 0, 1) := by decide +kernel
theorem dX0_make_111 : decode cX0_make 111 = .ok (.getfield 16, 3) := by decide +kernel
theorem dX0_make_114 : decode cX0_make 114 = .ok (.iload 5, 2) := by decide +kernel
theorem dX0_make_116 : decode cX0_make 116 = .ok (.iload_n 2, 1) := by decide +kernel
theorem dX0_make_117 : decode cX0_make 117 = .ok (.ifCond .eq 16, 3) := by decide +kernel
theorem dX0_make_120 : decode cX0_make 120 = .ok (.aload_n 0, 1) := by decide +kernel
theorem dX0_make_121 : decode cX0_make 121 = .ok (.getfield 16, 3) := by decide +kernel
theorem dX0_make_124 : decode cX0_make 124 = .ok (.iload 5, 2) := by decide +kernel
theorem dX0_make_126 : decode cX0_make 126 = .ok (.iaload, 1) := by decide +kernel
theorem dX0_make_127 : decode cX0_make 127 = .ok (.iload 4, 2) := by decide +kernel
theorem dX0_make_129 : decode cX0_make 129 = .ok (.ior, 1) := by decide +kernel
theorem dX0_make_130 : decode cX0_make 130 = .ok (.goto 15, 3) := by decide +kernel
theorem dX0_make_133 : decode cX0_make 133 = .ok (.aload_n 0, 1) := by decide +kernel
theorem dX0_make_134 : decode cX0_make 134 = .ok (.getfield 16, 3) := by decide +kernel
theorem dX0_make_137 : decode cX0_make 137 = .ok (.iload 5, 2) := by decide +kernel
theorem dX0_make_139 : decode cX0_make 139 = .ok (.iaload, 1) := by decide +kernel
theorem dX0_make_140 : decode cX0_make 140 = .ok (.iload 4, 2) := by decide +kernel
theorem dX0_make_142 : decode cX0_make 142 = .ok (.iconst (-1), 1) := by decide +kernel
theorem dX0_make_143 : decode cX0_make 143 = .ok (.ixor, 1) := by decide +kernel
theorem dX0_make_144 : decode cX0_make 144 = .ok (.iand, 1) := by decide +kernel
theorem dX0_make_145 : decode cX0_make 145 = .ok (.iastore, 1) := by decide +kernel
theorem dX0_make_146 : decode cX0_make 146 = .ok (.iconst 0, 1) := by decide +kernel
theorem dX0_make_147 : decode cX0_make 147 = .ok (.istore 6, 2) := by decide +kernel
theorem dX0_make_149 : decode cX0_make 149 = .ok (.iload 6, 2) := by decide +kernel
theorem dX0_make_151 : decode cX0_make 151 = .ok (.bipush 18, 2) := by decide +kernel
theorem dX0_make_153 : decode cX0_make 153 = .ok (.if_icmp .ge 17, 3) := by decide +kernel
theorem dX0_make_156 : decode cX0_make 156 = .ok (.aload_n 0, 1) := by decide +kernel
theorem dX0_make_157 : decode cX0_make 157 = .ok (.getfield 36, 3) := by decide +kernel
theorem dX0_make_160 : decode cX0_make 160 = .ok (.iload 6, 2) := by decide +kernel
theorem dX0_make_162 : decode cX0_make 162 = .ok (.iconst 0, 1) := by decide +kernel
theorem dX0_make_163 : decode cX0_make 163 = .ok (.iastore, 1) := by decide +kernel
theorem dX0_make_164 : decode cX0_make 164 = .ok (.iinc 6 1, 3) := by decide +kernel
theorem dX0_make_167 : decode cX0_make 167 = .ok (.goto (-18), 3) := by decide +kernel
theorem dX0_make_170 : decode cX0_make 170 = .ok (.return_, 1) := by decide +kernel
abbrev cX0_noteChange : ByteArray := prog_1_method_7_code
def yX0_noteChange : MethodName := ⟨RX0, "noteChange", "(IIIZZ)V"⟩
theorem dX0_noteChange_0 : decode cX0_noteChange 0 = .ok (.aload_n 0, 1) := by decide +kernel
theorem dX0_noteChange_1 : decode cX0_noteChange 1 = .ok (.dup, 1) := by decide +kernel
theorem dX0_noteChange_2 : decode cX0_noteChange 2 = .ok (.getfield 52, 3) := by decide +kernel
theorem dX0_noteChange_5 : decode cX0_noteChange 5 = .ok (.iconst 1, 1) := by decide +kernel
theorem dX0_noteChange_6 : decode cX0_noteChange 6 = .ok (.iadd, 1) := by decide +kernel
theorem dX0_noteChange_7 : decode cX0_noteChange 7 = .ok (.putfield 52, 3) := by decide +kernel
theorem dX0_noteChange_10 : decode cX0_noteChange 10 = .ok (.aload_n 0, 1) := by decide +kernel
theorem dX0_noteChange_11 : decode cX0_noteChange 11 = .ok (.getfield 52, 3) := by decide +kernel
theorem dX0_noteChange_14 : decode cX0_noteChange 14 = .ok (.bipush 8, 2) := by decide +kernel
theorem dX0_noteChange_16 : decode cX0_noteChange 16 = .ok (.irem, 1) := by decide +kernel
theorem dX0_noteChange_17 : decode cX0_noteChange 17 = .ok (.istore 6, 2) := by decide +kernel
theorem dX0_noteChange_19 : decode cX0_noteChange 19 = .ok (.aload_n 0, 1) := by decide +kernel
theorem dX0_noteChange_20 : decode cX0_noteChange 20 = .ok (.getfield 19, 3) := by decide +kernel
theorem dX0_noteChange_23 : decode cX0_noteChange 23 = .ok (.iload 6, 2) := by decide +kernel
theorem dX0_noteChange_25 : decode cX0_noteChange 25 = .ok (.iload_n 1, 1) := by decide +kernel
theorem dX0_noteChange_26 : decode cX0_noteChange 26 = .ok (.i2b, 1) := by decide +kernel
theorem dX0_noteChange_27 : decode cX0_noteChange 27 = .ok (.bastore, 1) := by decide +kernel
theorem dX0_noteChange_28 : decode cX0_noteChange 28 = .ok (.aload_n 0, 1) := by decide +kernel
theorem dX0_noteChange_29 : decode cX0_noteChange 29 = .ok (.getfield 23, 3) := by decide +kernel
theorem dX0_noteChange_32 : decode cX0_noteChange 32 = .ok (.iload 6, 2) := by decide +kernel
theorem dX0_noteChange_34 : decode cX0_noteChange 34 = .ok (.iload_n 2, 1) := by decide +kernel
theorem dX0_noteChange_35 : decode cX0_noteChange 35 = .ok (.i2b, 1) := by decide +kernel
theorem dX0_noteChange_36 : decode cX0_noteChange 36 = .ok (.bastore, 1) := by decide +kernel
theorem dX0_noteChange_37 : decode cX0_noteChange 37 = .ok (.aload_n 0, 1) := by decide +kernel
theorem dX0_noteChange_38 : decode cX0_noteChange 38 = .ok (.getfield 26, 3) := by decide +kernel
theorem dX0_noteChange_41 : decode cX0_noteChange 41 = .ok (.iload 6, 2) := by decide +kernel
theorem dX0_noteChange_43 : decode cX0_noteChange 43 = .ok (.iload_n 3, 1) := by decide +kernel
theorem dX0_noteChange_44 : decode cX0_noteChange 44 = .ok (.i2b, 1) := by decide +kernel
theorem dX0_noteChange_45 : decode cX0_noteChange 45 = .ok (.bastore, 1) := by decide +kernel
theorem dX0_noteChange_46 : decode cX0_noteChange 46 = .ok (.aload_n 0, 1) := by decide +kernel
theorem dX0_noteChange_47 : decode cX0_noteChange 47 = .ok (.getfield 29, 3) := by decide +kernel
theorem dX0_noteChange_50 : decode cX0_noteChange 50 = .ok (.iload 6, 2) := by decide +kernel
theorem dX0_noteChange_52 : decode cX0_noteChange 52 = .ok (.iload 4, 2) := by decide +kernel
theorem dX0_noteChange_54 : decode cX0_noteChange 54 = .ok (.bastore, 1) := by decide +kernel
theorem dX0_noteChange_55 : decode cX0_noteChange 55 = .ok (.aload_n 0, 1) := by decide +kernel
theorem dX0_noteChange_56 : decode cX0_noteChange 56 = .ok (.getfield 33, 3) := by decide +kernel
theorem dX0_noteChange_59 : decode cX0_noteChange 59 = .ok (.iload 6, 2) := by decide +kernel
theorem dX0_noteChange_61 : decode cX0_noteChange 61 = .ok (.iload 5, 2) := by decide +kernel
theorem dX0_noteChange_63 : decode cX0_noteChange 63 = .ok (.bastore, 1) := by decide +kernel
theorem dX0_noteChange_64 : decode cX0_noteChange 64 = .ok (.aload_n 0, 1) := by decide +kernel
theorem dX0_noteChange_65 : decode cX0_noteChange 65 = .ok (.iload 6, 2) := by decide +kernel
theorem dX0_noteChange_67 : decode cX0_noteChange 67 = .ok (.iload 5, 2) := by decide +kernel
theorem dX0_noteChange_69 : decode cX0_noteChange 69 = .ok (.invokevirtual 64, 3) := by decide +kernel
theorem dX0_noteChange_72 : decode cX0_noteChange 72 = .ok (.aload_n 0, 1) := by decide +kernel
theorem dX0_noteChange_73 : decode cX0_noteChange 73 = .ok (.aload_n 0, 1) := by decide +kernel
theorem dX0_noteChange_74 : decode cX0_noteChange 74 = .ok (.getfield 52, 3) := by decide +kernel
theorem dX0_noteChange_77 : decode cX0_noteChange 77 = .ok (.putfield 68, 3) := by decide +kernel
theorem dX0_noteChange_80 : decode cX0_noteChange 80 = .ok (.return_, 1) := by decide +kernel
abbrev cX0_nest : ByteArray := prog_1_method_3_code
def yX0_nest : MethodName := ⟨RX0, "nest", "(IIZ)I"⟩
theorem dX0_nest_0 : decode cX0_nest 0 = .ok (.aload_n 0, 1) := by decide +kernel
theorem dX0_nest_1 : decode cX0_nest 1 = .ok (.iload_n 1, 1) := by decide +kernel
theorem dX0_nest_2 : decode cX0_nest 2 = .ok (.invokevirtual 49, 3) := by decide +kernel
theorem dX0_nest_5 : decode cX0_nest 5 = .ok (.ifCond .eq 11, 3) := by decide +kernel
theorem dX0_nest_8 : decode cX0_nest 8 = .ok (.aload_n 0, 1) := by decide +kernel
theorem dX0_nest_9 : decode cX0_nest 9 = .ok (.iload_n 2, 1) := by decide +kernel
theorem dX0_nest_10 : decode cX0_nest 10 = .ok (.invokevirtual 49, 3) := by decide +kernel
theorem dX0_nest_13 : decode cX0_nest 13 = .ok (.ifCond .ne 5, 3) := by decide +kernel
theorem dX0_nest_16 : decode cX0_nest 16 = .ok (.iconst (-1), 1) := by decide +kernel
theorem dX0_nest_17 : decode cX0_nest 17 = .ok (.ireturn, 1) := by decide +kernel
theorem dX0_nest_18 : decode cX0_nest 18 = .ok (.aload_n 0, 1) := by decide +kernel
theorem dX0_nest_19 : decode cX0_nest 19 = .ok (.aload_n 0, 1) := by decide +kernel
theorem dX0_nest_20 : decode cX0_nest 20 = .ok (.getfield 52, 3) := by decide +kernel
theorem dX0_nest_23 : decode cX0_nest 23 = .ok (.invokevirtual 56, 3) := by decide +kernel
theorem dX0_nest_26 : decode cX0_nest 26 = .ok (.aload_n 0, 1) := by decide +kernel
theorem dX0_nest_27 : decode cX0_nest 27 = .ok (.iconst 1, 1) := by decide +kernel
theorem dX0_nest_28 : decode cX0_nest 28 = .ok (.iload_n 1, 1) := by decide +kernel
theorem dX0_nest_29 : decode cX0_nest 29 = .ok (.iload_n 2, 1) := by decide +kernel
theorem dX0_nest_30 : decode cX0_nest 30 = .ok (.aload_n 0, 1) := by decide +kernel
theorem dX0_nest_31 : decode cX0_nest 31 = .ok (.getfield 13, 3) := by decide +kernel
theorem dX0_nest_34 : decode cX0_nest 34 = .ok (.iload_n 2, 1) := by decide +kernel
theorem dX0_nest_35 : decode cX0_nest 35 = .ok (.iaload, 1) := by decide +kernel
theorem dX0_nest_36 : decode cX0_nest 36 = .ok (.iload_n 1, 1) := by decide +kernel
theorem dX0_nest_37 : decode cX0_nest 37 = .ok (.ishr, 1) := by decide +kernel
theorem dX0_nest_38 : decode cX0_nest 38 = .ok (.iconst 1, 1) := by decide +kernel
theorem dX0_nest_39 : decode cX0_nest 39 = .ok (.iand, 1) := by decide +kernel
theorem dX0_nest_40 : decode cX0_nest 40 = .ok (.ifCond .eq 7, 3) := by decide +kernel
theorem dX0_nest_43 : decode cX0_nest 43 = .ok (.iconst 1, 1) := by decide +kernel
theorem dX0_nest_44 : decode cX0_nest 44 = .ok (.goto 4, 3) := by decide +kernel
theorem dX0_nest_47 : decode cX0_nest 47 = .ok (.iconst 0, 1) := by decide +kernel
theorem dX0_nest_48 : decode cX0_nest 48 = .ok (.iload_n 3, 1) := by decide +kernel
theorem dX0_nest_49 : decode cX0_nest 49 = .ok (.invokevirtual 60, 3) := by decide +kernel
theorem dX0_nest_52 : decode cX0_nest 52 = .ok (.aload_n 0, 1) := by decide +kernel
theorem dX0_nest_53 : decode cX0_nest 53 = .ok (.getfield 52, 3) := by decide +kernel
theorem dX0_nest_56 : decode cX0_nest 56 = .ok (.ireturn, 1) := by decide +kernel
abbrev cX0_rule : ByteArray := prog_1_method_4_code
def yX0_rule : MethodName := ⟨RX0, "rule", "(IIZ)I"⟩
theorem dX0_rule_0 : decode cX0_rule 0 = .ok (.iload_n 1, 1) := by decide +kernel
theorem dX0_rule_1 : decode cX0_rule 1 = .ok (.ifCond .lt 22, 3) := by decide +kernel
theorem dX0_rule_4 : decode cX0_rule 4 = .ok (.iload_n 1, 1) := by decide +kernel
theorem dX0_rule_5 : decode cX0_rule 5 = .ok (.iconst 2, 1) := by decide +kernel
theorem dX0_rule_6 : decode cX0_rule 6 = .ok (.if_icmp .gt 17, 3) := by decide +kernel
theorem dX0_rule_9 : decode cX0_rule 9 = .ok (.iload_n 2, 1) := by decide +kernel
theorem dX0_rule_10 : decode cX0_rule 10 = .ok (.ifCond .lt 13, 3) := by decide +kernel
theorem dX0_rule_13 : decode cX0_rule 13 = .ok (.iload_n 2, 1) := by decide +kernel
theorem dX0_rule_14 : decode cX0_rule 14 = .ok (.iconst 2, 1) := by decide +kernel
theorem dX0_rule_15 : decode cX0_rule 15 = .ok (.if_icmp .gt 8, 3) := by decide +kernel
theorem dX0_rule_18 : decode cX0_rule 18 = .ok (.iload_n 1, 1) := by decide +kernel
theorem dX0_rule_19 : decode cX0_rule 19 = .ok (.iload_n 2, 1) := by decide +kernel
theorem dX0_rule_20 : decode cX0_rule 20 = .ok (.if_icmp .ne 5, 3) := by decide +kernel
theorem dX0_rule_23 : decode cX0_rule 23 = .ok (.iconst (-1), 1) := by decide +kernel
theorem dX0_rule_24 : decode cX0_rule 24 = .ok (.ireturn, 1) := by decide +kernel
theorem dX0_rule_25 : decode cX0_rule 25 = .ok (.aload_n 0, 1) := by decide +kernel
theorem dX0_rule_26 : decode cX0_rule 26 = .ok (.aload_n 0, 1) := by decide +kernel
theorem dX0_rule_27 : decode cX0_rule 27 = .ok (.getfield 52, 3) := by decide +kernel
theorem dX0_rule_30 : decode cX0_rule 30 = .ok (.invokevirtual 56, 3) := by decide +kernel
theorem dX0_rule_33 : decode cX0_rule 33 = .ok (.aload_n 0, 1) := by decide +kernel
theorem dX0_rule_34 : decode cX0_rule 34 = .ok (.iconst 2, 1) := by decide +kernel
theorem dX0_rule_35 : decode cX0_rule 35 = .ok (.iload_n 1, 1) := by decide +kernel
theorem dX0_rule_36 : decode cX0_rule 36 = .ok (.iload_n 2, 1) := by decide +kernel
theorem dX0_rule_37 : decode cX0_rule 37 = .ok (.aload_n 0, 1) := by decide +kernel
theorem dX0_rule_38 : decode cX0_rule 38 = .ok (.getfield 16, 3) := by decide +kernel
theorem dX0_rule_41 : decode cX0_rule 41 = .ok (.iload_n 2, 1) := by decide +kernel
theorem dX0_rule_42 : decode cX0_rule 42 = .ok (.iaload, 1) := by decide +kernel
theorem dX0_rule_43 : decode cX0_rule 43 = .ok (.iload_n 1, 1) := by decide +kernel
theorem dX0_rule_44 : decode cX0_rule 44 = .ok (.ishr, 1) := by decide +kernel
theorem dX0_rule_45 : decode cX0_rule 45 = .ok (.iconst 1, 1) := by decide +kernel
theorem dX0_rule_46 : decode cX0_rule 46 = .ok (.iand, 1) := by decide +kernel
theorem dX0_rule_47 : decode cX0_rule 47 = .ok (.ifCond .eq 7, 3) := by decide +kernel
theorem dX0_rule_50 : decode cX0_rule 50 = .ok (.iconst 1, 1) := by decide +kernel
theorem dX0_rule_51 : decode cX0_rule 51 = .ok (.goto 4, 3) := by decide +kernel
theorem dX0_rule_54 : decode cX0_rule 54 = .ok (.iconst 0, 1) := by decide +kernel
theorem dX0_rule_55 : decode cX0_rule 55 = .ok (.iload_n 3, 1) := by decide +kernel
theorem dX0_rule_56 : decode cX0_rule 56 = .ok (.invokevirtual 60, 3) := by decide +kernel
theorem dX0_rule_59 : decode cX0_rule 59 = .ok (.aload_n 0, 1) := by decide +kernel
theorem dX0_rule_60 : decode cX0_rule 60 = .ok (.getfield 52, 3) := by decide +kernel
theorem dX0_rule_63 : decode cX0_rule 63 = .ok (.ireturn, 1) := by decide +kernel
abbrev cX0_latest : ByteArray := prog_1_method_9_code
def yX0_latest : MethodName := ⟨RX0, "latest", "()I"⟩
theorem dX0_latest_0 : decode cX0_latest 0 = .ok (.aload_n 0, 1) := by decide +kernel
theorem dX0_latest_1 : decode cX0_latest 1 = .ok (.getfield 52, 3) := by decide +kernel
theorem dX0_latest_4 : decode cX0_latest 4 = .ok (.ireturn, 1) := by decide +kernel
abbrev cX0_check : ByteArray := prog_1_method_13_code
def yX0_check : MethodName := ⟨RX0, "check", "(III)I"⟩
theorem dX0_check_0 : decode cX0_check 0 = .ok (.aload_n 0, 1) := by decide +kernel
theorem dX0_check_1 : decode cX0_check 1 = .ok (.iload_n 2, 1) := by decide +kernel
theorem dX0_check_2 : decode cX0_check 2 = .ok (.invokevirtual 45, 3) := by decide +kernel
theorem dX0_check_5 : decode cX0_check 5 = .ok (.ifCond .eq 19, 3) := by decide +kernel
theorem dX0_check_8 : decode cX0_check 8 = .ok (.aload_n 0, 1) := by decide +kernel
theorem dX0_check_9 : decode cX0_check 9 = .ok (.iload_n 3, 1) := by decide +kernel
theorem dX0_check_10 : decode cX0_check 10 = .ok (.invokevirtual 49, 3) := by decide +kernel
theorem dX0_check_13 : decode cX0_check 13 = .ok (.ifCond .eq 11, 3) := by decide +kernel
theorem dX0_check_16 : decode cX0_check 16 = .ok (.aload_n 0, 1) := by decide +kernel
theorem dX0_check_17 : decode cX0_check 17 = .ok (.iload_n 1, 1) := by decide +kernel
theorem dX0_check_18 : decode cX0_check 18 = .ok (.invokevirtual 71, 3) := by decide +kernel
theorem dX0_check_21 : decode cX0_check 21 = .ok (.ifCond .ne 5, 3) := by decide +kernel
theorem dX0_check_24 : decode cX0_check 24 = .ok (.iconst (-1), 1) := by decide +kernel
theorem dX0_check_25 : decode cX0_check 25 = .ok (.ireturn, 1) := by decide +kernel
theorem dX0_check_26 : decode cX0_check 26 = .ok (.aload_n 0, 1) := by decide +kernel
theorem dX0_check_27 : decode cX0_check 27 = .ok (.iload_n 1, 1) := by decide +kernel
theorem dX0_check_28 : decode cX0_check 28 = .ok (.invokevirtual 74, 3) := by decide +kernel
theorem dX0_check_31 : decode cX0_check 31 = .ok (.ifCond .ne 6, 3) := by decide +kernel
theorem dX0_check_34 : decode cX0_check 34 = .ok (.bipush (-2), 2) := by decide +kernel
theorem dX0_check_36 : decode cX0_check 36 = .ok (.ireturn, 1) := by decide +kernel
theorem dX0_check_37 : decode cX0_check 37 = .ok (.aload_n 0, 1) := by decide +kernel
theorem dX0_check_38 : decode cX0_check 38 = .ok (.iload_n 1, 1) := by decide +kernel
theorem dX0_check_39 : decode cX0_check 39 = .ok (.invokevirtual 56, 3) := by decide +kernel
theorem dX0_check_42 : decode cX0_check 42 = .ok (.aload_n 0, 1) := by decide +kernel
theorem dX0_check_43 : decode cX0_check 43 = .ok (.iload_n 3, 1) := by decide +kernel
theorem dX0_check_44 : decode cX0_check 44 = .ok (.invokevirtual 77, 3) := by decide +kernel
theorem dX0_check_47 : decode cX0_check 47 = .ok (.iload_n 2, 1) := by decide +kernel
theorem dX0_check_48 : decode cX0_check 48 = .ok (.ishr, 1) := by decide +kernel
theorem dX0_check_49 : decode cX0_check 49 = .ok (.iconst 1, 1) := by decide +kernel
theorem dX0_check_50 : decode cX0_check 50 = .ok (.iand, 1) := by decide +kernel
theorem dX0_check_51 : decode cX0_check 51 = .ok (.ireturn, 1) := by decide +kernel
abbrev cX0_isState : ByteArray := prog_1_method_10_code
def yX0_isState : MethodName := ⟨RX0, "isState", "(I)Z"⟩
theorem dX0_isState_0 : decode cX0_isState 0 = .ok (.iload_n 1, 1) := by decide +kernel
theorem dX0_isState_1 : decode cX0_isState 1 = .ok (.ifCond .lt 15, 3) := by decide +kernel
theorem dX0_isState_4 : decode cX0_isState 4 = .ok (.iload_n 1, 1) := by decide +kernel
theorem dX0_isState_5 : decode cX0_isState 5 = .ok (.aload_n 0, 1) := by decide +kernel
theorem dX0_isState_6 : decode cX0_isState 6 = .ok (.getfield 52, 3) := by decide +kernel
theorem dX0_isState_9 : decode cX0_isState 9 = .ok (.if_icmp .gt 7, 3) := by decide +kernel
theorem dX0_isState_12 : decode cX0_isState 12 = .ok (.iconst 1, 1) := by decide +kernel
theorem dX0_isState_13 : decode cX0_isState 13 = .ok (.goto 4, 3) := by decide +kernel
theorem dX0_isState_16 : decode cX0_isState 16 = .ok (.iconst 0, 1) := by decide +kernel
theorem dX0_isState_17 : decode cX0_isState 17 = .ok (.ireturn, 1) := by decide +kernel
abbrev cX0_isKept : ByteArray := prog_1_method_11_code
def yX0_isKept : MethodName := ⟨RX0, "isKept", "(I)Z"⟩
theorem dX0_isKept_0 : decode cX0_isKept 0 = .ok (.aload_n 0, 1) := by decide +kernel
theorem dX0_isKept_1 : decode cX0_isKept 1 = .ok (.iload_n 1, 1) := by decide +kernel
theorem dX0_isKept_2 : decode cX0_isKept 2 = .ok (.invokevirtual 71, 3) := by decide +kernel
theorem dX0_isKept_5 : decode cX0_isKept 5 = .ok (.ifCond .eq 18, 3) := by decide +kernel
theorem dX0_isKept_8 : decode cX0_isKept 8 = .ok (.iload_n 1, 1) := by decide +kernel
theorem dX0_isKept_9 : decode cX0_isKept 9 = .ok (.aload_n 0, 1) := by decide +kernel
theorem dX0_isKept_10 : decode cX0_isKept 10 = .ok (.getfield 52, 3) := by decide +kernel
theorem dX0_isKept_13 : decode cX0_isKept 13 = .ok (.bipush 8, 2) := by decide +kernel
theorem dX0_isKept_15 : decode cX0_isKept 15 = .ok (.isub, 1) := by decide +kernel
theorem dX0_isKept_16 : decode cX0_isKept 16 = .ok (.if_icmp .le 7, 3) := by decide +kernel
theorem dX0_isKept_19 : decode cX0_isKept 19 = .ok (.iconst 1, 1) := by decide +kernel
theorem dX0_isKept_20 : decode cX0_isKept 20 = .ok (.goto 4, 3) := by decide +kernel
theorem dX0_isKept_23 : decode cX0_isKept 23 = .ok (.iconst 0, 1) := by decide +kernel
theorem dX0_isKept_24 : decode cX0_isKept 24 = .ok (.ireturn, 1) := by decide +kernel
abbrev cX0_membersOf : ByteArray := prog_1_method_19_code
def yX0_membersOf : MethodName := ⟨RX0, "membersOf", "(I)I"⟩
theorem dX0_membersOf_0 : decode cX0_membersOf 0 = .ok (.aload_n 0, 1) := by decide +kernel
theorem dX0_membersOf_1 : decode cX0_membersOf 1 = .ok (.iload_n 1, 1) := by decide +kernel
theorem dX0_membersOf_2 : decode cX0_membersOf 2 = .ok (.invokevirtual 81, 3) := by decide +kernel
theorem dX0_membersOf_5 : decode cX0_membersOf 5 = .ok (.istore_n 2, 1) := by decide +kernel
theorem dX0_membersOf_6 : decode cX0_membersOf 6 = .ok (.iconst 0, 1) := by decide +kernel
theorem dX0_membersOf_7 : decode cX0_membersOf 7 = .ok (.istore_n 3, 1) := by decide +kernel
theorem dX0_membersOf_8 : decode cX0_membersOf 8 = .ok (.iconst 0, 1) := by decide +kernel
theorem dX0_membersOf_9 : decode cX0_membersOf 9 = .ok (.istore 4, 2) := by decide +kernel
theorem dX0_membersOf_11 : decode cX0_membersOf 11 = .ok (.iload 4, 2) := by decide +kernel
theorem dX0_membersOf_13 : decode cX0_membersOf 13 = .ok (.bipush 18, 2) := by decide +kernel
theorem dX0_membersOf_15 : decode cX0_membersOf 15 = .ok (.if_icmp .ge 28, 3) := by decide +kernel
theorem dX0_membersOf_18 : decode cX0_membersOf 18 = .ok (.iload_n 2, 1) := by decide +kernel
theorem dX0_membersOf_19 : decode cX0_membersOf 19 = .ok (.iload 4, 2) := by decide +kernel
theorem dX0_membersOf_21 : decode cX0_membersOf 21 = .ok (.ishr, 1) := by decide +kernel
theorem dX0_membersOf_22 : decode cX0_membersOf 22 = .ok (.iconst 1, 1) := by decide +kernel
theorem dX0_membersOf_23 : decode cX0_membersOf 23 = .ok (.iand, 1) := by decide +kernel
theorem dX0_membersOf_24 : decode cX0_membersOf 24 = .ok (.ifCond .eq 13, 3) := by decide +kernel
theorem dX0_membersOf_27 : decode cX0_membersOf 27 = .ok (.iload_n 3, 1) := by decide +kernel
theorem dX0_membersOf_28 : decode cX0_membersOf 28 = .ok (.aload_n 0, 1) := by decide +kernel
theorem dX0_membersOf_29 : decode cX0_membersOf 29 = .ok (.getfield 7, 3) := by decide +kernel
theorem dX0_membersOf_32 : decode cX0_membersOf 32 = .ok (.iload 4, 2) := by decide +kernel
theorem dX0_membersOf_34 : decode cX0_membersOf 34 = .ok (.iaload, 1) := by decide +kernel
theorem dX0_membersOf_35 : decode cX0_membersOf 35 = .ok (.ior, 1) := by decide +kernel
theorem dX0_membersOf_36 : decode cX0_membersOf 36 = .ok (.istore_n 3, 1) := by decide +kernel
theorem dX0_membersOf_37 : decode cX0_membersOf 37 = .ok (.iinc 4 1, 3) := by decide +kernel
theorem dX0_membersOf_40 : decode cX0_membersOf 40 = .ok (.goto (-29), 3) := by decide +kernel
theorem dX0_membersOf_43 : decode cX0_membersOf 43 = .ok (.iload_n 3, 1) := by decide +kernel
theorem dX0_membersOf_44 : decode cX0_membersOf 44 = .ok (.ireturn, 1) := by decide +kernel
abbrev cX0_sourcesTo : ByteArray := prog_1_method_20_code
def yX0_sourcesTo : MethodName := ⟨RX0, "sourcesTo", "(I)I"⟩
theorem dX0_sourcesTo_0 : decode cX0_sourcesTo 0 = .ok (.aload_n 0, 1) := by decide +kernel
theorem dX0_sourcesTo_1 : decode cX0_sourcesTo 1 = .ok (.getfield 36, 3) := by decide +kernel
theorem dX0_sourcesTo_4 : decode cX0_sourcesTo 4 = .ok (.iload_n 1, 1) := by decide +kernel
theorem dX0_sourcesTo_5 : decode cX0_sourcesTo 5 = .ok (.iaload, 1) := by decide +kernel
theorem dX0_sourcesTo_6 : decode cX0_sourcesTo 6 = .ok (.bipush 18, 2) := by decide +kernel
theorem dX0_sourcesTo_8 : decode cX0_sourcesTo 8 = .ok (.ishr, 1) := by decide +kernel
theorem dX0_sourcesTo_9 : decode cX0_sourcesTo 9 = .ok (.iconst 1, 1) := by decide +kernel
theorem dX0_sourcesTo_10 : decode cX0_sourcesTo 10 = .ok (.iand, 1) := by decide +kernel
theorem dX0_sourcesTo_11 : decode cX0_sourcesTo 11 = .ok (.ifCond .eq 13, 3) := by decide +kernel
theorem dX0_sourcesTo_14 : decode cX0_sourcesTo 14 = .ok (.aload_n 0, 1) := by decide +kernel
theorem dX0_sourcesTo_15 : decode cX0_sourcesTo 15 = .ok (.getfield 36, 3) := by decide +kernel
theorem dX0_sourcesTo_18 : decode cX0_sourcesTo 18 = .ok (.iload_n 1, 1) := by decide +kernel
theorem dX0_sourcesTo_19 : decode cX0_sourcesTo 19 = .ok (.iaload, 1) := by decide +kernel
theorem dX0_sourcesTo_20 : decode cX0_sourcesTo 20 = .ok (.ldc 84, 2) := by decide +kernel
theorem dX0_sourcesTo_22 : decode cX0_sourcesTo 22 = .ok (.iand, 1) := by decide +kernel
theorem dX0_sourcesTo_23 : decode cX0_sourcesTo 23 = .ok (.ireturn, 1) := by decide +kernel
theorem dX0_sourcesTo_24 : decode cX0_sourcesTo 24 = .ok (.iconst 1, 1) := by decide +kernel
theorem dX0_sourcesTo_25 : decode cX0_sourcesTo 25 = .ok (.iload_n 1, 1) := by decide +kernel
theorem dX0_sourcesTo_26 : decode cX0_sourcesTo 26 = .ok (.ishl, 1) := by decide +kernel
theorem dX0_sourcesTo_27 : decode cX0_sourcesTo 27 = .ok (.istore_n 2, 1) := by decide +kernel
theorem dX0_sourcesTo_28 : decode cX0_sourcesTo 28 = .ok (.aload_n 0, 1) := by decide +kernel
theorem dX0_sourcesTo_29 : decode cX0_sourcesTo 29 = .ok (.iconst 1, 1) := by decide +kernel
theorem dX0_sourcesTo_30 : decode cX0_sourcesTo 30 = .ok (.putfield 85, 3) := by decide +kernel
theorem dX0_sourcesTo_33 : decode cX0_sourcesTo 33 = .ok (.aload_n 0, 1) := by decide +kernel
theorem dX0_sourcesTo_34 : decode cX0_sourcesTo 34 = .ok (.getfield 39, 3) := by decide +kernel
theorem dX0_sourcesTo_37 : decode cX0_sourcesTo 37 = .ok (.iconst 0, 1) := by decide +kernel
theorem dX0_sourcesTo_38 : decode cX0_sourcesTo 38 = .ok (.iload_n 1, 1) := by decide +kernel
theorem dX0_sourcesTo_39 : decode cX0_sourcesTo 39 = .ok (.i2b, 1) := by decide +kernel
theorem dX0_sourcesTo_40 : decode cX0_sourcesTo 40 = .ok (.bastore, 1) := by decide +kernel
theorem dX0_sourcesTo_41 : decode cX0_sourcesTo 41 = .ok (.aload_n 0, 1) := by decide +kernel
theorem dX0_sourcesTo_42 : decode cX0_sourcesTo 42 = .ok (.getfield 85, 3) := by decide +kernel
theorem dX0_sourcesTo_45 : decode cX0_sourcesTo 45 = .ok (.ifCond .le 129, 3) := by decide +kernel
theorem dX0_sourcesTo_48 : decode cX0_sourcesTo 48 = .ok (.aload_n 0, 1) := by decide +kernel
theorem dX0_sourcesTo_49 : decode cX0_sourcesTo 49 = .ok (.dup, 1) := by decide +kernel
theorem dX0_sourcesTo_50 : decode cX0_sourcesTo 50 = .ok (.getfield 85, 3) := by decide +kernel
theorem dX0_sourcesTo_53 : decode cX0_sourcesTo 53 = .ok (.iconst 1, 1) := by decide +kernel
theorem dX0_sourcesTo_54 : decode cX0_sourcesTo 54 = .ok (.isub, 1) := by decide +kernel
theorem dX0_sourcesTo_55 : decode cX0_sourcesTo 55 = .ok (.putfield 85, 3) := by decide +kernel
theorem dX0_sourcesTo_58 : decode cX0_sourcesTo 58 = .ok (.aload_n 0, 1) := by decide +kernel
theorem dX0_sourcesTo_59 : decode cX0_sourcesTo 59 = .ok (.getfield 39, 3) := by decide +kernel
theorem dX0_sourcesTo_62 : decode cX0_sourcesTo 62 = .ok (.aload_n 0, 1) := by decide +kernel
theorem dX0_sourcesTo_63 : decode cX0_sourcesTo 63 = .ok (.getfield 85, 3) := by decide +kernel
theorem dX0_sourcesTo_66 : decode cX0_sourcesTo 66 = .ok (.baload, 1) := by decide +kernel
theorem dX0_sourcesTo_67 : decode cX0_sourcesTo 67 = .ok (.istore_n 3, 1) := by decide +kernel
theorem dX0_sourcesTo_68 : decode cX0_sourcesTo 68 = .ok (.aload_n 0, 1) := by decide +kernel
theorem dX0_sourcesTo_69 : decode cX0_sourcesTo 69 = .ok (.getfield 36, 3) := by decide +kernel
theorem dX0_sourcesTo_72 : decode cX0_sourcesTo 72 = .ok (.iload_n 3, 1) := by decide +kernel
theorem dX0_sourcesTo_73 : decode cX0_sourcesTo 73 = .ok (.iaload, 1) := by decide +kernel
theorem dX0_sourcesTo_74 : decode cX0_sourcesTo 74 = .ok (.istore 4, 2) := by decide +kernel
theorem dX0_sourcesTo_76 : decode cX0_sourcesTo 76 = .ok (.iload 4, 2) := by decide +kernel
theorem dX0_sourcesTo_78 : decode cX0_sourcesTo 78 = .ok (.bipush 18, 2) := by decide +kernel
theorem dX0_sourcesTo_80 : decode cX0_sourcesTo 80 = .ok (.ishr, 1) := by decide +kernel
theorem dX0_sourcesTo_81 : decode cX0_sourcesTo 81 = .ok (.iconst 1, 1) := by decide +kernel
theorem dX0_sourcesTo_82 : decode cX0_sourcesTo 82 = .ok (.iand, 1) := by decide +kernel
theorem dX0_sourcesTo_83 : decode cX0_sourcesTo 83 = .ok (.ifCond .eq 14, 3) := by decide +kernel
theorem dX0_sourcesTo_86 : decode cX0_sourcesTo 86 = .ok (.iload_n 2, 1) := by decide +kernel
theorem dX0_sourcesTo_87 : decode cX0_sourcesTo 87 = .ok (.iload 4, 2) := by decide +kernel
theorem dX0_sourcesTo_89 : decode cX0_sourcesTo 89 = .ok (.ldc 84, 2) := by decide +kernel
theorem dX0_sourcesTo_91 : decode cX0_sourcesTo 91 = .ok (.iand, 1) := by decide +kernel
theorem dX0_sourcesTo_92 : decode cX0_sourcesTo 92 = .ok (.ior, 1) := by decide +kernel
theorem dX0_sourcesTo_93 : decode cX0_sourcesTo 93 = .ok (.istore_n 2, 1) := by decide +kernel
theorem dX0_sourcesTo_94 : decode cX0_sourcesTo 94 = .ok (.goto (-53), 3) := by decide +kernel
theorem dX0_sourcesTo_97 : decode cX0_sourcesTo 97 = .ok (.aload_n 0, 1) := by decide +kernel
theorem dX0_sourcesTo_98 : decode cX0_sourcesTo 98 = .ok (.getfield 13, 3) := by decide +kernel
theorem dX0_sourcesTo_101 : decode cX0_sourcesTo 101 = .ok (.iload_n 3, 1) := by decide +kernel
theorem dX0_sourcesTo_102 : decode cX0_sourcesTo 102 = .ok (.iaload, 1) := by decide +kernel
theorem dX0_sourcesTo_103 : decode cX0_sourcesTo 103 = .ok (.aload_n 0, 1) := by decide +kernel
theorem dX0_sourcesTo_104 : decode cX0_sourcesTo 104 = .ok (.iload_n 3, 1) := by decide +kernel
theorem dX0_sourcesTo_105 : decode cX0_sourcesTo 105 = .ok (.invokevirtual 88, 3) := by decide +kernel
theorem dX0_sourcesTo_108 : decode cX0_sourcesTo 108 = .ok (.ior, 1) := by decide +kernel
theorem dX0_sourcesTo_109 : decode cX0_sourcesTo 109 = .ok (.iload_n 2, 1) := by decide +kernel
theorem dX0_sourcesTo_110 : decode cX0_sourcesTo 110 = .ok (.iconst (-1), 1) := by decide +kernel
theorem dX0_sourcesTo_111 : decode cX0_sourcesTo 111 = .ok (.ixor, 1) := by decide +kernel
theorem dX0_sourcesTo_112 : decode cX0_sourcesTo 112 = .ok (.iand, 1) := by decide +kernel
theorem dX0_sourcesTo_113 : decode cX0_sourcesTo 113 = .ok (.istore 5, 2) := by decide +kernel
theorem dX0_sourcesTo_115 : decode cX0_sourcesTo 115 = .ok (.iload_n 2, 1) := by decide +kernel
theorem dX0_sourcesTo_116 : decode cX0_sourcesTo 116 = .ok (.iload 5, 2) := by decide +kernel
theorem dX0_sourcesTo_118 : decode cX0_sourcesTo 118 = .ok (.ior, 1) := by decide +kernel
theorem dX0_sourcesTo_119 : decode cX0_sourcesTo 119 = .ok (.istore_n 2, 1) := by decide +kernel
theorem dX0_sourcesTo_120 : decode cX0_sourcesTo 120 = .ok (.iconst 0, 1) := by decide +kernel
theorem dX0_sourcesTo_121 : decode cX0_sourcesTo 121 = .ok (.istore 6, 2) := by decide +kernel
theorem dX0_sourcesTo_123 : decode cX0_sourcesTo 123 = .ok (.iload 6, 2) := by decide +kernel
theorem dX0_sourcesTo_125 : decode cX0_sourcesTo 125 = .ok (.bipush 18, 2) := by decide +kernel
theorem dX0_sourcesTo_127 : decode cX0_sourcesTo 127 = .ok (.if_icmp .ge 44, 3) := by decide +kernel
theorem dX0_sourcesTo_130 : decode cX0_sourcesTo 130 = .ok (.iload 5, 2) := by decide +kernel
theorem dX0_sourcesTo_132 : decode cX0_sourcesTo 132 = .ok (.iload 6, 2) := by decide +kernel
theorem dX0_sourcesTo_134 : decode cX0_sourcesTo 134 = .ok (.ishr, 1) := by decide +kernel
theorem dX0_sourcesTo_135 : decode cX0_sourcesTo 135 = .ok (.iconst 1, 1) := by decide +kernel
theorem dX0_sourcesTo_136 : decode cX0_sourcesTo 136 = .ok (.iand, 1) := by decide +kernel
theorem dX0_sourcesTo_137 : decode cX0_sourcesTo 137 = .ok (.ifCond .ne 6, 3) := by decide +kernel
theorem dX0_sourcesTo_140 : decode cX0_sourcesTo 140 = .ok (.goto 25, 3) := by decide +kernel
theorem dX0_sourcesTo_143 : decode cX0_sourcesTo 143 = .ok (.aload_n 0, 1) := by decide +kernel
theorem dX0_sourcesTo_144 : decode cX0_sourcesTo 144 = .ok (.getfield 39, 3) := by decide +kernel
theorem dX0_sourcesTo_147 : decode cX0_sourcesTo 147 = .ok (.aload_n 0, 1) := by decide +kernel
theorem dX0_sourcesTo_148 : decode cX0_sourcesTo 148 = .ok (.getfield 85, 3) := by decide +kernel
theorem dX0_sourcesTo_151 : decode cX0_sourcesTo 151 = .ok (.iload 6, 2) := by decide +kernel
theorem dX0_sourcesTo_153 : decode cX0_sourcesTo 153 = .ok (.i2b, 1) := by decide +kernel
theorem dX0_sourcesTo_154 : decode cX0_sourcesTo 154 = .ok (.bastore, 1) := by decide +kernel
theorem dX0_sourcesTo_155 : decode cX0_sourcesTo 155 = .ok (.aload_n 0, 1) := by decide +kernel
theorem dX0_sourcesTo_156 : decode cX0_sourcesTo 156 = .ok (.dup, 1) := by decide +kernel
theorem dX0_sourcesTo_157 : decode cX0_sourcesTo 157 = .ok (.getfield 85, 3) := by decide +kernel
theorem dX0_sourcesTo_160 : decode cX0_sourcesTo 160 = .ok (.iconst 1, 1) := by decide +kernel
theorem dX0_sourcesTo_161 : decode cX0_sourcesTo 161 = .ok (.iadd, 1) := by decide +kernel
theorem dX0_sourcesTo_162 : decode cX0_sourcesTo 162 = .ok (.putfield 85, 3) := by decide +kernel
theorem dX0_sourcesTo_165 : decode cX0_sourcesTo 165 = .ok (.iinc 6 1, 3) := by decide +kernel
theorem dX0_sourcesTo_168 : decode cX0_sourcesTo 168 = .ok (.goto (-45), 3) := by decide +kernel
theorem dX0_sourcesTo_171 : decode cX0_sourcesTo 171 = .ok (.goto (-130), 3) := by decide +kernel
theorem dX0_sourcesTo_174 : decode cX0_sourcesTo 174 = .ok (.aload_n 0, 1) := by decide +kernel
theorem dX0_sourcesTo_175 : decode cX0_sourcesTo 175 = .ok (.getfield 36, 3) := by decide +kernel
theorem dX0_sourcesTo_178 : decode cX0_sourcesTo 178 = .ok (.iload_n 1, 1) := by decide +kernel
theorem dX0_sourcesTo_179 : decode cX0_sourcesTo 179 = .ok (.iload_n 2, 1) := by decide +kernel
theorem dX0_sourcesTo_180 : decode cX0_sourcesTo 180 = .ok (.ldc 91, 2) := by decide +kernel
theorem dX0_sourcesTo_182 : decode cX0_sourcesTo 182 = .ok (.ior, 1) := by decide +kernel
theorem dX0_sourcesTo_183 : decode cX0_sourcesTo 183 = .ok (.iastore, 1) := by decide +kernel
theorem dX0_sourcesTo_184 : decode cX0_sourcesTo 184 = .ok (.iload_n 2, 1) := by decide +kernel
theorem dX0_sourcesTo_185 : decode cX0_sourcesTo 185 = .ok (.ireturn, 1) := by decide +kernel
abbrev cX0_byRules : ByteArray := prog_1_method_21_code
def yX0_byRules : MethodName := ⟨RX0, "byRules", "(I)I"⟩
theorem dX0_byRules_0 : decode cX0_byRules 0 = .ok (.aload_n 0, 1) := by decide +kernel
theorem dX0_byRules_1 : decode cX0_byRules 1 = .ok (.getfield 16, 3) := by decide +kernel
theorem dX0_byRules_4 : decode cX0_byRules 4 = .ok (.iload_n 1, 1) := by decide +kernel
theorem dX0_byRules_5 : decode cX0_byRules 5 = .ok (.iconst 3, 1) := by decide +kernel
theorem dX0_byRules_6 : decode cX0_byRules 6 = .ok (.irem, 1) := by decide +kernel
theorem dX0_byRules_7 : decode cX0_byRules 7 = .ok (.iaload, 1) := by decide +kernel
theorem dX0_byRules_8 : decode cX0_byRules 8 = .ok (.iload_n 1, 1) := by decide +kernel
theorem dX0_byRules_9 : decode cX0_byRules 9 = .ok (.iconst 3, 1) := by decide +kernel
theorem dX0_byRules_10 : decode cX0_byRules 10 = .ok (.idiv, 1) := by decide +kernel
theorem dX0_byRules_11 : decode cX0_byRules 11 = .ok (.iconst 3, 1) := by decide +kernel
theorem dX0_byRules_12 : decode cX0_byRules 12 = .ok (.imul, 1) := by decide +kernel
theorem dX0_byRules_13 : decode cX0_byRules 13 = .ok (.ishl, 1) := by decide +kernel
theorem dX0_byRules_14 : decode cX0_byRules 14 = .ok (.ireturn, 1) := by decide +kernel
abbrev cX0_members : ByteArray := prog_1_method_14_code
def yX0_members : MethodName := ⟨RX0, "members", "(II)I"⟩
theorem dX0_members_0 : decode cX0_members 0 = .ok (.aload_n 0, 1) := by decide +kernel
theorem dX0_members_1 : decode cX0_members 1 = .ok (.iload_n 2, 1) := by decide +kernel
theorem dX0_members_2 : decode cX0_members 2 = .ok (.invokevirtual 49, 3) := by decide +kernel
theorem dX0_members_5 : decode cX0_members 5 = .ok (.ifCond .eq 11, 3) := by decide +kernel
theorem dX0_members_8 : decode cX0_members 8 = .ok (.aload_n 0, 1) := by decide +kernel
theorem dX0_members_9 : decode cX0_members 9 = .ok (.iload_n 1, 1) := by decide +kernel
theorem dX0_members_10 : decode cX0_members 10 = .ok (.invokevirtual 71, 3) := by decide +kernel
theorem dX0_members_13 : decode cX0_members 13 = .ok (.ifCond .ne 5, 3) := by decide +kernel
theorem dX0_members_16 : decode cX0_members 16 = .ok (.iconst (-1), 1) := by decide +kernel
theorem dX0_members_17 : decode cX0_members 17 = .ok (.ireturn, 1) := by decide +kernel
theorem dX0_members_18 : decode cX0_members 18 = .ok (.aload_n 0, 1) := by decide +kernel
theorem dX0_members_19 : decode cX0_members 19 = .ok (.iload_n 1, 1) := by decide +kernel
theorem dX0_members_20 : decode cX0_members 20 = .ok (.invokevirtual 74, 3) := by decide +kernel
theorem dX0_members_23 : decode cX0_members 23 = .ok (.ifCond .ne 6, 3) := by decide +kernel
theorem dX0_members_26 : decode cX0_members 26 = .ok (.bipush (-2), 2) := by decide +kernel
theorem dX0_members_28 : decode cX0_members 28 = .ok (.ireturn, 1) := by decide +kernel
theorem dX0_members_29 : decode cX0_members 29 = .ok (.aload_n 0, 1) := by decide +kernel
theorem dX0_members_30 : decode cX0_members 30 = .ok (.iload_n 1, 1) := by decide +kernel
theorem dX0_members_31 : decode cX0_members 31 = .ok (.invokevirtual 56, 3) := by decide +kernel
theorem dX0_members_34 : decode cX0_members 34 = .ok (.aload_n 0, 1) := by decide +kernel
theorem dX0_members_35 : decode cX0_members 35 = .ok (.iload_n 2, 1) := by decide +kernel
theorem dX0_members_36 : decode cX0_members 36 = .ok (.invokevirtual 77, 3) := by decide +kernel
theorem dX0_members_39 : decode cX0_members 39 = .ok (.ireturn, 1) := by decide +kernel
abbrev cX0_groups : ByteArray := prog_1_method_15_code
def yX0_groups : MethodName := ⟨RX0, "groups", "(II)I"⟩
theorem dX0_groups_0 : decode cX0_groups 0 = .ok (.aload_n 0, 1) := by decide +kernel
theorem dX0_groups_1 : decode cX0_groups 1 = .ok (.iload_n 2, 1) := by decide +kernel
theorem dX0_groups_2 : decode cX0_groups 2 = .ok (.invokevirtual 45, 3) := by decide +kernel
theorem dX0_groups_5 : decode cX0_groups 5 = .ok (.ifCond .eq 11, 3) := by decide +kernel
theorem dX0_groups_8 : decode cX0_groups 8 = .ok (.aload_n 0, 1) := by decide +kernel
theorem dX0_groups_9 : decode cX0_groups 9 = .ok (.iload_n 1, 1) := by decide +kernel
theorem dX0_groups_10 : decode cX0_groups 10 = .ok (.invokevirtual 71, 3) := by decide +kernel
theorem dX0_groups_13 : decode cX0_groups 13 = .ok (.ifCond .ne 5, 3) := by decide +kernel
theorem dX0_groups_16 : decode cX0_groups 16 = .ok (.iconst (-1), 1) := by decide +kernel
theorem dX0_groups_17 : decode cX0_groups 17 = .ok (.ireturn, 1) := by decide +kernel
theorem dX0_groups_18 : decode cX0_groups 18 = .ok (.aload_n 0, 1) := by decide +kernel
theorem dX0_groups_19 : decode cX0_groups 19 = .ok (.iload_n 1, 1) := by decide +kernel
theorem dX0_groups_20 : decode cX0_groups 20 = .ok (.invokevirtual 74, 3) := by decide +kernel
theorem dX0_groups_23 : decode cX0_groups 23 = .ok (.ifCond .ne 6, 3) := by decide +kernel
theorem dX0_groups_26 : decode cX0_groups 26 = .ok (.bipush (-2), 2) := by decide +kernel
theorem dX0_groups_28 : decode cX0_groups 28 = .ok (.ireturn, 1) := by decide +kernel
theorem dX0_groups_29 : decode cX0_groups 29 = .ok (.aload_n 0, 1) := by decide +kernel
theorem dX0_groups_30 : decode cX0_groups 30 = .ok (.iload_n 1, 1) := by decide +kernel
theorem dX0_groups_31 : decode cX0_groups 31 = .ok (.invokevirtual 56, 3) := by decide +kernel
theorem dX0_groups_34 : decode cX0_groups 34 = .ok (.iconst 0, 1) := by decide +kernel
theorem dX0_groups_35 : decode cX0_groups 35 = .ok (.istore_n 3, 1) := by decide +kernel
theorem dX0_groups_36 : decode cX0_groups 36 = .ok (.iconst 0, 1) := by decide +kernel
theorem dX0_groups_37 : decode cX0_groups 37 = .ok (.istore 4, 2) := by decide +kernel
theorem dX0_groups_39 : decode cX0_groups 39 = .ok (.iload 4, 2) := by decide +kernel
theorem dX0_groups_41 : decode cX0_groups 41 = .ok (.bipush 18, 2) := by decide +kernel
theorem dX0_groups_43 : decode cX0_groups 43 = .ok (.if_icmp .ge 29, 3) := by decide +kernel
theorem dX0_groups_46 : decode cX0_groups 46 = .ok (.aload_n 0, 1) := by decide +kernel
theorem dX0_groups_47 : decode cX0_groups 47 = .ok (.iload 4, 2) := by decide +kernel
theorem dX0_groups_49 : decode cX0_groups 49 = .ok (.invokevirtual 77, 3) := by decide +kernel
theorem dX0_groups_52 : decode cX0_groups 52 = .ok (.iload_n 2, 1) := by decide +kernel
theorem dX0_groups_53 : decode cX0_groups 53 = .ok (.ishr, 1) := by decide +kernel
theorem dX0_groups_54 : decode cX0_groups 54 = .ok (.iconst 1, 1) := by decide +kernel
theorem dX0_groups_55 : decode cX0_groups 55 = .ok (.iand, 1) := by decide +kernel
theorem dX0_groups_56 : decode cX0_groups 56 = .ok (.ifCond .eq 10, 3) := by decide +kernel
theorem dX0_groups_59 : decode cX0_groups 59 = .ok (.iload_n 3, 1) := by decide +kernel
theorem dX0_groups_60 : decode cX0_groups 60 = .ok (.iconst 1, 1) := by decide +kernel
theorem dX0_groups_61 : decode cX0_groups 61 = .ok (.iload 4, 2) := by decide +kernel
theorem dX0_groups_63 : decode cX0_groups 63 = .ok (.ishl, 1) := by decide +kernel
theorem dX0_groups_64 : decode cX0_groups 64 = .ok (.ior, 1) := by decide +kernel
theorem dX0_groups_65 : decode cX0_groups 65 = .ok (.istore_n 3, 1) := by decide +kernel
theorem dX0_groups_66 : decode cX0_groups 66 = .ok (.iinc 4 1, 3) := by decide +kernel
theorem dX0_groups_69 : decode cX0_groups 69 = .ok (.goto (-30), 3) := by decide +kernel
theorem dX0_groups_72 : decode cX0_groups 72 = .ok (.iload_n 3, 1) := by decide +kernel
theorem dX0_groups_73 : decode cX0_groups 73 = .ok (.ireturn, 1) := by decide +kernel
abbrev cX0_sources : ByteArray := prog_1_method_16_code
def yX0_sources : MethodName := ⟨RX0, "sources", "(II)I"⟩
theorem dX0_sources_0 : decode cX0_sources 0 = .ok (.aload_n 0, 1) := by decide +kernel
theorem dX0_sources_1 : decode cX0_sources 1 = .ok (.iload_n 2, 1) := by decide +kernel
theorem dX0_sources_2 : decode cX0_sources 2 = .ok (.invokevirtual 49, 3) := by decide +kernel
theorem dX0_sources_5 : decode cX0_sources 5 = .ok (.ifCond .eq 11, 3) := by decide +kernel
theorem dX0_sources_8 : decode cX0_sources 8 = .ok (.aload_n 0, 1) := by decide +kernel
theorem dX0_sources_9 : decode cX0_sources 9 = .ok (.iload_n 1, 1) := by decide +kernel
theorem dX0_sources_10 : decode cX0_sources 10 = .ok (.invokevirtual 71, 3) := by decide +kernel
theorem dX0_sources_13 : decode cX0_sources 13 = .ok (.ifCond .ne 5, 3) := by decide +kernel
theorem dX0_sources_16 : decode cX0_sources 16 = .ok (.iconst (-1), 1) := by decide +kernel
theorem dX0_sources_17 : decode cX0_sources 17 = .ok (.ireturn, 1) := by decide +kernel
theorem dX0_sources_18 : decode cX0_sources 18 = .ok (.aload_n 0, 1) := by decide +kernel
theorem dX0_sources_19 : decode cX0_sources 19 = .ok (.iload_n 1, 1) := by decide +kernel
theorem dX0_sources_20 : decode cX0_sources 20 = .ok (.invokevirtual 74, 3) := by decide +kernel
theorem dX0_sources_23 : decode cX0_sources 23 = .ok (.ifCond .ne 6, 3) := by decide +kernel
theorem dX0_sources_26 : decode cX0_sources 26 = .ok (.bipush (-2), 2) := by decide +kernel
theorem dX0_sources_28 : decode cX0_sources 28 = .ok (.ireturn, 1) := by decide +kernel
theorem dX0_sources_29 : decode cX0_sources 29 = .ok (.aload_n 0, 1) := by decide +kernel
theorem dX0_sources_30 : decode cX0_sources 30 = .ok (.iload_n 1, 1) := by decide +kernel
theorem dX0_sources_31 : decode cX0_sources 31 = .ok (.invokevirtual 56, 3) := by decide +kernel
theorem dX0_sources_34 : decode cX0_sources 34 = .ok (.aload_n 0, 1) := by decide +kernel
theorem dX0_sources_35 : decode cX0_sources 35 = .ok (.iload_n 2, 1) := by decide +kernel
theorem dX0_sources_36 : decode cX0_sources 36 = .ok (.invokevirtual 81, 3) := by decide +kernel
theorem dX0_sources_39 : decode cX0_sources 39 = .ok (.ireturn, 1) := by decide +kernel
abbrev cX0_changed : ByteArray := prog_1_method_17_code
def yX0_changed : MethodName := ⟨RX0, "changed", "(II)I"⟩
theorem dX0_changed_0 : decode cX0_changed 0 = .ok (.aload_n 0, 1) := by decide +kernel
theorem dX0_changed_1 : decode cX0_changed 1 = .ok (.iload_n 1, 1) := by decide +kernel
theorem dX0_changed_2 : decode cX0_changed 2 = .ok (.invokevirtual 71, 3) := by decide +kernel
theorem dX0_changed_5 : decode cX0_changed 5 = .ok (.ifCond .eq 11, 3) := by decide +kernel
theorem dX0_changed_8 : decode cX0_changed 8 = .ok (.aload_n 0, 1) := by decide +kernel
theorem dX0_changed_9 : decode cX0_changed 9 = .ok (.iload_n 2, 1) := by decide +kernel
theorem dX0_changed_10 : decode cX0_changed 10 = .ok (.invokevirtual 71, 3) := by decide +kernel
theorem dX0_changed_13 : decode cX0_changed 13 = .ok (.ifCond .ne 5, 3) := by decide +kernel
theorem dX0_changed_16 : decode cX0_changed 16 = .ok (.iconst (-1), 1) := by decide +kernel
theorem dX0_changed_17 : decode cX0_changed 17 = .ok (.ireturn, 1) := by decide +kernel
theorem dX0_changed_18 : decode cX0_changed 18 = .ok (.aload_n 0, 1) := by decide +kernel
theorem dX0_changed_19 : decode cX0_changed 19 = .ok (.iload_n 1, 1) := by decide +kernel
theorem dX0_changed_20 : decode cX0_changed 20 = .ok (.invokevirtual 74, 3) := by decide +kernel
theorem dX0_changed_23 : decode cX0_changed 23 = .ok (.ifCond .eq 11, 3) := by decide +kernel
theorem dX0_changed_26 : decode cX0_changed 26 = .ok (.aload_n 0, 1) := by decide +kernel
theorem dX0_changed_27 : decode cX0_changed 27 = .ok (.iload_n 2, 1) := by decide +kernel
theorem dX0_changed_28 : decode cX0_changed 28 = .ok (.invokevirtual 74, 3) := by decide +kernel
theorem dX0_changed_31 : decode cX0_changed 31 = .ok (.ifCond .ne 6, 3) := by decide +kernel
theorem dX0_changed_34 : decode cX0_changed 34 = .ok (.bipush (-2), 2) := by decide +kernel
theorem dX0_changed_36 : decode cX0_changed 36 = .ok (.ireturn, 1) := by decide +kernel
theorem dX0_changed_37 : decode cX0_changed 37 = .ok (.aload_n 0, 1) := by decide +kernel
theorem dX0_changed_38 : decode cX0_changed 38 = .ok (.iload_n 1, 1) := by decide +kernel
theorem dX0_changed_39 : decode cX0_changed 39 = .ok (.invokevirtual 56, 3) := by decide +kernel
theorem dX0_changed_42 : decode cX0_changed 42 = .ok (.iconst 0, 1) := by decide +kernel
theorem dX0_changed_43 : decode cX0_changed 43 = .ok (.istore_n 3, 1) := by decide +kernel
theorem dX0_changed_44 : decode cX0_changed 44 = .ok (.iload_n 3, 1) := by decide +kernel
theorem dX0_changed_45 : decode cX0_changed 45 = .ok (.bipush 18, 2) := by decide +kernel
theorem dX0_changed_47 : decode cX0_changed 47 = .ok (.if_icmp .ge 20, 3) := by decide +kernel
theorem dX0_changed_50 : decode cX0_changed 50 = .ok (.aload_n 0, 1) := by decide +kernel
theorem dX0_changed_51 : decode cX0_changed 51 = .ok (.getfield 42, 3) := by decide +kernel
theorem dX0_changed_54 : decode cX0_changed 54 = .ok (.iload_n 3, 1) := by decide +kernel
theorem dX0_changed_55 : decode cX0_changed 55 = .ok (.aload_n 0, 1) := by decide +kernel
theorem dX0_changed_56 : decode cX0_changed 56 = .ok (.iload_n 3, 1) := by decide +kernel
theorem dX0_changed_57 : decode cX0_changed 57 = .ok (.invokevirtual 77, 3) := by decide +kernel
theorem dX0_changed_60 : decode cX0_changed 60 = .ok (.iastore, 1) := by decide +kernel
theorem dX0_changed_61 : decode cX0_changed 61 = .ok (.iinc 3 1, 3) := by decide +kernel
theorem dX0_changed_64 : decode cX0_changed 64 = .ok (.goto (-20), 3) := by decide +kernel
theorem dX0_changed_67 : decode cX0_changed 67 = .ok (.aload_n 0, 1) := by decide +kernel
theorem dX0_changed_68 : decode cX0_changed 68 = .ok (.iload_n 2, 1) := by decide +kernel
theorem dX0_changed_69 : decode cX0_changed 69 = .ok (.invokevirtual 56, 3) := by decide +kernel
theorem dX0_changed_72 : decode cX0_changed 72 = .ok (.iconst 0, 1) := by decide +kernel
theorem dX0_changed_73 : decode cX0_changed 73 = .ok (.istore_n 3, 1) := by decide +kernel
theorem dX0_changed_74 : decode cX0_changed 74 = .ok (.iconst 0, 1) := by decide +kernel
theorem dX0_changed_75 : decode cX0_changed 75 = .ok (.istore 4, 2) := by decide +kernel
theorem dX0_changed_77 : decode cX0_changed 77 = .ok (.iload 4, 2) := by decide +kernel
theorem dX0_changed_79 : decode cX0_changed 79 = .ok (.bipush 18, 2) := by decide +kernel
theorem dX0_changed_81 : decode cX0_changed 81 = .ok (.if_icmp .ge 51, 3) := by decide +kernel
theorem dX0_changed_84 : decode cX0_changed 84 = .ok (.aload_n 0, 1) := by decide +kernel
theorem dX0_changed_85 : decode cX0_changed 85 = .ok (.iload 4, 2) := by decide +kernel
theorem dX0_changed_87 : decode cX0_changed 87 = .ok (.invokevirtual 77, 3) := by decide +kernel
theorem dX0_changed_90 : decode cX0_changed 90 = .ok (.istore 5, 2) := by decide +kernel
theorem dX0_changed_92 : decode cX0_changed 92 = .ok (.iconst 0, 1) := by decide +kernel
theorem dX0_changed_93 : decode cX0_changed 93 = .ok (.istore 6, 2) := by decide +kernel
theorem dX0_changed_95 : decode cX0_changed 95 = .ok (.iload 6, 2) := by decide +kernel
theorem dX0_changed_97 : decode cX0_changed 97 = .ok (.bipush 6, 2) := by decide +kernel
theorem dX0_changed_99 : decode cX0_changed 99 = .ok (.if_icmp .ge 27, 3) := by decide +kernel
theorem dX0_changed_102 : decode cX0_changed 102 = .ok (.iload_n 3, 1) := by decide +kernel
theorem dX0_changed_103 : decode cX0_changed 103 = .ok (.iload 5, 2) := by decide +kernel
theorem dX0_changed_105 : decode cX0_changed 105 = .ok (.aload_n 0, 1) := by decide +kernel
theorem dX0_changed_106 : decode cX0_changed 106 = .ok (.getfield 42, 3) := by decide +kernel
theorem dX0_changed_109 : decode cX0_changed 109 = .ok (.iload 4, 2) := by decide +kernel
theorem dX0_changed_111 : decode cX0_changed 111 = .ok (.iaload, 1) := by decide +kernel
theorem dX0_changed_112 : decode cX0_changed 112 = .ok (.ixor, 1) := by decide +kernel
theorem dX0_changed_113 : decode cX0_changed 113 = .ok (.iload 6, 2) := by decide +kernel
theorem dX0_changed_115 : decode cX0_changed 115 = .ok (.ishr, 1) := by decide +kernel
theorem dX0_changed_116 : decode cX0_changed 116 = .ok (.iconst 1, 1) := by decide +kernel
theorem dX0_changed_117 : decode cX0_changed 117 = .ok (.iand, 1) := by decide +kernel
theorem dX0_changed_118 : decode cX0_changed 118 = .ok (.iadd, 1) := by decide +kernel
theorem dX0_changed_119 : decode cX0_changed 119 = .ok (.istore_n 3, 1) := by decide +kernel
theorem dX0_changed_120 : decode cX0_changed 120 = .ok (.iinc 6 1, 3) := by decide +kernel
theorem dX0_changed_123 : decode cX0_changed 123 = .ok (.goto (-28), 3) := by decide +kernel
theorem dX0_changed_126 : decode cX0_changed 126 = .ok (.iinc 4 1, 3) := by decide +kernel
theorem dX0_changed_129 : decode cX0_changed 129 = .ok (.goto (-52), 3) := by decide +kernel
theorem dX0_changed_132 : decode cX0_changed 132 = .ok (.iload_n 3, 1) := by decide +kernel
theorem dX0_changed_133 : decode cX0_changed 133 = .ok (.ireturn, 1) := by decide +kernel
abbrev cX0_since : ByteArray := prog_1_method_18_code
def yX0_since : MethodName := ⟨RX0, "since", "(III)I"⟩
theorem dX0_since_0 : decode cX0_since 0 = .ok (.aload_n 0, 1) := by decide +kernel
theorem dX0_since_1 : decode cX0_since 1 = .ok (.iload_n 1, 1) := by decide +kernel
theorem dX0_since_2 : decode cX0_since 2 = .ok (.invokevirtual 45, 3) := by decide +kernel
theorem dX0_since_5 : decode cX0_since 5 = .ok (.ifCond .eq 19, 3) := by decide +kernel
theorem dX0_since_8 : decode cX0_since 8 = .ok (.aload_n 0, 1) := by decide +kernel
theorem dX0_since_9 : decode cX0_since 9 = .ok (.iload_n 2, 1) := by decide +kernel
theorem dX0_since_10 : decode cX0_since 10 = .ok (.invokevirtual 49, 3) := by decide +kernel
theorem dX0_since_13 : decode cX0_since 13 = .ok (.ifCond .eq 11, 3) := by decide +kernel
theorem dX0_since_16 : decode cX0_since 16 = .ok (.aload_n 0, 1) := by decide +kernel
theorem dX0_since_17 : decode cX0_since 17 = .ok (.iload_n 3, 1) := by decide +kernel
theorem dX0_since_18 : decode cX0_since 18 = .ok (.invokevirtual 71, 3) := by decide +kernel
theorem dX0_since_21 : decode cX0_since 21 = .ok (.ifCond .ne 5, 3) := by decide +kernel
theorem dX0_since_24 : decode cX0_since 24 = .ok (.iconst (-1), 1) := by decide +kernel
theorem dX0_since_25 : decode cX0_since 25 = .ok (.ireturn, 1) := by decide +kernel
theorem dX0_since_26 : decode cX0_since 26 = .ok (.aload_n 0, 1) := by decide +kernel
theorem dX0_since_27 : decode cX0_since 27 = .ok (.getfield 52, 3) := by decide +kernel
theorem dX0_since_30 : decode cX0_since 30 = .ok (.bipush 8, 2) := by decide +kernel
theorem dX0_since_32 : decode cX0_since 32 = .ok (.isub, 1) := by decide +kernel
theorem dX0_since_33 : decode cX0_since 33 = .ok (.iconst 1, 1) := by decide +kernel
theorem dX0_since_34 : decode cX0_since 34 = .ok (.iadd, 1) := by decide +kernel
theorem dX0_since_35 : decode cX0_since 35 = .ok (.istore 4, 2) := by decide +kernel
theorem dX0_since_37 : decode cX0_since 37 = .ok (.iload_n 3, 1) := by decide +kernel
theorem dX0_since_38 : decode cX0_since 38 = .ok (.iload 4, 2) := by decide +kernel
theorem dX0_since_40 : decode cX0_since 40 = .ok (.if_icmp .ge 8, 3) := by decide +kernel
theorem dX0_since_43 : decode cX0_since 43 = .ok (.iload 4, 2) := by decide +kernel
theorem dX0_since_45 : decode cX0_since 45 = .ok (.goto 4, 3) := by decide +kernel
theorem dX0_since_48 : decode cX0_since 48 = .ok (.iload_n 3, 1) := by decide +kernel
theorem dX0_since_49 : decode cX0_since 49 = .ok (.istore 5, 2) := by decide +kernel
theorem dX0_since_51 : decode cX0_since 51 = .ok (.iload 5, 2) := by decide +kernel
theorem dX0_since_53 : decode cX0_since 53 = .ok (.istore 6, 2) := by decide +kernel
theorem dX0_since_55 : decode cX0_since 55 = .ok (.iload 6, 2) := by decide +kernel
theorem dX0_since_57 : decode cX0_since 57 = .ok (.aload_n 0, 1) := by decide +kernel
theorem dX0_since_58 : decode cX0_since 58 = .ok (.getfield 52, 3) := by decide +kernel
theorem dX0_since_61 : decode cX0_since 61 = .ok (.if_icmp .gt 30, 3) := by decide +kernel
theorem dX0_since_64 : decode cX0_since 64 = .ok (.aload_n 0, 1) := by decide +kernel
theorem dX0_since_65 : decode cX0_since 65 = .ok (.iload 6, 2) := by decide +kernel
theorem dX0_since_67 : decode cX0_since 67 = .ok (.invokevirtual 56, 3) := by decide +kernel
theorem dX0_since_70 : decode cX0_since 70 = .ok (.aload_n 0, 1) := by decide +kernel
theorem dX0_since_71 : decode cX0_since 71 = .ok (.iload_n 2, 1) := by decide +kernel
theorem dX0_since_72 : decode cX0_since 72 = .ok (.invokevirtual 77, 3) := by decide +kernel
theorem dX0_since_75 : decode cX0_since 75 = .ok (.iload_n 1, 1) := by decide +kernel
theorem dX0_since_76 : decode cX0_since 76 = .ok (.ishr, 1) := by decide +kernel
theorem dX0_since_77 : decode cX0_since 77 = .ok (.iconst 1, 1) := by decide +kernel
theorem dX0_since_78 : decode cX0_since 78 = .ok (.iand, 1) := by decide +kernel
theorem dX0_since_79 : decode cX0_since 79 = .ok (.ifCond .eq 6, 3) := by decide +kernel
theorem dX0_since_82 : decode cX0_since 82 = .ok (.iload 6, 2) := by decide +kernel
theorem dX0_since_84 : decode cX0_since 84 = .ok (.ireturn, 1) := by decide +kernel
theorem dX0_since_85 : decode cX0_since 85 = .ok (.iinc 6 1, 3) := by decide +kernel
theorem dX0_since_88 : decode cX0_since 88 = .ok (.goto (-33), 3) := by decide +kernel
theorem dX0_since_91 : decode cX0_since 91 = .ok (.bipush (-3), 2) := by decide +kernel
theorem dX0_since_93 : decode cX0_since 93 = .ok (.ireturn, 1) := by decide +kernel
theorem q20 : (Jvm.Cond.initialized "RelationTuples") ∈ lw_all := lw_g (lw_at lw_m0 1 rfl) rfl
theorem q23 : (Jvm.Cond.instantiable "RelationTuples" (14 : Nat)) ∈ lw_all := lw_g (lw_at lw_m0 4 rfl) rfl
theorem q25 : (Jvm.Cond.instanceMethod ({ cls := "RelationTuples", name := "<init>", desc := "()V" } : Jvm.MethodName)) ∈ lw_all := lw_g (lw_at lw_m0 6 rfl) rfl
theorem q26 : (Jvm.Cond.code ({ cls := "RelationTuples", name := "<init>", desc := "()V" } : Jvm.MethodName) prog_1_method_1_code (1 : Nat) (Option.none : Option Jvm.ClassFile.FieldType)) ∈ lw_all := lw_g (lw_at lw_m0 7 rfl) rfl
theorem q27 : (Jvm.Cond.methodLink "RelationTuples" (1 : Nat) ({ cls := "java/lang/Object", name := "<init>", desc := "()V" } : Jvm.MethodName)) ∈ lw_all := lw_g (lw_at lw_m0 8 rfl) rfl
theorem q30 : (Jvm.Cond.fieldLink "RelationTuples" (7 : Nat) "RelationTuples" "entered" "[I") ∈ lw_all := lw_g (lw_at lw_m0 11 rfl) rfl
theorem q31 : (Jvm.Cond.fieldLink "RelationTuples" (13 : Nat) "RelationTuples" "nested" "[I") ∈ lw_all := lw_g (lw_at lw_m0 12 rfl) rfl
theorem q32 : (Jvm.Cond.fieldLink "RelationTuples" (16 : Nat) "RelationTuples" "ruledBy" "[I") ∈ lw_all := lw_g (lw_at lw_m0 13 rfl) rfl
theorem q33 : (Jvm.Cond.fieldLink "RelationTuples" (68 : Nat) "RelationTuples" "loaded" "I") ∈ lw_all := lw_g (lw_at lw_m0 14 rfl) rfl
theorem q34 : (Jvm.Cond.fieldLink "RelationTuples" (52 : Nat) "RelationTuples" "latestState" "I") ∈ lw_all := lw_g (lw_at lw_m0 15 rfl) rfl
theorem q35 : (Jvm.Cond.fieldLink "RelationTuples" (19 : Nat) "RelationTuples" "sortOf" "[B") ∈ lw_all := lw_g (lw_at lw_m0 16 rfl) rfl
theorem q36 : (Jvm.Cond.fieldLink "RelationTuples" (23 : Nat) "RelationTuples" "partOf" "[B") ∈ lw_all := lw_g (lw_at lw_m0 17 rfl) rfl
theorem q37 : (Jvm.Cond.fieldLink "RelationTuples" (26 : Nat) "RelationTuples" "placeOf" "[B") ∈ lw_all := lw_g (lw_at lw_m0 18 rfl) rfl
theorem q38 : (Jvm.Cond.fieldLink "RelationTuples" (29 : Nat) "RelationTuples" "beforeOf" "[Z") ∈ lw_all := lw_g (lw_at lw_m0 19 rfl) rfl
theorem q39 : (Jvm.Cond.fieldLink "RelationTuples" (33 : Nat) "RelationTuples" "afterOf" "[Z") ∈ lw_all := lw_g (lw_at lw_m0 20 rfl) rfl
theorem q40 : (Jvm.Cond.fieldLink "RelationTuples" (36 : Nat) "RelationTuples" "sourcesOf" "[I") ∈ lw_all := lw_g (lw_at lw_m0 21 rfl) rfl
theorem q41 : (Jvm.Cond.fieldLink "RelationTuples" (85 : Nat) "RelationTuples" "waiting" "I") ∈ lw_all := lw_g (lw_at lw_m0 22 rfl) rfl
theorem q42 : (Jvm.Cond.fieldLink "RelationTuples" (39 : Nat) "RelationTuples" "waitGroup" "[B") ∈ lw_all := lw_g (lw_at lw_m0 23 rfl) rfl
theorem q43 : (Jvm.Cond.fieldLink "RelationTuples" (42 : Nat) "RelationTuples" "compared" "[I") ∈ lw_all := lw_g (lw_at lw_m0 24 rfl) rfl
theorem q44 : (Jvm.Cond.laysFinal "RelationTuples" "RelationTuples" "entered" "[I") ∈ lw_all := lw_g (lw_at lw_m0 25 rfl) rfl
theorem q45 : (Jvm.Cond.soleField "RelationTuples" "entered") ∈ lw_all := lw_g (lw_at lw_m0 26 rfl) rfl
theorem q46 : (Jvm.Cond.laysFinal "RelationTuples" "RelationTuples" "nested" "[I") ∈ lw_all := lw_g (lw_at lw_m0 27 rfl) rfl
theorem q47 : (Jvm.Cond.soleField "RelationTuples" "nested") ∈ lw_all := lw_g (lw_at lw_m0 28 rfl) rfl
theorem q48 : (Jvm.Cond.laysFinal "RelationTuples" "RelationTuples" "ruledBy" "[I") ∈ lw_all := lw_g (lw_at lw_m0 29 rfl) rfl
theorem q49 : (Jvm.Cond.soleField "RelationTuples" "ruledBy") ∈ lw_all := lw_g (lw_at lw_m0 30 rfl) rfl
theorem q50 : (Jvm.Cond.lays "RelationTuples" "RelationTuples" "loaded" "I") ∈ lw_all := lw_g (lw_at lw_m0 31 rfl) rfl
theorem q51 : (Jvm.Cond.soleField "RelationTuples" "loaded") ∈ lw_all := lw_g (lw_at lw_m0 32 rfl) rfl
theorem q52 : (Jvm.Cond.lays "RelationTuples" "RelationTuples" "latestState" "I") ∈ lw_all := lw_g (lw_at lw_m0 33 rfl) rfl
theorem q53 : (Jvm.Cond.soleField "RelationTuples" "latestState") ∈ lw_all := lw_g (lw_at lw_m0 34 rfl) rfl
theorem q54 : (Jvm.Cond.laysFinal "RelationTuples" "RelationTuples" "sortOf" "[B") ∈ lw_all := lw_g (lw_at lw_m0 35 rfl) rfl
theorem q55 : (Jvm.Cond.soleField "RelationTuples" "sortOf") ∈ lw_all := lw_g (lw_at lw_m0 36 rfl) rfl
theorem q56 : (Jvm.Cond.laysFinal "RelationTuples" "RelationTuples" "partOf" "[B") ∈ lw_all := lw_g (lw_at lw_m0 37 rfl) rfl
theorem q57 : (Jvm.Cond.soleField "RelationTuples" "partOf") ∈ lw_all := lw_g (lw_at lw_m0 38 rfl) rfl
theorem q58 : (Jvm.Cond.laysFinal "RelationTuples" "RelationTuples" "placeOf" "[B") ∈ lw_all := lw_g (lw_at lw_m0 39 rfl) rfl
theorem q59 : (Jvm.Cond.soleField "RelationTuples" "placeOf") ∈ lw_all := lw_g (lw_at lw_m0 40 rfl) rfl
theorem q60 : (Jvm.Cond.laysFinal "RelationTuples" "RelationTuples" "beforeOf" "[Z") ∈ lw_all := lw_g (lw_at lw_m0 41 rfl) rfl
theorem q61 : (Jvm.Cond.soleField "RelationTuples" "beforeOf") ∈ lw_all := lw_g (lw_at lw_m0 42 rfl) rfl
theorem q62 : (Jvm.Cond.laysFinal "RelationTuples" "RelationTuples" "afterOf" "[Z") ∈ lw_all := lw_g (lw_at lw_m0 43 rfl) rfl
theorem q63 : (Jvm.Cond.soleField "RelationTuples" "afterOf") ∈ lw_all := lw_g (lw_at lw_m0 44 rfl) rfl
theorem q64 : (Jvm.Cond.laysFinal "RelationTuples" "RelationTuples" "sourcesOf" "[I") ∈ lw_all := lw_g (lw_at lw_m0 45 rfl) rfl
theorem q65 : (Jvm.Cond.soleField "RelationTuples" "sourcesOf") ∈ lw_all := lw_g (lw_at lw_m0 46 rfl) rfl
theorem q66 : (Jvm.Cond.lays "RelationTuples" "RelationTuples" "waiting" "I") ∈ lw_all := lw_g (lw_at lw_m0 47 rfl) rfl
theorem q67 : (Jvm.Cond.soleField "RelationTuples" "waiting") ∈ lw_all := lw_g (lw_at lw_m0 48 rfl) rfl
theorem q68 : (Jvm.Cond.laysFinal "RelationTuples" "RelationTuples" "waitGroup" "[B") ∈ lw_all := lw_g (lw_at lw_m0 49 rfl) rfl
theorem q69 : (Jvm.Cond.soleField "RelationTuples" "waitGroup") ∈ lw_all := lw_g (lw_at lw_m0 50 rfl) rfl
theorem q70 : (Jvm.Cond.laysFinal "RelationTuples" "RelationTuples" "compared" "[I") ∈ lw_all := lw_g (lw_at lw_m0 51 rfl) rfl
theorem q71 : (Jvm.Cond.soleField "RelationTuples" "compared") ∈ lw_all := lw_g (lw_at lw_m0 52 rfl) rfl
theorem q72 : (Jvm.Cond.superclass "RelationTuples" "java/lang/Object") ∈ lw_all := lw_g (lw_at lw_m0 53 rfl) rfl
theorem q77 : (Jvm.Cond.instanceMethod ({ cls := "RelationTuples", name := "enter", desc := "(IIZ)I" } : Jvm.MethodName)) ∈ lw_all := lw_g (lw_at lw_m0 58 rfl) rfl
theorem q78 : (Jvm.Cond.selects "RelationTuples" ({ cls := "RelationTuples", name := "enter", desc := "(IIZ)I" } : Jvm.MethodName) ({ cls := "RelationTuples", name := "enter", desc := "(IIZ)I" } : Jvm.MethodName)) ∈ lw_all := lw_g (lw_at lw_m0 59 rfl) rfl
theorem q79 : (Jvm.Cond.code ({ cls := "RelationTuples", name := "enter", desc := "(IIZ)I" } : Jvm.MethodName) prog_1_method_2_code (4 : Nat) (Option.some Jvm.ClassFile.FieldType.int)) ∈ lw_all := lw_g (lw_at lw_m0 60 rfl) rfl
theorem q80 : (Jvm.Cond.methodLink "RelationTuples" (45 : Nat) ({ cls := "RelationTuples", name := "isPerson", desc := "(I)Z" } : Jvm.MethodName)) ∈ lw_all := lw_g (lw_at lw_m0 61 rfl) rfl
theorem q81 : (Jvm.Cond.privateMethod ({ cls := "RelationTuples", name := "isPerson", desc := "(I)Z" } : Jvm.MethodName)) ∈ lw_tbl := lw_at lw_m0 62 rfl
theorem q82 : (Jvm.Cond.instanceMethod ({ cls := "RelationTuples", name := "isPerson", desc := "(I)Z" } : Jvm.MethodName)) ∈ lw_all := lw_g (lw_at lw_m0 63 rfl) rfl
theorem q83 : (Jvm.Cond.code ({ cls := "RelationTuples", name := "isPerson", desc := "(I)Z" } : Jvm.MethodName) prog_1_method_5_code (2 : Nat) (Option.some Jvm.ClassFile.FieldType.boolean)) ∈ lw_all := lw_g (lw_at lw_m0 64 rfl) rfl
theorem q84 : (Jvm.Cond.methodLink "RelationTuples" (49 : Nat) ({ cls := "RelationTuples", name := "isGroup", desc := "(I)Z" } : Jvm.MethodName)) ∈ lw_all := lw_g (lw_at lw_m0 65 rfl) rfl
theorem q85 : (Jvm.Cond.privateMethod ({ cls := "RelationTuples", name := "isGroup", desc := "(I)Z" } : Jvm.MethodName)) ∈ lw_tbl := lw_at lw_m0 66 rfl
theorem q86 : (Jvm.Cond.instanceMethod ({ cls := "RelationTuples", name := "isGroup", desc := "(I)Z" } : Jvm.MethodName)) ∈ lw_all := lw_g (lw_at lw_m0 67 rfl) rfl
theorem q87 : (Jvm.Cond.code ({ cls := "RelationTuples", name := "isGroup", desc := "(I)Z" } : Jvm.MethodName) prog_1_method_6_code (2 : Nat) (Option.some Jvm.ClassFile.FieldType.boolean)) ∈ lw_all := lw_g (lw_at lw_m0 68 rfl) rfl
theorem q88 : (Jvm.Cond.methodLink "RelationTuples" (56 : Nat) ({ cls := "RelationTuples", name := "load", desc := "(I)V" } : Jvm.MethodName)) ∈ lw_all := lw_g (lw_at lw_m0 69 rfl) rfl
theorem q89 : (Jvm.Cond.privateMethod ({ cls := "RelationTuples", name := "load", desc := "(I)V" } : Jvm.MethodName)) ∈ lw_tbl := lw_at lw_m0 70 rfl
theorem q90 : (Jvm.Cond.instanceMethod ({ cls := "RelationTuples", name := "load", desc := "(I)V" } : Jvm.MethodName)) ∈ lw_all := lw_g (lw_at lw_m0 71 rfl) rfl
theorem q91 : (Jvm.Cond.code ({ cls := "RelationTuples", name := "load", desc := "(I)V" } : Jvm.MethodName) prog_1_method_12_code (2 : Nat) (Option.none : Option Jvm.ClassFile.FieldType)) ∈ lw_all := lw_g (lw_at lw_m0 72 rfl) rfl
theorem q92 : (Jvm.Cond.methodLink "RelationTuples" (64 : Nat) ({ cls := "RelationTuples", name := "make", desc := "(IZ)V" } : Jvm.MethodName)) ∈ lw_all := lw_g (lw_at lw_m0 73 rfl) rfl
theorem q93 : (Jvm.Cond.privateMethod ({ cls := "RelationTuples", name := "make", desc := "(IZ)V" } : Jvm.MethodName)) ∈ lw_tbl := lw_at lw_m0 74 rfl
theorem q94 : (Jvm.Cond.instanceMethod ({ cls := "RelationTuples", name := "make", desc := "(IZ)V" } : Jvm.MethodName)) ∈ lw_all := lw_g (lw_at lw_m0 75 rfl) rfl
theorem q95 : (Jvm.Cond.code ({ cls := "RelationTuples", name := "make", desc := "(IZ)V" } : Jvm.MethodName) prog_1_method_8_code (7 : Nat) (Option.none : Option Jvm.ClassFile.FieldType)) ∈ lw_all := lw_g (lw_at lw_m0 76 rfl) rfl
theorem q96 : (Jvm.Cond.methodLink "RelationTuples" (60 : Nat) ({ cls := "RelationTuples", name := "noteChange", desc := "(IIIZZ)V" } : Jvm.MethodName)) ∈ lw_all := lw_g (lw_at lw_m0 77 rfl) rfl
theorem q97 : (Jvm.Cond.privateMethod ({ cls := "RelationTuples", name := "noteChange", desc := "(IIIZZ)V" } : Jvm.MethodName)) ∈ lw_tbl := lw_at lw_m0 78 rfl
theorem q98 : (Jvm.Cond.instanceMethod ({ cls := "RelationTuples", name := "noteChange", desc := "(IIIZZ)V" } : Jvm.MethodName)) ∈ lw_all := lw_g (lw_at lw_m0 79 rfl) rfl
theorem q99 : (Jvm.Cond.code ({ cls := "RelationTuples", name := "noteChange", desc := "(IIIZZ)V" } : Jvm.MethodName) prog_1_method_7_code (7 : Nat) (Option.none : Option Jvm.ClassFile.FieldType)) ∈ lw_all := lw_g (lw_at lw_m0 80 rfl) rfl
theorem q101 : (Jvm.Cond.instanceMethod ({ cls := "RelationTuples", name := "nest", desc := "(IIZ)I" } : Jvm.MethodName)) ∈ lw_all := lw_g (lw_at lw_m0 82 rfl) rfl
theorem q102 : (Jvm.Cond.selects "RelationTuples" ({ cls := "RelationTuples", name := "nest", desc := "(IIZ)I" } : Jvm.MethodName) ({ cls := "RelationTuples", name := "nest", desc := "(IIZ)I" } : Jvm.MethodName)) ∈ lw_all := lw_g (lw_at lw_m0 83 rfl) rfl
theorem q103 : (Jvm.Cond.code ({ cls := "RelationTuples", name := "nest", desc := "(IIZ)I" } : Jvm.MethodName) prog_1_method_3_code (4 : Nat) (Option.some Jvm.ClassFile.FieldType.int)) ∈ lw_all := lw_g (lw_at lw_m0 84 rfl) rfl
theorem q105 : (Jvm.Cond.instanceMethod ({ cls := "RelationTuples", name := "rule", desc := "(IIZ)I" } : Jvm.MethodName)) ∈ lw_all := lw_g (lw_at lw_m0 86 rfl) rfl
theorem q106 : (Jvm.Cond.selects "RelationTuples" ({ cls := "RelationTuples", name := "rule", desc := "(IIZ)I" } : Jvm.MethodName) ({ cls := "RelationTuples", name := "rule", desc := "(IIZ)I" } : Jvm.MethodName)) ∈ lw_all := lw_g (lw_at lw_m0 87 rfl) rfl
theorem q107 : (Jvm.Cond.code ({ cls := "RelationTuples", name := "rule", desc := "(IIZ)I" } : Jvm.MethodName) prog_1_method_4_code (4 : Nat) (Option.some Jvm.ClassFile.FieldType.int)) ∈ lw_all := lw_g (lw_at lw_m0 88 rfl) rfl
theorem q109 : (Jvm.Cond.instanceMethod ({ cls := "RelationTuples", name := "latest", desc := "()I" } : Jvm.MethodName)) ∈ lw_all := lw_g (lw_at lw_m0 90 rfl) rfl
theorem q110 : (Jvm.Cond.selects "RelationTuples" ({ cls := "RelationTuples", name := "latest", desc := "()I" } : Jvm.MethodName) ({ cls := "RelationTuples", name := "latest", desc := "()I" } : Jvm.MethodName)) ∈ lw_all := lw_g (lw_at lw_m0 91 rfl) rfl
theorem q111 : (Jvm.Cond.code ({ cls := "RelationTuples", name := "latest", desc := "()I" } : Jvm.MethodName) prog_1_method_9_code (1 : Nat) (Option.some Jvm.ClassFile.FieldType.int)) ∈ lw_all := lw_g (lw_at lw_m0 92 rfl) rfl
theorem q113 : (Jvm.Cond.instanceMethod ({ cls := "RelationTuples", name := "check", desc := "(III)I" } : Jvm.MethodName)) ∈ lw_all := lw_g (lw_at lw_m0 94 rfl) rfl
theorem q114 : (Jvm.Cond.selects "RelationTuples" ({ cls := "RelationTuples", name := "check", desc := "(III)I" } : Jvm.MethodName) ({ cls := "RelationTuples", name := "check", desc := "(III)I" } : Jvm.MethodName)) ∈ lw_all := lw_g (lw_at lw_m0 95 rfl) rfl
theorem q115 : (Jvm.Cond.code ({ cls := "RelationTuples", name := "check", desc := "(III)I" } : Jvm.MethodName) prog_1_method_13_code (4 : Nat) (Option.some Jvm.ClassFile.FieldType.int)) ∈ lw_all := lw_g (lw_at lw_m0 96 rfl) rfl
theorem q116 : (Jvm.Cond.methodLink "RelationTuples" (71 : Nat) ({ cls := "RelationTuples", name := "isState", desc := "(I)Z" } : Jvm.MethodName)) ∈ lw_all := lw_g (lw_at lw_m0 97 rfl) rfl
theorem q117 : (Jvm.Cond.privateMethod ({ cls := "RelationTuples", name := "isState", desc := "(I)Z" } : Jvm.MethodName)) ∈ lw_tbl := lw_at lw_m0 98 rfl
theorem q118 : (Jvm.Cond.instanceMethod ({ cls := "RelationTuples", name := "isState", desc := "(I)Z" } : Jvm.MethodName)) ∈ lw_all := lw_g (lw_at lw_m0 99 rfl) rfl
theorem q119 : (Jvm.Cond.code ({ cls := "RelationTuples", name := "isState", desc := "(I)Z" } : Jvm.MethodName) prog_1_method_10_code (2 : Nat) (Option.some Jvm.ClassFile.FieldType.boolean)) ∈ lw_all := lw_g (lw_at lw_m0 100 rfl) rfl
theorem q120 : (Jvm.Cond.methodLink "RelationTuples" (74 : Nat) ({ cls := "RelationTuples", name := "isKept", desc := "(I)Z" } : Jvm.MethodName)) ∈ lw_all := lw_g (lw_at lw_m0 101 rfl) rfl
theorem q121 : (Jvm.Cond.privateMethod ({ cls := "RelationTuples", name := "isKept", desc := "(I)Z" } : Jvm.MethodName)) ∈ lw_tbl := lw_at lw_m0 102 rfl
theorem q122 : (Jvm.Cond.instanceMethod ({ cls := "RelationTuples", name := "isKept", desc := "(I)Z" } : Jvm.MethodName)) ∈ lw_all := lw_g (lw_at lw_m0 103 rfl) rfl
theorem q123 : (Jvm.Cond.code ({ cls := "RelationTuples", name := "isKept", desc := "(I)Z" } : Jvm.MethodName) prog_1_method_11_code (2 : Nat) (Option.some Jvm.ClassFile.FieldType.boolean)) ∈ lw_all := lw_g (lw_at lw_m0 104 rfl) rfl
theorem q124 : (Jvm.Cond.methodLink "RelationTuples" (77 : Nat) ({ cls := "RelationTuples", name := "membersOf", desc := "(I)I" } : Jvm.MethodName)) ∈ lw_all := lw_g (lw_at lw_m0 105 rfl) rfl
theorem q125 : (Jvm.Cond.privateMethod ({ cls := "RelationTuples", name := "membersOf", desc := "(I)I" } : Jvm.MethodName)) ∈ lw_tbl := lw_at lw_m0 106 rfl
theorem q126 : (Jvm.Cond.instanceMethod ({ cls := "RelationTuples", name := "membersOf", desc := "(I)I" } : Jvm.MethodName)) ∈ lw_all := lw_g (lw_at lw_m0 107 rfl) rfl
theorem q127 : (Jvm.Cond.code ({ cls := "RelationTuples", name := "membersOf", desc := "(I)I" } : Jvm.MethodName) prog_1_method_19_code (5 : Nat) (Option.some Jvm.ClassFile.FieldType.int)) ∈ lw_all := lw_g (lw_at lw_m0 108 rfl) rfl
theorem q128 : (Jvm.Cond.methodLink "RelationTuples" (81 : Nat) ({ cls := "RelationTuples", name := "sourcesTo", desc := "(I)I" } : Jvm.MethodName)) ∈ lw_all := lw_g (lw_at lw_m0 109 rfl) rfl
theorem q129 : (Jvm.Cond.privateMethod ({ cls := "RelationTuples", name := "sourcesTo", desc := "(I)I" } : Jvm.MethodName)) ∈ lw_tbl := lw_at lw_m0 110 rfl
theorem q130 : (Jvm.Cond.instanceMethod ({ cls := "RelationTuples", name := "sourcesTo", desc := "(I)I" } : Jvm.MethodName)) ∈ lw_all := lw_g (lw_at lw_m0 111 rfl) rfl
theorem q131 : (Jvm.Cond.code ({ cls := "RelationTuples", name := "sourcesTo", desc := "(I)I" } : Jvm.MethodName) prog_1_method_20_code (7 : Nat) (Option.some Jvm.ClassFile.FieldType.int)) ∈ lw_all := lw_g (lw_at lw_m0 112 rfl) rfl
theorem q132 : (Jvm.Cond.constant "RelationTuples" (84 : Nat) (262143 : Int32)) ∈ lw_all := lw_g (lw_at lw_m0 113 rfl) rfl
theorem q133 : (Jvm.Cond.methodLink "RelationTuples" (88 : Nat) ({ cls := "RelationTuples", name := "byRules", desc := "(I)I" } : Jvm.MethodName)) ∈ lw_all := lw_g (lw_at lw_m0 114 rfl) rfl
theorem q134 : (Jvm.Cond.privateMethod ({ cls := "RelationTuples", name := "byRules", desc := "(I)I" } : Jvm.MethodName)) ∈ lw_tbl := lw_at lw_m0 115 rfl
theorem q135 : (Jvm.Cond.instanceMethod ({ cls := "RelationTuples", name := "byRules", desc := "(I)I" } : Jvm.MethodName)) ∈ lw_all := lw_g (lw_at lw_m0 116 rfl) rfl
theorem q136 : (Jvm.Cond.code ({ cls := "RelationTuples", name := "byRules", desc := "(I)I" } : Jvm.MethodName) prog_1_method_21_code (2 : Nat) (Option.some Jvm.ClassFile.FieldType.int)) ∈ lw_all := lw_g (lw_at lw_m0 117 rfl) rfl
theorem q137 : (Jvm.Cond.constant "RelationTuples" (91 : Nat) (262144 : Int32)) ∈ lw_all := lw_g (lw_at lw_m0 118 rfl) rfl
theorem q139 : (Jvm.Cond.instanceMethod ({ cls := "RelationTuples", name := "members", desc := "(II)I" } : Jvm.MethodName)) ∈ lw_all := lw_g (lw_at lw_m0 120 rfl) rfl
theorem q140 : (Jvm.Cond.selects "RelationTuples" ({ cls := "RelationTuples", name := "members", desc := "(II)I" } : Jvm.MethodName) ({ cls := "RelationTuples", name := "members", desc := "(II)I" } : Jvm.MethodName)) ∈ lw_all := lw_g (lw_at lw_m0 121 rfl) rfl
theorem q141 : (Jvm.Cond.code ({ cls := "RelationTuples", name := "members", desc := "(II)I" } : Jvm.MethodName) prog_1_method_14_code (3 : Nat) (Option.some Jvm.ClassFile.FieldType.int)) ∈ lw_all := lw_g (lw_at lw_m0 122 rfl) rfl
theorem q143 : (Jvm.Cond.instanceMethod ({ cls := "RelationTuples", name := "groups", desc := "(II)I" } : Jvm.MethodName)) ∈ lw_all := lw_g (lw_at lw_m0 124 rfl) rfl
theorem q144 : (Jvm.Cond.selects "RelationTuples" ({ cls := "RelationTuples", name := "groups", desc := "(II)I" } : Jvm.MethodName) ({ cls := "RelationTuples", name := "groups", desc := "(II)I" } : Jvm.MethodName)) ∈ lw_all := lw_g (lw_at lw_m0 125 rfl) rfl
theorem q145 : (Jvm.Cond.code ({ cls := "RelationTuples", name := "groups", desc := "(II)I" } : Jvm.MethodName) prog_1_method_15_code (5 : Nat) (Option.some Jvm.ClassFile.FieldType.int)) ∈ lw_all := lw_g (lw_at lw_m0 126 rfl) rfl
theorem q147 : (Jvm.Cond.instanceMethod ({ cls := "RelationTuples", name := "sources", desc := "(II)I" } : Jvm.MethodName)) ∈ lw_all := lw_g (lw_at lw_m0 128 rfl) rfl
theorem q148 : (Jvm.Cond.selects "RelationTuples" ({ cls := "RelationTuples", name := "sources", desc := "(II)I" } : Jvm.MethodName) ({ cls := "RelationTuples", name := "sources", desc := "(II)I" } : Jvm.MethodName)) ∈ lw_all := lw_g (lw_at lw_m0 129 rfl) rfl
theorem q149 : (Jvm.Cond.code ({ cls := "RelationTuples", name := "sources", desc := "(II)I" } : Jvm.MethodName) prog_1_method_16_code (3 : Nat) (Option.some Jvm.ClassFile.FieldType.int)) ∈ lw_all := lw_g (lw_at lw_m0 130 rfl) rfl
theorem q151 : (Jvm.Cond.instanceMethod ({ cls := "RelationTuples", name := "changed", desc := "(II)I" } : Jvm.MethodName)) ∈ lw_all := lw_g (lw_at lw_m0 132 rfl) rfl
theorem q152 : (Jvm.Cond.selects "RelationTuples" ({ cls := "RelationTuples", name := "changed", desc := "(II)I" } : Jvm.MethodName) ({ cls := "RelationTuples", name := "changed", desc := "(II)I" } : Jvm.MethodName)) ∈ lw_all := lw_g (lw_at lw_m0 133 rfl) rfl
theorem q153 : (Jvm.Cond.code ({ cls := "RelationTuples", name := "changed", desc := "(II)I" } : Jvm.MethodName) prog_1_method_17_code (7 : Nat) (Option.some Jvm.ClassFile.FieldType.int)) ∈ lw_all := lw_g (lw_at lw_m0 134 rfl) rfl
theorem q155 : (Jvm.Cond.instanceMethod ({ cls := "RelationTuples", name := "since", desc := "(III)I" } : Jvm.MethodName)) ∈ lw_all := lw_g (lw_at lw_m0 136 rfl) rfl
theorem q156 : (Jvm.Cond.selects "RelationTuples" ({ cls := "RelationTuples", name := "since", desc := "(III)I" } : Jvm.MethodName) ({ cls := "RelationTuples", name := "since", desc := "(III)I" } : Jvm.MethodName)) ∈ lw_all := lw_g (lw_at lw_m0 137 rfl) rfl
theorem q157 : (Jvm.Cond.code ({ cls := "RelationTuples", name := "since", desc := "(III)I" } : Jvm.MethodName) prog_1_method_18_code (7 : Nat) (Option.some Jvm.ClassFile.FieldType.int)) ∈ lw_all := lw_g (lw_at lw_m0 138 rfl) rfl
theorem in_X0 : ∀ w ∈ wsX00, w ∈ lw_all := lw_in wsX00 [44, 46, 48, 50, 52, 54, 56, 58, 60, 62, 64, 66, 68, 70] (by decide +kernel) (by decide +kernel)
end
section
/-! RelationTuplesModel -/
set_option maxRecDepth 100000
def RX1 : String := "RelationTuplesModel"
def TX1 : u_T := fun k => match k with
  | 0 => ("RelationTuplesModel", "latest", "I", false)
  | 1 => ("RelationTuplesModel", "entered", "[I", false)
  | 2 => ("RelationTuplesModel", "inner", "[I", false)
  | 3 => ("RelationTuplesModel", "rules", "[I", false)
  | _ => ("RelationTuplesModel", "members", "[I", false)
def tyX1 : Nat → FieldType := fun k => match k with
  | 0 => .int
  | 1 => .array .int
  | 2 => .array .int
  | 3 => .array .int
  | _ => .array .int
abbrev wsX10 : List Cond := u_ws RX1 TX1 5
theorem nmX1 : ∀ a, a < 5 → ∀ b, b < 5 → a ≠ b → (TX1 a).2.1 ≠ (TX1 b).2.1 := by decide +kernel
theorem tyX1_ok : ∀ k, k < 5 → parseFieldDescriptor (TX1 k).2.2.1 = some (tyX1 k) := by decide +kernel
abbrev cX1_init : ByteArray := prog_3_method_1_code
def yX1_init : MethodName := ⟨RX1, "<init>", "()V"⟩
theorem dX1_init_0 : decode cX1_init 0 = .ok (.aload_n 0, 1) := by decide +kernel
theorem dX1_init_1 : decode cX1_init 1 = .ok (.invokespecial 1, 3) := by decide +kernel
theorem dX1_init_4 : decode cX1_init 4 = .ok (.aload_n 0, 1) := by decide +kernel
theorem dX1_init_5 : decode cX1_init 5 = .ok (.iconst 0, 1) := by decide +kernel
theorem dX1_init_6 : decode cX1_init 6 = .ok (.putfield 7, 3) := by decide +kernel
theorem dX1_init_9 : decode cX1_init 9 = .ok (.aload_n 0, 1) := by decide +kernel
theorem dX1_init_10 : decode cX1_init 10 = .ok (.sipush 144, 3) := by decide +kernel
theorem dX1_init_13 : decode cX1_init 13 = .ok (.newarray .int, 2) := by decide +kernel
theorem dX1_init_15 : decode cX1_init 15 = .ok (.putfield 13, 3) := by decide +kernel
theorem dX1_init_18 : decode cX1_init 18 = .ok (.aload_n 0, 1) := by decide +kernel
theorem dX1_init_19 : decode cX1_init 19 = .ok (.sipush 144, 3) := by decide +kernel
theorem dX1_init_22 : decode cX1_init 22 = .ok (.newarray .int, 2) := by decide +kernel
theorem dX1_init_24 : decode cX1_init 24 = .ok (.putfield 17, 3) := by decide +kernel
theorem dX1_init_27 : decode cX1_init 27 = .ok (.aload_n 0, 1) := by decide +kernel
theorem dX1_init_28 : decode cX1_init 28 = .ok (.bipush 8, 2) := by decide +kernel
theorem dX1_init_30 : decode cX1_init 30 = .ok (.newarray .int, 2) := by decide +kernel
theorem dX1_init_32 : decode cX1_init 32 = .ok (.putfield 20, 3) := by decide +kernel
theorem dX1_init_35 : decode cX1_init 35 = .ok (.aload_n 0, 1) := by decide +kernel
theorem dX1_init_36 : decode cX1_init 36 = .ok (.bipush 18, 2) := by decide +kernel
theorem dX1_init_38 : decode cX1_init 38 = .ok (.newarray .int, 2) := by decide +kernel
theorem dX1_init_40 : decode cX1_init 40 = .ok (.putfield 23, 3) := by decide +kernel
theorem dX1_init_43 : decode cX1_init 43 = .ok (.return_, 1) := by decide +kernel
abbrev cX1_enter : ByteArray := prog_3_method_7_code
def yX1_enter : MethodName := ⟨RX1, "enter", "(IIZ)I"⟩
theorem dX1_enter_0 : decode cX1_enter 0 = .ok (.aload_n 0, 1) := by decide +kernel
theorem dX1_enter_1 : decode cX1_enter 1 = .ok (.iload_n 1, 1) := by decide +kernel
theorem dX1_enter_2 : decode cX1_enter 2 = .ok (.invokevirtual 26, 3) := by decide +kernel
theorem dX1_enter_5 : decode cX1_enter 5 = .ok (.ifCond .eq 11, 3) := by decide +kernel
theorem dX1_enter_8 : decode cX1_enter 8 = .ok (.aload_n 0, 1) := by decide +kernel
theorem dX1_enter_9 : decode cX1_enter 9 = .ok (.iload_n 2, 1) := by decide +kernel
theorem dX1_enter_10 : decode cX1_enter 10 = .ok (.invokevirtual 30, 3) := by decide +kernel
theorem dX1_enter_13 : decode cX1_enter 13 = .ok (.ifCond .ne 5, 3) := by decide +kernel
theorem dX1_enter_16 : decode cX1_enter 16 = .ok (.iconst (-1), 1) := by decide +kernel
theorem dX1_enter_17 : decode cX1_enter 17 = .ok (.ireturn, 1) := by decide +kernel
theorem dX1_enter_18 : decode cX1_enter 18 = .ok (.bipush 18, 2) := by decide +kernel
theorem dX1_enter_20 : decode cX1_enter 20 = .ok (.aload_n 0, 1) := by decide +kernel
theorem dX1_enter_21 : decode cX1_enter 21 = .ok (.invokevirtual 33, 3) := by decide +kernel
theorem dX1_enter_24 : decode cX1_enter 24 = .ok (.imul, 1) := by decide +kernel
theorem dX1_enter_25 : decode cX1_enter 25 = .ok (.iload_n 2, 1) := by decide +kernel
theorem dX1_enter_26 : decode cX1_enter 26 = .ok (.iadd, 1) := by decide +kernel
theorem dX1_enter_27 : decode cX1_enter 27 = .ok (.istore 4, 2) := by decide +kernel
theorem dX1_enter_29 : decode cX1_enter 29 = .ok (.aload_n 0, 1) := by decide +kernel
theorem dX1_enter_30 : decode cX1_enter 30 = .ok (.getfield 13, 3) := by decide +kernel
theorem dX1_enter_33 : decode cX1_enter 33 = .ok (.iload 4, 2) := by decide +kernel
theorem dX1_enter_35 : decode cX1_enter 35 = .ok (.aload_n 0, 1) := by decide +kernel
theorem dX1_enter_36 : decode cX1_enter 36 = .ok (.aload_n 0, 1) := by decide +kernel
theorem dX1_enter_37 : decode cX1_enter 37 = .ok (.getfield 13, 3) := by decide +kernel
theorem dX1_enter_40 : decode cX1_enter 40 = .ok (.iload 4, 2) := by decide +kernel
theorem dX1_enter_42 : decode cX1_enter 42 = .ok (.iaload, 1) := by decide +kernel
theorem dX1_enter_43 : decode cX1_enter 43 = .ok (.iload_n 1, 1) := by decide +kernel
theorem dX1_enter_44 : decode cX1_enter 44 = .ok (.iload_n 3, 1) := by decide +kernel
theorem dX1_enter_45 : decode cX1_enter 45 = .ok (.invokevirtual 37, 3) := by decide +kernel
theorem dX1_enter_48 : decode cX1_enter 48 = .ok (.iastore, 1) := by decide +kernel
theorem dX1_enter_49 : decode cX1_enter 49 = .ok (.aload_n 0, 1) := by decide +kernel
theorem dX1_enter_50 : decode cX1_enter 50 = .ok (.getfield 7, 3) := by decide +kernel
theorem dX1_enter_53 : decode cX1_enter 53 = .ok (.ireturn, 1) := by decide +kernel
abbrev cX1_isPerson : ByteArray := prog_3_method_2_code
def yX1_isPerson : MethodName := ⟨RX1, "isPerson", "(I)Z"⟩
theorem dX1_isPerson_0 : decode cX1_isPerson 0 = .ok (.iload_n 1, 1) := by decide +kernel
theorem dX1_isPerson_1 : decode cX1_isPerson 1 = .ok (.ifCond .lt 12, 3) := by decide +kernel
theorem dX1_isPerson_4 : decode cX1_isPerson 4 = .ok (.iload_n 1, 1) := by decide +kernel
theorem dX1_isPerson_5 : decode cX1_isPerson 5 = .ok (.iconst 5, 1) := by decide +kernel
theorem dX1_isPerson_6 : decode cX1_isPerson 6 = .ok (.if_icmp .gt 7, 3) := by decide +kernel
theorem dX1_isPerson_9 : decode cX1_isPerson 9 = .ok (.iconst 1, 1) := by decide +kernel
theorem dX1_isPerson_10 : decode cX1_isPerson 10 = .ok (.goto 4, 3) := by decide +kernel
theorem dX1_isPerson_13 : decode cX1_isPerson 13 = .ok (.iconst 0, 1) := by decide +kernel
theorem dX1_isPerson_14 : decode cX1_isPerson 14 = .ok (.ireturn, 1) := by decide +kernel
abbrev cX1_isGroup : ByteArray := prog_3_method_3_code
def yX1_isGroup : MethodName := ⟨RX1, "isGroup", "(I)Z"⟩
theorem dX1_isGroup_0 : decode cX1_isGroup 0 = .ok (.iload_n 1, 1) := by decide +kernel
theorem dX1_isGroup_1 : decode cX1_isGroup 1 = .ok (.ifCond .lt 13, 3) := by decide +kernel
theorem dX1_isGroup_4 : decode cX1_isGroup 4 = .ok (.iload_n 1, 1) := by decide +kernel
theorem dX1_isGroup_5 : decode cX1_isGroup 5 = .ok (.bipush 17, 2) := by decide +kernel
theorem dX1_isGroup_7 : decode cX1_isGroup 7 = .ok (.if_icmp .gt 7, 3) := by decide +kernel
theorem dX1_isGroup_10 : decode cX1_isGroup 10 = .ok (.iconst 1, 1) := by decide +kernel
theorem dX1_isGroup_11 : decode cX1_isGroup 11 = .ok (.goto 4, 3) := by decide +kernel
theorem dX1_isGroup_14 : decode cX1_isGroup 14 = .ok (.iconst 0, 1) := by decide +kernel
theorem dX1_isGroup_15 : decode cX1_isGroup 15 = .ok (.ireturn, 1) := by decide +kernel
abbrev cX1_next : ByteArray := prog_3_method_6_code
def yX1_next : MethodName := ⟨RX1, "next", "()I"⟩
theorem dX1_next_0 : decode cX1_next 0 = .ok (.aload_n 0, 1) := by decide +kernel
theorem dX1_next_1 : decode cX1_next 1 = .ok (.getfield 7, 3) := by decide +kernel
theorem dX1_next_4 : decode cX1_next 4 = .ok (.bipush 8, 2) := by decide +kernel
theorem dX1_next_6 : decode cX1_next 6 = .ok (.irem, 1) := by decide +kernel
theorem dX1_next_7 : decode cX1_next 7 = .ok (.istore_n 1, 1) := by decide +kernel
theorem dX1_next_8 : decode cX1_next 8 = .ok (.aload_n 0, 1) := by decide +kernel
theorem dX1_next_9 : decode cX1_next 9 = .ok (.dup, 1) := by decide +kernel
theorem dX1_next_10 : decode cX1_next 10 = .ok (.getfield 7, 3) := by decide +kernel
theorem dX1_next_13 : decode cX1_next 13 = .ok (.iconst 1, 1) := by decide +kernel
theorem dX1_next_14 : decode cX1_next 14 = .ok (.iadd, 1) := by decide +kernel
theorem dX1_next_15 : decode cX1_next 15 = .ok (.putfield 7, 3) := by decide +kernel
theorem dX1_next_18 : decode cX1_next 18 = .ok (.aload_n 0, 1) := by decide +kernel
theorem dX1_next_19 : decode cX1_next 19 = .ok (.getfield 7, 3) := by decide +kernel
theorem dX1_next_22 : decode cX1_next 22 = .ok (.bipush 8, 2) := by decide +kernel
theorem dX1_next_24 : decode cX1_next 24 = .ok (.irem, 1) := by decide +kernel
theorem dX1_next_25 : decode cX1_next 25 = .ok (.istore_n 2, 1) := by decide +kernel
theorem dX1_next_26 : decode cX1_next 26 = .ok (.iconst 0, 1) := by decide +kernel
theorem dX1_next_27 : decode cX1_next 27 = .ok (.istore_n 3, 1) := by decide +kernel
theorem dX1_next_28 : decode cX1_next 28 = .ok (.iload_n 3, 1) := by decide +kernel
theorem dX1_next_29 : decode cX1_next 29 = .ok (.bipush 18, 2) := by decide +kernel
theorem dX1_next_31 : decode cX1_next 31 = .ok (.if_icmp .ge 53, 3) := by decide +kernel
theorem dX1_next_34 : decode cX1_next 34 = .ok (.aload_n 0, 1) := by decide +kernel
theorem dX1_next_35 : decode cX1_next 35 = .ok (.getfield 13, 3) := by decide +kernel
theorem dX1_next_38 : decode cX1_next 38 = .ok (.bipush 18, 2) := by decide +kernel
theorem dX1_next_40 : decode cX1_next 40 = .ok (.iload_n 2, 1) := by decide +kernel
theorem dX1_next_41 : decode cX1_next 41 = .ok (.imul, 1) := by decide +kernel
theorem dX1_next_42 : decode cX1_next 42 = .ok (.iload_n 3, 1) := by decide +kernel
theorem dX1_next_43 : decode cX1_next 43 = .ok (.iadd, 1) := by decide +kernel
theorem dX1_next_44 : decode cX1_next 44 = .ok (.aload_n 0, 1) := by decide +kernel
theorem dX1_next_45 : decode cX1_next 45 = .ok (.getfield 13, 3) := by decide +kernel
theorem dX1_next_48 : decode cX1_next 48 = .ok (.bipush 18, 2) := by decide +kernel
theorem dX1_next_50 : decode cX1_next 50 = .ok (.iload_n 1, 1) := by decide +kernel
theorem dX1_next_51 : decode cX1_next 51 = .ok (.imul, 1) := by decide +kernel
theorem dX1_next_52 : decode cX1_next 52 = .ok (.iload_n 3, 1) := by decide +kernel
theorem dX1_next_53 : decode cX1_next 53 = .ok (.iadd, 1) := by decide +kernel
theorem dX1_next_54 : decode cX1_next 54 = .ok (.iaload, 1) := by decide +kernel
theorem dX1_next_55 : decode cX1_next 55 = .ok (.iastore, 1) := by decide +kernel
theorem dX1_next_56 : decode cX1_next 56 = .ok (.aload_n 0, 1) := by decide +kernel
theorem dX1_next_57 : decode cX1_next 57 = .ok (.getfield 17, 3) := by decide +kernel
theorem dX1_next_60 : decode cX1_next 60 = .ok (.bipush 18, 2) := by decide +kernel
theorem dX1_next_62 : decode cX1_next 62 = .ok (.iload_n 2, 1) := by decide +kernel
theorem dX1_next_63 : decode cX1_next 63 = .ok (.imul, 1) := by decide +kernel
theorem dX1_next_64 : decode cX1_next 64 = .ok (.iload_n 3, 1) := by decide +kernel
theorem dX1_next_65 : decode cX1_next 65 = .ok (.iadd, 1) := by decide +kernel
theorem dX1_next_66 : decode cX1_next 66 = .ok (.aload_n 0, 1) := by decide +kernel
theorem dX1_next_67 : decode cX1_next 67 = .ok (.getfield 17, 3) := by decide +kernel
theorem dX1_next_70 : decode cX1_next 70 = .ok (.bipush 18, 2) := by decide +kernel
theorem dX1_next_72 : decode cX1_next 72 = .ok (.iload_n 1, 1) := by decide +kernel
theorem dX1_next_73 : decode cX1_next 73 = .ok (.imul, 1) := by decide +kernel
theorem dX1_next_74 : decode cX1_next 74 = .ok (.iload_n 3, 1) := by decide +kernel
theorem dX1_next_75 : decode cX1_next 75 = .ok (.iadd, 1) := by decide +kernel
theorem dX1_next_76 : decode cX1_next 76 = .ok (.iaload, 1) := by decide +kernel
theorem dX1_next_77 : decode cX1_next 77 = .ok (.iastore, 1) := by decide +kernel
theorem dX1_next_78 : decode cX1_next 78 = .ok (.iinc 3 1, 3) := by decide +kernel
theorem dX1_next_81 : decode cX1_next 81 = .ok (.goto (-53), 3) := by decide +kernel
theorem dX1_next_84 : decode cX1_next 84 = .ok (.aload_n 0, 1) := by decide +kernel
theorem dX1_next_85 : decode cX1_next 85 = .ok (.getfield 20, 3) := by decide +kernel
theorem dX1_next_88 : decode cX1_next 88 = .ok (.iload_n 2, 1) := by decide +kernel
theorem dX1_next_89 : decode cX1_next 89 = .ok (.aload_n 0, 1) := by decide +kernel
theorem dX1_next_90 : decode cX1_next 90 = .ok (.getfield 20, 3) := by decide +kernel
theorem dX1_next_93 : decode cX1_next 93 = .ok (.iload_n 1, 1) := by decide +kernel
theorem dX1_next_94 : decode cX1_next 94 = .ok (.iaload, 1) := by decide +kernel
theorem dX1_next_95 : decode cX1_next 95 = .ok (.iastore, 1) := by decide +kernel
theorem dX1_next_96 : decode cX1_next 96 = .ok (.iload_n 2, 1) := by decide +kernel
theorem dX1_next_97 : decode cX1_next 97 = .ok (.ireturn, 1) := by decide +kernel
abbrev cX1_with : ByteArray := prog_3_method_5_code
def yX1_with : MethodName := ⟨RX1, "with", "(IIZ)I"⟩
theorem dX1_with_0 : decode cX1_with 0 = .ok (.iload_n 3, 1) := by decide +kernel
theorem dX1_with_1 : decode cX1_with 1 = .ok (.ifCond .eq 11, 3) := by decide +kernel
theorem dX1_with_4 : decode cX1_with 4 = .ok (.iload_n 1, 1) := by decide +kernel
theorem dX1_with_5 : decode cX1_with 5 = .ok (.iconst 1, 1) := by decide +kernel
theorem dX1_with_6 : decode cX1_with 6 = .ok (.iload_n 2, 1) := by decide +kernel
theorem dX1_with_7 : decode cX1_with 7 = .ok (.ishl, 1) := by decide +kernel
theorem dX1_with_8 : decode cX1_with 8 = .ok (.ior, 1) := by decide +kernel
theorem dX1_with_9 : decode cX1_with 9 = .ok (.goto 10, 3) := by decide +kernel
theorem dX1_with_12 : decode cX1_with 12 = .ok (.iload_n 1, 1) := by decide +kernel
theorem dX1_with_13 : decode cX1_with 13 = .ok (.iconst 1, 1) := by decide +kernel
theorem dX1_with_14 : decode cX1_with 14 = .ok (.iload_n 2, 1) := by decide +kernel
theorem dX1_with_15 : decode cX1_with 15 = .ok (.ishl, 1) := by decide +kernel
theorem dX1_with_16 : decode cX1_with 16 = .ok (.iconst (-1), 1) := by decide +kernel
theorem dX1_with_17 : decode cX1_with 17 = .ok (.ixor, 1) := by decide +kernel
theorem dX1_with_18 : decode cX1_with 18 = .ok (.iand, 1) := by decide +kernel
theorem dX1_with_19 : decode cX1_with 19 = .ok (.ireturn, 1) := by decide +kernel
abbrev cX1_nest : ByteArray := prog_3_method_8_code
def yX1_nest : MethodName := ⟨RX1, "nest", "(IIZ)I"⟩
theorem dX1_nest_0 : decode cX1_nest 0 = .ok (.aload_n 0, 1) := by decide +kernel
theorem dX1_nest_1 : decode cX1_nest 1 = .ok (.iload_n 1, 1) := by decide +kernel
theorem dX1_nest_2 : decode cX1_nest 2 = .ok (.invokevirtual 30, 3) := by decide +kernel
theorem dX1_nest_5 : decode cX1_nest 5 = .ok (.ifCond .eq 11, 3) := by decide +kernel
theorem dX1_nest_8 : decode cX1_nest 8 = .ok (.aload_n 0, 1) := by decide +kernel
theorem dX1_nest_9 : decode cX1_nest 9 = .ok (.iload_n 2, 1) := by decide +kernel
theorem dX1_nest_10 : decode cX1_nest 10 = .ok (.invokevirtual 30, 3) := by decide +kernel
theorem dX1_nest_13 : decode cX1_nest 13 = .ok (.ifCond .ne 5, 3) := by decide +kernel
theorem dX1_nest_16 : decode cX1_nest 16 = .ok (.iconst (-1), 1) := by decide +kernel
theorem dX1_nest_17 : decode cX1_nest 17 = .ok (.ireturn, 1) := by decide +kernel
theorem dX1_nest_18 : decode cX1_nest 18 = .ok (.bipush 18, 2) := by decide +kernel
theorem dX1_nest_20 : decode cX1_nest 20 = .ok (.aload_n 0, 1) := by decide +kernel
theorem dX1_nest_21 : decode cX1_nest 21 = .ok (.invokevirtual 33, 3) := by decide +kernel
theorem dX1_nest_24 : decode cX1_nest 24 = .ok (.imul, 1) := by decide +kernel
theorem dX1_nest_25 : decode cX1_nest 25 = .ok (.iload_n 2, 1) := by decide +kernel
theorem dX1_nest_26 : decode cX1_nest 26 = .ok (.iadd, 1) := by decide +kernel
theorem dX1_nest_27 : decode cX1_nest 27 = .ok (.istore 4, 2) := by decide +kernel
theorem dX1_nest_29 : decode cX1_nest 29 = .ok (.aload_n 0, 1) := by decide +kernel
theorem dX1_nest_30 : decode cX1_nest 30 = .ok (.getfield 17, 3) := by decide +kernel
theorem dX1_nest_33 : decode cX1_nest 33 = .ok (.iload 4, 2) := by decide +kernel
theorem dX1_nest_35 : decode cX1_nest 35 = .ok (.aload_n 0, 1) := by decide +kernel
theorem dX1_nest_36 : decode cX1_nest 36 = .ok (.aload_n 0, 1) := by decide +kernel
theorem dX1_nest_37 : decode cX1_nest 37 = .ok (.getfield 17, 3) := by decide +kernel
theorem dX1_nest_40 : decode cX1_nest 40 = .ok (.iload 4, 2) := by decide +kernel
theorem dX1_nest_42 : decode cX1_nest 42 = .ok (.iaload, 1) := by decide +kernel
theorem dX1_nest_43 : decode cX1_nest 43 = .ok (.iload_n 1, 1) := by decide +kernel
theorem dX1_nest_44 : decode cX1_nest 44 = .ok (.iload_n 3, 1) := by decide +kernel
theorem dX1_nest_45 : decode cX1_nest 45 = .ok (.invokevirtual 37, 3) := by decide +kernel
theorem dX1_nest_48 : decode cX1_nest 48 = .ok (.iastore, 1) := by decide +kernel
theorem dX1_nest_49 : decode cX1_nest 49 = .ok (.aload_n 0, 1) := by decide +kernel
theorem dX1_nest_50 : decode cX1_nest 50 = .ok (.getfield 7, 3) := by decide +kernel
theorem dX1_nest_53 : decode cX1_nest 53 = .ok (.ireturn, 1) := by decide +kernel
abbrev cX1_rule : ByteArray := prog_3_method_9_code
def yX1_rule : MethodName := ⟨RX1, "rule", "(IIZ)I"⟩
theorem dX1_rule_0 : decode cX1_rule 0 = .ok (.iload_n 1, 1) := by decide +kernel
theorem dX1_rule_1 : decode cX1_rule 1 = .ok (.ifCond .lt 22, 3) := by decide +kernel
theorem dX1_rule_4 : decode cX1_rule 4 = .ok (.iload_n 1, 1) := by decide +kernel
theorem dX1_rule_5 : decode cX1_rule 5 = .ok (.iconst 2, 1) := by decide +kernel
theorem dX1_rule_6 : decode cX1_rule 6 = .ok (.if_icmp .gt 17, 3) := by decide +kernel
theorem dX1_rule_9 : decode cX1_rule 9 = .ok (.iload_n 2, 1) := by decide +kernel
theorem dX1_rule_10 : decode cX1_rule 10 = .ok (.ifCond .lt 13, 3) := by decide +kernel
theorem dX1_rule_13 : decode cX1_rule 13 = .ok (.iload_n 2, 1) := by decide +kernel
theorem dX1_rule_14 : decode cX1_rule 14 = .ok (.iconst 2, 1) := by decide +kernel
theorem dX1_rule_15 : decode cX1_rule 15 = .ok (.if_icmp .gt 8, 3) := by decide +kernel
theorem dX1_rule_18 : decode cX1_rule 18 = .ok (.iload_n 1, 1) := by decide +kernel
theorem dX1_rule_19 : decode cX1_rule 19 = .ok (.iload_n 2, 1) := by decide +kernel
theorem dX1_rule_20 : decode cX1_rule 20 = .ok (.if_icmp .ne 5, 3) := by decide +kernel
theorem dX1_rule_23 : decode cX1_rule 23 = .ok (.iconst (-1), 1) := by decide +kernel
theorem dX1_rule_24 : decode cX1_rule 24 = .ok (.ireturn, 1) := by decide +kernel
theorem dX1_rule_25 : decode cX1_rule 25 = .ok (.aload_n 0, 1) := by decide +kernel
theorem dX1_rule_26 : decode cX1_rule 26 = .ok (.invokevirtual 33, 3) := by decide +kernel
theorem dX1_rule_29 : decode cX1_rule 29 = .ok (.istore 4, 2) := by decide +kernel
theorem dX1_rule_31 : decode cX1_rule 31 = .ok (.aload_n 0, 1) := by decide +kernel
theorem dX1_rule_32 : decode cX1_rule 32 = .ok (.getfield 20, 3) := by decide +kernel
theorem dX1_rule_35 : decode cX1_rule 35 = .ok (.iload 4, 2) := by decide +kernel
theorem dX1_rule_37 : decode cX1_rule 37 = .ok (.aload_n 0, 1) := by decide +kernel
theorem dX1_rule_38 : decode cX1_rule 38 = .ok (.aload_n 0, 1) := by decide +kernel
theorem dX1_rule_39 : decode cX1_rule 39 = .ok (.getfield 20, 3) := by decide +kernel
theorem dX1_rule_42 : decode cX1_rule 42 = .ok (.iload 4, 2) := by decide +kernel
theorem dX1_rule_44 : decode cX1_rule 44 = .ok (.iaload, 1) := by decide +kernel
theorem dX1_rule_45 : decode cX1_rule 45 = .ok (.iconst 3, 1) := by decide +kernel
theorem dX1_rule_46 : decode cX1_rule 46 = .ok (.iload_n 1, 1) := by decide +kernel
theorem dX1_rule_47 : decode cX1_rule 47 = .ok (.imul, 1) := by decide +kernel
theorem dX1_rule_48 : decode cX1_rule 48 = .ok (.iload_n 2, 1) := by decide +kernel
theorem dX1_rule_49 : decode cX1_rule 49 = .ok (.iadd, 1) := by decide +kernel
theorem dX1_rule_50 : decode cX1_rule 50 = .ok (.iload_n 3, 1) := by decide +kernel
theorem dX1_rule_51 : decode cX1_rule 51 = .ok (.invokevirtual 37, 3) := by decide +kernel
theorem dX1_rule_54 : decode cX1_rule 54 = .ok (.iastore, 1) := by decide +kernel
theorem dX1_rule_55 : decode cX1_rule 55 = .ok (.aload_n 0, 1) := by decide +kernel
theorem dX1_rule_56 : decode cX1_rule 56 = .ok (.getfield 7, 3) := by decide +kernel
theorem dX1_rule_59 : decode cX1_rule 59 = .ok (.ireturn, 1) := by decide +kernel
abbrev cX1_latest : ByteArray := prog_3_method_10_code
def yX1_latest : MethodName := ⟨RX1, "latest", "()I"⟩
theorem dX1_latest_0 : decode cX1_latest 0 = .ok (.aload_n 0, 1) := by decide +kernel
theorem dX1_latest_1 : decode cX1_latest 1 = .ok (.getfield 7, 3) := by decide +kernel
theorem dX1_latest_4 : decode cX1_latest 4 = .ok (.ireturn, 1) := by decide +kernel
abbrev cX1_check : ByteArray := prog_3_method_15_code
def yX1_check : MethodName := ⟨RX1, "check", "(III)I"⟩
theorem dX1_check_0 : decode cX1_check 0 = .ok (.aload_n 0, 1) := by decide +kernel
theorem dX1_check_1 : decode cX1_check 1 = .ok (.iload_n 2, 1) := by decide +kernel
theorem dX1_check_2 : decode cX1_check 2 = .ok (.invokevirtual 26, 3) := by decide +kernel
theorem dX1_check_5 : decode cX1_check 5 = .ok (.ifCond .eq 19, 3) := by decide +kernel
theorem dX1_check_8 : decode cX1_check 8 = .ok (.aload_n 0, 1) := by decide +kernel
theorem dX1_check_9 : decode cX1_check 9 = .ok (.iload_n 3, 1) := by decide +kernel
theorem dX1_check_10 : decode cX1_check 10 = .ok (.invokevirtual 30, 3) := by decide +kernel
theorem dX1_check_13 : decode cX1_check 13 = .ok (.ifCond .eq 11, 3) := by decide +kernel
theorem dX1_check_16 : decode cX1_check 16 = .ok (.aload_n 0, 1) := by decide +kernel
theorem dX1_check_17 : decode cX1_check 17 = .ok (.iload_n 1, 1) := by decide +kernel
theorem dX1_check_18 : decode cX1_check 18 = .ok (.invokevirtual 41, 3) := by decide +kernel
theorem dX1_check_21 : decode cX1_check 21 = .ok (.ifCond .ne 5, 3) := by decide +kernel
theorem dX1_check_24 : decode cX1_check 24 = .ok (.iconst (-1), 1) := by decide +kernel
theorem dX1_check_25 : decode cX1_check 25 = .ok (.ireturn, 1) := by decide +kernel
theorem dX1_check_26 : decode cX1_check 26 = .ok (.aload_n 0, 1) := by decide +kernel
theorem dX1_check_27 : decode cX1_check 27 = .ok (.iload_n 1, 1) := by decide +kernel
theorem dX1_check_28 : decode cX1_check 28 = .ok (.invokevirtual 52, 3) := by decide +kernel
theorem dX1_check_31 : decode cX1_check 31 = .ok (.ifCond .ne 6, 3) := by decide +kernel
theorem dX1_check_34 : decode cX1_check 34 = .ok (.bipush (-2), 2) := by decide +kernel
theorem dX1_check_36 : decode cX1_check 36 = .ok (.ireturn, 1) := by decide +kernel
theorem dX1_check_37 : decode cX1_check 37 = .ok (.aload_n 0, 1) := by decide +kernel
theorem dX1_check_38 : decode cX1_check 38 = .ok (.iload_n 1, 1) := by decide +kernel
theorem dX1_check_39 : decode cX1_check 39 = .ok (.invokevirtual 55, 3) := by decide +kernel
theorem dX1_check_42 : decode cX1_check 42 = .ok (.aload_n 0, 1) := by decide +kernel
theorem dX1_check_43 : decode cX1_check 43 = .ok (.aload_n 0, 1) := by decide +kernel
theorem dX1_check_44 : decode cX1_check 44 = .ok (.getfield 23, 3) := by decide +kernel
theorem dX1_check_47 : decode cX1_check 47 = .ok (.iload_n 3, 1) := by decide +kernel
theorem dX1_check_48 : decode cX1_check 48 = .ok (.iaload, 1) := by decide +kernel
theorem dX1_check_49 : decode cX1_check 49 = .ok (.iload_n 2, 1) := by decide +kernel
theorem dX1_check_50 : decode cX1_check 50 = .ok (.invokevirtual 44, 3) := by decide +kernel
theorem dX1_check_53 : decode cX1_check 53 = .ok (.ifCond .eq 7, 3) := by decide +kernel
theorem dX1_check_56 : decode cX1_check 56 = .ok (.iconst 1, 1) := by decide +kernel
theorem dX1_check_57 : decode cX1_check 57 = .ok (.goto 4, 3) := by decide +kernel
theorem dX1_check_60 : decode cX1_check 60 = .ok (.iconst 0, 1) := by decide +kernel
theorem dX1_check_61 : decode cX1_check 61 = .ok (.ireturn, 1) := by decide +kernel
abbrev cX1_exists : ByteArray := prog_3_method_11_code
def yX1_exists : MethodName := ⟨RX1, "exists", "(I)Z"⟩
theorem dX1_exists_0 : decode cX1_exists 0 = .ok (.iload_n 1, 1) := by decide +kernel
theorem dX1_exists_1 : decode cX1_exists 1 = .ok (.ifCond .lt 15, 3) := by decide +kernel
theorem dX1_exists_4 : decode cX1_exists 4 = .ok (.iload_n 1, 1) := by decide +kernel
theorem dX1_exists_5 : decode cX1_exists 5 = .ok (.aload_n 0, 1) := by decide +kernel
theorem dX1_exists_6 : decode cX1_exists 6 = .ok (.getfield 7, 3) := by decide +kernel
theorem dX1_exists_9 : decode cX1_exists 9 = .ok (.if_icmp .gt 7, 3) := by decide +kernel
theorem dX1_exists_12 : decode cX1_exists 12 = .ok (.iconst 1, 1) := by decide +kernel
theorem dX1_exists_13 : decode cX1_exists 13 = .ok (.goto 4, 3) := by decide +kernel
theorem dX1_exists_16 : decode cX1_exists 16 = .ok (.iconst 0, 1) := by decide +kernel
theorem dX1_exists_17 : decode cX1_exists 17 = .ok (.ireturn, 1) := by decide +kernel
abbrev cX1_isKept : ByteArray := prog_3_method_12_code
def yX1_isKept : MethodName := ⟨RX1, "isKept", "(I)Z"⟩
theorem dX1_isKept_0 : decode cX1_isKept 0 = .ok (.aload_n 0, 1) := by decide +kernel
theorem dX1_isKept_1 : decode cX1_isKept 1 = .ok (.iload_n 1, 1) := by decide +kernel
theorem dX1_isKept_2 : decode cX1_isKept 2 = .ok (.invokevirtual 41, 3) := by decide +kernel
theorem dX1_isKept_5 : decode cX1_isKept 5 = .ok (.ifCond .eq 18, 3) := by decide +kernel
theorem dX1_isKept_8 : decode cX1_isKept 8 = .ok (.iload_n 1, 1) := by decide +kernel
theorem dX1_isKept_9 : decode cX1_isKept 9 = .ok (.aload_n 0, 1) := by decide +kernel
theorem dX1_isKept_10 : decode cX1_isKept 10 = .ok (.getfield 7, 3) := by decide +kernel
theorem dX1_isKept_13 : decode cX1_isKept 13 = .ok (.bipush 8, 2) := by decide +kernel
theorem dX1_isKept_15 : decode cX1_isKept 15 = .ok (.isub, 1) := by decide +kernel
theorem dX1_isKept_16 : decode cX1_isKept 16 = .ok (.if_icmp .le 7, 3) := by decide +kernel
theorem dX1_isKept_19 : decode cX1_isKept 19 = .ok (.iconst 1, 1) := by decide +kernel
theorem dX1_isKept_20 : decode cX1_isKept 20 = .ok (.goto 4, 3) := by decide +kernel
theorem dX1_isKept_23 : decode cX1_isKept 23 = .ok (.iconst 0, 1) := by decide +kernel
theorem dX1_isKept_24 : decode cX1_isKept 24 = .ok (.ireturn, 1) := by decide +kernel
abbrev cX1_addAll : ByteArray := prog_3_method_14_code
def yX1_addAll : MethodName := ⟨RX1, "addAll", "(I)V"⟩
theorem dX1_addAll_0 : decode cX1_addAll 0 = .ok (.iload_n 1, 1) := by decide +kernel
theorem dX1_addAll_1 : decode cX1_addAll 1 = .ok (.bipush 8, 2) := by decide +kernel
theorem dX1_addAll_3 : decode cX1_addAll 3 = .ok (.irem, 1) := by decide +kernel
theorem dX1_addAll_4 : decode cX1_addAll 4 = .ok (.istore_n 2, 1) := by decide +kernel
theorem dX1_addAll_5 : decode cX1_addAll 5 = .ok (.iconst 0, 1) := by decide +kernel
theorem dX1_addAll_6 : decode cX1_addAll 6 = .ok (.istore_n 3, 1) := by decide +kernel
theorem dX1_addAll_7 : decode cX1_addAll 7 = .ok (.iload_n 3, 1) := by decide +kernel
theorem dX1_addAll_8 : decode cX1_addAll 8 = .ok (.bipush 18, 2) := by decide +kernel
theorem dX1_addAll_10 : decode cX1_addAll 10 = .ok (.if_icmp .ge 26, 3) := by decide +kernel
theorem dX1_addAll_13 : decode cX1_addAll 13 = .ok (.aload_n 0, 1) := by decide +kernel
theorem dX1_addAll_14 : decode cX1_addAll 14 = .ok (.getfield 23, 3) := by decide +kernel
theorem dX1_addAll_17 : decode cX1_addAll 17 = .ok (.iload_n 3, 1) := by decide +kernel
theorem dX1_addAll_18 : decode cX1_addAll 18 = .ok (.aload_n 0, 1) := by decide +kernel
theorem dX1_addAll_19 : decode cX1_addAll 19 = .ok (.getfield 13, 3) := by decide +kernel
theorem dX1_addAll_22 : decode cX1_addAll 22 = .ok (.bipush 18, 2) := by decide +kernel
theorem dX1_addAll_24 : decode cX1_addAll 24 = .ok (.iload_n 2, 1) := by decide +kernel
theorem dX1_addAll_25 : decode cX1_addAll 25 = .ok (.imul, 1) := by decide +kernel
theorem dX1_addAll_26 : decode cX1_addAll 26 = .ok (.iload_n 3, 1) := by decide +kernel
theorem dX1_addAll_27 : decode cX1_addAll 27 = .ok (.iadd, 1) := by decide +kernel
theorem dX1_addAll_28 : decode cX1_addAll 28 = .ok (.iaload, 1) := by decide +kernel
theorem dX1_addAll_29 : decode cX1_addAll 29 = .ok (.iastore, 1) := by decide +kernel
theorem dX1_addAll_30 : decode cX1_addAll 30 = .ok (.iinc 3 1, 3) := by decide +kernel
theorem dX1_addAll_33 : decode cX1_addAll 33 = .ok (.goto (-26), 3) := by decide +kernel
theorem dX1_addAll_36 : decode cX1_addAll 36 = .ok (.iconst 0, 1) := by decide +kernel
theorem dX1_addAll_37 : decode cX1_addAll 37 = .ok (.istore_n 3, 1) := by decide +kernel
theorem dX1_addAll_38 : decode cX1_addAll 38 = .ok (.iload_n 3, 1) := by decide +kernel
theorem dX1_addAll_39 : decode cX1_addAll 39 = .ok (.bipush 18, 2) := by decide +kernel
theorem dX1_addAll_41 : decode cX1_addAll 41 = .ok (.if_icmp .ge 75, 3) := by decide +kernel
theorem dX1_addAll_44 : decode cX1_addAll 44 = .ok (.iconst 0, 1) := by decide +kernel
theorem dX1_addAll_45 : decode cX1_addAll 45 = .ok (.istore 4, 2) := by decide +kernel
theorem dX1_addAll_47 : decode cX1_addAll 47 = .ok (.iload 4, 2) := by decide +kernel
theorem dX1_addAll_49 : decode cX1_addAll 49 = .ok (.sipush 324, 3) := by decide +kernel
theorem dX1_addAll_52 : decode cX1_addAll 52 = .ok (.if_icmp .ge 58, 3) := by decide +kernel
theorem dX1_addAll_55 : decode cX1_addAll 55 = .ok (.aload_n 0, 1) := by decide +kernel
theorem dX1_addAll_56 : decode cX1_addAll 56 = .ok (.iload_n 2, 1) := by decide +kernel
theorem dX1_addAll_57 : decode cX1_addAll 57 = .ok (.iload 4, 2) := by decide +kernel
theorem dX1_addAll_59 : decode cX1_addAll 59 = .ok (.bipush 18, 2) := by decide +kernel
theorem dX1_addAll_61 : decode cX1_addAll 61 = .ok (.idiv, 1) := by decide +kernel
theorem dX1_addAll_62 : decode cX1_addAll 62 = .ok (.iload 4, 2) := by decide +kernel
theorem dX1_addAll_64 : decode cX1_addAll 64 = .ok (.bipush 18, 2) := by decide +kernel
theorem dX1_addAll_66 : decode cX1_addAll 66 = .ok (.irem, 1) := by decide +kernel
theorem dX1_addAll_67 : decode cX1_addAll 67 = .ok (.invokevirtual 48, 3) := by decide +kernel
theorem dX1_addAll_70 : decode cX1_addAll 70 = .ok (.ifCond .eq 34, 3) := by decide +kernel
theorem dX1_addAll_73 : decode cX1_addAll 73 = .ok (.aload_n 0, 1) := by decide +kernel
theorem dX1_addAll_74 : decode cX1_addAll 74 = .ok (.getfield 23, 3) := by decide +kernel
theorem dX1_addAll_77 : decode cX1_addAll 77 = .ok (.iload 4, 2) := by decide +kernel
theorem dX1_addAll_79 : decode cX1_addAll 79 = .ok (.bipush 18, 2) := by decide +kernel
theorem dX1_addAll_81 : decode cX1_addAll 81 = .ok (.irem, 1) := by decide +kernel
theorem dX1_addAll_82 : decode cX1_addAll 82 = .ok (.aload_n 0, 1) := by decide +kernel
theorem dX1_addAll_83 : decode cX1_addAll 83 = .ok (.getfield 23, 3) := by decide +kernel
theorem dX1_addAll_86 : decode cX1_addAll 86 = .ok (.iload 4, 2) := by decide +kernel
theorem dX1_addAll_88 : decode cX1_addAll 88 = .ok (.bipush 18, 2) := by decide +kernel
theorem dX1_addAll_90 : decode cX1_addAll 90 = .ok (.irem, 1) := by decide +kernel
theorem dX1_addAll_91 : decode cX1_addAll 91 = .ok (.iaload, 1) := by decide +kernel
theorem dX1_addAll_92 : decode cX1_addAll 92 = .ok (.aload_n 0, 1) := by decide +kernel
theorem dX1_addAll_93 : decode cX1_addAll 93 = .ok (.getfield 23, 3) := by decide +kernel
theorem dX1_addAll_96 : decode cX1_addAll 96 = .ok (.iload 4, 2) := by decide +kernel
theorem dX1_addAll_98 : decode cX1_addAll 98 = .ok (.bipush 18, 2) := by decide +kernel
theorem dX1_addAll_100 : decode cX1_addAll 100 = .ok (.idiv, 1) := by decide +kernel
theorem dX1_addAll_101 : decode cX1_addAll 101 = .ok (.iaload, 1) := by decide +kernel
theorem dX1_addAll_102 : decode cX1_addAll 102 = .ok (.ior, 1) := by decide +kernel
theorem dX1_addAll_103 : decode cX1_addAll 103 = .ok (.iastore, 1) := by decide +kernel
theorem dX1_addAll_104 : decode cX1_addAll 104 = .ok (.iinc 4 1, 3) := by decide +kernel
theorem dX1_addAll_107 : decode cX1_addAll 107 = .ok (.goto (-60), 3) := by decide +kernel
theorem dX1_addAll_110 : decode cX1_addAll 110 = .ok (.iinc 3 1, 3) := by decide +kernel
theorem dX1_addAll_113 : decode cX1_addAll 113 = .ok (.goto (-75), 3) := by decide +kernel
theorem dX1_addAll_116 : decode cX1_addAll 116 = .ok (.return_, 1) := by decide +kernel
abbrev cX1_passes : ByteArray := prog_3_method_13_code
def yX1_passes : MethodName := ⟨RX1, "passes", "(III)Z"⟩
theorem dX1_passes_0 : decode cX1_passes 0 = .ok (.aload_n 0, 1) := by decide +kernel
theorem dX1_passes_1 : decode cX1_passes 1 = .ok (.aload_n 0, 1) := by decide +kernel
theorem dX1_passes_2 : decode cX1_passes 2 = .ok (.getfield 17, 3) := by decide +kernel
theorem dX1_passes_5 : decode cX1_passes 5 = .ok (.bipush 18, 2) := by decide +kernel
theorem dX1_passes_7 : decode cX1_passes 7 = .ok (.iload_n 1, 1) := by decide +kernel
theorem dX1_passes_8 : decode cX1_passes 8 = .ok (.imul, 1) := by decide +kernel
theorem dX1_passes_9 : decode cX1_passes 9 = .ok (.iload_n 3, 1) := by decide +kernel
theorem dX1_passes_10 : decode cX1_passes 10 = .ok (.iadd, 1) := by decide +kernel
theorem dX1_passes_11 : decode cX1_passes 11 = .ok (.iaload, 1) := by decide +kernel
theorem dX1_passes_12 : decode cX1_passes 12 = .ok (.iload_n 2, 1) := by decide +kernel
theorem dX1_passes_13 : decode cX1_passes 13 = .ok (.invokevirtual 44, 3) := by decide +kernel
theorem dX1_passes_16 : decode cX1_passes 16 = .ok (.ifCond .eq 5, 3) := by decide +kernel
theorem dX1_passes_19 : decode cX1_passes 19 = .ok (.iconst 1, 1) := by decide +kernel
theorem dX1_passes_20 : decode cX1_passes 20 = .ok (.ireturn, 1) := by decide +kernel
theorem dX1_passes_21 : decode cX1_passes 21 = .ok (.iload_n 2, 1) := by decide +kernel
theorem dX1_passes_22 : decode cX1_passes 22 = .ok (.iconst 3, 1) := by decide +kernel
theorem dX1_passes_23 : decode cX1_passes 23 = .ok (.idiv, 1) := by decide +kernel
theorem dX1_passes_24 : decode cX1_passes 24 = .ok (.iload_n 3, 1) := by decide +kernel
theorem dX1_passes_25 : decode cX1_passes 25 = .ok (.iconst 3, 1) := by decide +kernel
theorem dX1_passes_26 : decode cX1_passes 26 = .ok (.idiv, 1) := by decide +kernel
theorem dX1_passes_27 : decode cX1_passes 27 = .ok (.if_icmp .ne 29, 3) := by decide +kernel
theorem dX1_passes_30 : decode cX1_passes 30 = .ok (.aload_n 0, 1) := by decide +kernel
theorem dX1_passes_31 : decode cX1_passes 31 = .ok (.aload_n 0, 1) := by decide +kernel
theorem dX1_passes_32 : decode cX1_passes 32 = .ok (.getfield 20, 3) := by decide +kernel
theorem dX1_passes_35 : decode cX1_passes 35 = .ok (.iload_n 1, 1) := by decide +kernel
theorem dX1_passes_36 : decode cX1_passes 36 = .ok (.iaload, 1) := by decide +kernel
theorem dX1_passes_37 : decode cX1_passes 37 = .ok (.iconst 3, 1) := by decide +kernel
theorem dX1_passes_38 : decode cX1_passes 38 = .ok (.iload_n 2, 1) := by decide +kernel
theorem dX1_passes_39 : decode cX1_passes 39 = .ok (.iconst 3, 1) := by decide +kernel
theorem dX1_passes_40 : decode cX1_passes 40 = .ok (.irem, 1) := by decide +kernel
theorem dX1_passes_41 : decode cX1_passes 41 = .ok (.imul, 1) := by decide +kernel
theorem dX1_passes_42 : decode cX1_passes 42 = .ok (.iload_n 3, 1) := by decide +kernel
theorem dX1_passes_43 : decode cX1_passes 43 = .ok (.iconst 3, 1) := by decide +kernel
theorem dX1_passes_44 : decode cX1_passes 44 = .ok (.irem, 1) := by decide +kernel
theorem dX1_passes_45 : decode cX1_passes 45 = .ok (.iadd, 1) := by decide +kernel
theorem dX1_passes_46 : decode cX1_passes 46 = .ok (.invokevirtual 44, 3) := by decide +kernel
theorem dX1_passes_49 : decode cX1_passes 49 = .ok (.ifCond .eq 7, 3) := by decide +kernel
theorem dX1_passes_52 : decode cX1_passes 52 = .ok (.iconst 1, 1) := by decide +kernel
theorem dX1_passes_53 : decode cX1_passes 53 = .ok (.goto 4, 3) := by decide +kernel
theorem dX1_passes_56 : decode cX1_passes 56 = .ok (.iconst 0, 1) := by decide +kernel
theorem dX1_passes_57 : decode cX1_passes 57 = .ok (.ireturn, 1) := by decide +kernel
abbrev cX1_in : ByteArray := prog_3_method_4_code
def yX1_in : MethodName := ⟨RX1, "in", "(II)Z"⟩
theorem dX1_in_0 : decode cX1_in 0 = .ok (.iload_n 1, 1) := by decide +kernel
theorem dX1_in_1 : decode cX1_in 1 = .ok (.iload_n 2, 1) := by decide +kernel
theorem dX1_in_2 : decode cX1_in 2 = .ok (.ishr, 1) := by decide +kernel
theorem dX1_in_3 : decode cX1_in 3 = .ok (.iconst 1, 1) := by decide +kernel
theorem dX1_in_4 : decode cX1_in 4 = .ok (.iand, 1) := by decide +kernel
theorem dX1_in_5 : decode cX1_in 5 = .ok (.iconst 1, 1) := by decide +kernel
theorem dX1_in_6 : decode cX1_in 6 = .ok (.if_icmp .ne 7, 3) := by decide +kernel
theorem dX1_in_9 : decode cX1_in 9 = .ok (.iconst 1, 1) := by decide +kernel
theorem dX1_in_10 : decode cX1_in 10 = .ok (.goto 4, 3) := by decide +kernel
theorem dX1_in_13 : decode cX1_in 13 = .ok (.iconst 0, 1) := by decide +kernel
theorem dX1_in_14 : decode cX1_in 14 = .ok (.ireturn, 1) := by decide +kernel
abbrev cX1_members : ByteArray := prog_3_method_16_code
def yX1_members : MethodName := ⟨RX1, "members", "(II)I"⟩
theorem dX1_members_0 : decode cX1_members 0 = .ok (.aload_n 0, 1) := by decide +kernel
theorem dX1_members_1 : decode cX1_members 1 = .ok (.iload_n 2, 1) := by decide +kernel
theorem dX1_members_2 : decode cX1_members 2 = .ok (.invokevirtual 30, 3) := by decide +kernel
theorem dX1_members_5 : decode cX1_members 5 = .ok (.ifCond .eq 11, 3) := by decide +kernel
theorem dX1_members_8 : decode cX1_members 8 = .ok (.aload_n 0, 1) := by decide +kernel
theorem dX1_members_9 : decode cX1_members 9 = .ok (.iload_n 1, 1) := by decide +kernel
theorem dX1_members_10 : decode cX1_members 10 = .ok (.invokevirtual 41, 3) := by decide +kernel
theorem dX1_members_13 : decode cX1_members 13 = .ok (.ifCond .ne 5, 3) := by decide +kernel
theorem dX1_members_16 : decode cX1_members 16 = .ok (.iconst (-1), 1) := by decide +kernel
theorem dX1_members_17 : decode cX1_members 17 = .ok (.ireturn, 1) := by decide +kernel
theorem dX1_members_18 : decode cX1_members 18 = .ok (.aload_n 0, 1) := by decide +kernel
theorem dX1_members_19 : decode cX1_members 19 = .ok (.iload_n 1, 1) := by decide +kernel
theorem dX1_members_20 : decode cX1_members 20 = .ok (.invokevirtual 52, 3) := by decide +kernel
theorem dX1_members_23 : decode cX1_members 23 = .ok (.ifCond .ne 6, 3) := by decide +kernel
theorem dX1_members_26 : decode cX1_members 26 = .ok (.bipush (-2), 2) := by decide +kernel
theorem dX1_members_28 : decode cX1_members 28 = .ok (.ireturn, 1) := by decide +kernel
theorem dX1_members_29 : decode cX1_members 29 = .ok (.aload_n 0, 1) := by decide +kernel
theorem dX1_members_30 : decode cX1_members 30 = .ok (.iload_n 1, 1) := by decide +kernel
theorem dX1_members_31 : decode cX1_members 31 = .ok (.invokevirtual 55, 3) := by decide +kernel
theorem dX1_members_34 : decode cX1_members 34 = .ok (.aload_n 0, 1) := by decide +kernel
theorem dX1_members_35 : decode cX1_members 35 = .ok (.getfield 23, 3) := by decide +kernel
theorem dX1_members_38 : decode cX1_members 38 = .ok (.iload_n 2, 1) := by decide +kernel
theorem dX1_members_39 : decode cX1_members 39 = .ok (.iaload, 1) := by decide +kernel
theorem dX1_members_40 : decode cX1_members 40 = .ok (.ireturn, 1) := by decide +kernel
abbrev cX1_groups : ByteArray := prog_3_method_17_code
def yX1_groups : MethodName := ⟨RX1, "groups", "(II)I"⟩
theorem dX1_groups_0 : decode cX1_groups 0 = .ok (.aload_n 0, 1) := by decide +kernel
theorem dX1_groups_1 : decode cX1_groups 1 = .ok (.iload_n 2, 1) := by decide +kernel
theorem dX1_groups_2 : decode cX1_groups 2 = .ok (.invokevirtual 26, 3) := by decide +kernel
theorem dX1_groups_5 : decode cX1_groups 5 = .ok (.ifCond .eq 11, 3) := by decide +kernel
theorem dX1_groups_8 : decode cX1_groups 8 = .ok (.aload_n 0, 1) := by decide +kernel
theorem dX1_groups_9 : decode cX1_groups 9 = .ok (.iload_n 1, 1) := by decide +kernel
theorem dX1_groups_10 : decode cX1_groups 10 = .ok (.invokevirtual 41, 3) := by decide +kernel
theorem dX1_groups_13 : decode cX1_groups 13 = .ok (.ifCond .ne 5, 3) := by decide +kernel
theorem dX1_groups_16 : decode cX1_groups 16 = .ok (.iconst (-1), 1) := by decide +kernel
theorem dX1_groups_17 : decode cX1_groups 17 = .ok (.ireturn, 1) := by decide +kernel
theorem dX1_groups_18 : decode cX1_groups 18 = .ok (.aload_n 0, 1) := by decide +kernel
theorem dX1_groups_19 : decode cX1_groups 19 = .ok (.iload_n 1, 1) := by decide +kernel
theorem dX1_groups_20 : decode cX1_groups 20 = .ok (.invokevirtual 52, 3) := by decide +kernel
theorem dX1_groups_23 : decode cX1_groups 23 = .ok (.ifCond .ne 6, 3) := by decide +kernel
theorem dX1_groups_26 : decode cX1_groups 26 = .ok (.bipush (-2), 2) := by decide +kernel
theorem dX1_groups_28 : decode cX1_groups 28 = .ok (.ireturn, 1) := by decide +kernel
theorem dX1_groups_29 : decode cX1_groups 29 = .ok (.aload_n 0, 1) := by decide +kernel
theorem dX1_groups_30 : decode cX1_groups 30 = .ok (.iload_n 1, 1) := by decide +kernel
theorem dX1_groups_31 : decode cX1_groups 31 = .ok (.invokevirtual 55, 3) := by decide +kernel
theorem dX1_groups_34 : decode cX1_groups 34 = .ok (.iconst 0, 1) := by decide +kernel
theorem dX1_groups_35 : decode cX1_groups 35 = .ok (.istore_n 3, 1) := by decide +kernel
theorem dX1_groups_36 : decode cX1_groups 36 = .ok (.iconst 0, 1) := by decide +kernel
theorem dX1_groups_37 : decode cX1_groups 37 = .ok (.istore 4, 2) := by decide +kernel
theorem dX1_groups_39 : decode cX1_groups 39 = .ok (.iload 4, 2) := by decide +kernel
theorem dX1_groups_41 : decode cX1_groups 41 = .ok (.bipush 18, 2) := by decide +kernel
theorem dX1_groups_43 : decode cX1_groups 43 = .ok (.if_icmp .ge 31, 3) := by decide +kernel
theorem dX1_groups_46 : decode cX1_groups 46 = .ok (.aload_n 0, 1) := by decide +kernel
theorem dX1_groups_47 : decode cX1_groups 47 = .ok (.aload_n 0, 1) := by decide +kernel
theorem dX1_groups_48 : decode cX1_groups 48 = .ok (.getfield 23, 3) := by decide +kernel
theorem dX1_groups_51 : decode cX1_groups 51 = .ok (.iload 4, 2) := by decide +kernel
theorem dX1_groups_53 : decode cX1_groups 53 = .ok (.iaload, 1) := by decide +kernel
theorem dX1_groups_54 : decode cX1_groups 54 = .ok (.iload_n 2, 1) := by decide +kernel
theorem dX1_groups_55 : decode cX1_groups 55 = .ok (.invokevirtual 44, 3) := by decide +kernel
theorem dX1_groups_58 : decode cX1_groups 58 = .ok (.ifCond .eq 10, 3) := by decide +kernel
theorem dX1_groups_61 : decode cX1_groups 61 = .ok (.iload_n 3, 1) := by decide +kernel
theorem dX1_groups_62 : decode cX1_groups 62 = .ok (.iconst 1, 1) := by decide +kernel
theorem dX1_groups_63 : decode cX1_groups 63 = .ok (.iload 4, 2) := by decide +kernel
theorem dX1_groups_65 : decode cX1_groups 65 = .ok (.ishl, 1) := by decide +kernel
theorem dX1_groups_66 : decode cX1_groups 66 = .ok (.ior, 1) := by decide +kernel
theorem dX1_groups_67 : decode cX1_groups 67 = .ok (.istore_n 3, 1) := by decide +kernel
theorem dX1_groups_68 : decode cX1_groups 68 = .ok (.iinc 4 1, 3) := by decide +kernel
theorem dX1_groups_71 : decode cX1_groups 71 = .ok (.goto (-32), 3) := by decide +kernel
theorem dX1_groups_74 : decode cX1_groups 74 = .ok (.iload_n 3, 1) := by decide +kernel
theorem dX1_groups_75 : decode cX1_groups 75 = .ok (.ireturn, 1) := by decide +kernel
abbrev cX1_sources : ByteArray := prog_3_method_18_code
def yX1_sources : MethodName := ⟨RX1, "sources", "(II)I"⟩
theorem dX1_sources_0 : decode cX1_sources 0 = .ok (.aload_n 0, 1) := by decide +kernel
theorem dX1_sources_1 : decode cX1_sources 1 = .ok (.iload_n 2, 1) := by decide +kernel
theorem dX1_sources_2 : decode cX1_sources 2 = .ok (.invokevirtual 30, 3) := by decide +kernel
theorem dX1_sources_5 : decode cX1_sources 5 = .ok (.ifCond .eq 11, 3) := by decide +kernel
theorem dX1_sources_8 : decode cX1_sources 8 = .ok (.aload_n 0, 1) := by decide +kernel
theorem dX1_sources_9 : decode cX1_sources 9 = .ok (.iload_n 1, 1) := by decide +kernel
theorem dX1_sources_10 : decode cX1_sources 10 = .ok (.invokevirtual 41, 3) := by decide +kernel
theorem dX1_sources_13 : decode cX1_sources 13 = .ok (.ifCond .ne 5, 3) := by decide +kernel
theorem dX1_sources_16 : decode cX1_sources 16 = .ok (.iconst (-1), 1) := by decide +kernel
theorem dX1_sources_17 : decode cX1_sources 17 = .ok (.ireturn, 1) := by decide +kernel
theorem dX1_sources_18 : decode cX1_sources 18 = .ok (.aload_n 0, 1) := by decide +kernel
theorem dX1_sources_19 : decode cX1_sources 19 = .ok (.iload_n 1, 1) := by decide +kernel
theorem dX1_sources_20 : decode cX1_sources 20 = .ok (.invokevirtual 52, 3) := by decide +kernel
theorem dX1_sources_23 : decode cX1_sources 23 = .ok (.ifCond .ne 6, 3) := by decide +kernel
theorem dX1_sources_26 : decode cX1_sources 26 = .ok (.bipush (-2), 2) := by decide +kernel
theorem dX1_sources_28 : decode cX1_sources 28 = .ok (.ireturn, 1) := by decide +kernel
theorem dX1_sources_29 : decode cX1_sources 29 = .ok (.iload_n 1, 1) := by decide +kernel
theorem dX1_sources_30 : decode cX1_sources 30 = .ok (.bipush 8, 2) := by decide +kernel
theorem dX1_sources_32 : decode cX1_sources 32 = .ok (.irem, 1) := by decide +kernel
theorem dX1_sources_33 : decode cX1_sources 33 = .ok (.istore_n 3, 1) := by decide +kernel
theorem dX1_sources_34 : decode cX1_sources 34 = .ok (.iconst 1, 1) := by decide +kernel
theorem dX1_sources_35 : decode cX1_sources 35 = .ok (.iload_n 2, 1) := by decide +kernel
theorem dX1_sources_36 : decode cX1_sources 36 = .ok (.ishl, 1) := by decide +kernel
theorem dX1_sources_37 : decode cX1_sources 37 = .ok (.istore 4, 2) := by decide +kernel
theorem dX1_sources_39 : decode cX1_sources 39 = .ok (.iconst 0, 1) := by decide +kernel
theorem dX1_sources_40 : decode cX1_sources 40 = .ok (.istore 5, 2) := by decide +kernel
theorem dX1_sources_42 : decode cX1_sources 42 = .ok (.iload 5, 2) := by decide +kernel
theorem dX1_sources_44 : decode cX1_sources 44 = .ok (.bipush 18, 2) := by decide +kernel
theorem dX1_sources_46 : decode cX1_sources 46 = .ok (.if_icmp .ge 70, 3) := by decide +kernel
theorem dX1_sources_49 : decode cX1_sources 49 = .ok (.iconst 0, 1) := by decide +kernel
theorem dX1_sources_50 : decode cX1_sources 50 = .ok (.istore 6, 2) := by decide +kernel
theorem dX1_sources_52 : decode cX1_sources 52 = .ok (.iload 6, 2) := by decide +kernel
theorem dX1_sources_54 : decode cX1_sources 54 = .ok (.sipush 324, 3) := by decide +kernel
theorem dX1_sources_57 : decode cX1_sources 57 = .ok (.if_icmp .ge 53, 3) := by decide +kernel
theorem dX1_sources_60 : decode cX1_sources 60 = .ok (.aload_n 0, 1) := by decide +kernel
theorem dX1_sources_61 : decode cX1_sources 61 = .ok (.iload 4, 2) := by decide +kernel
theorem dX1_sources_63 : decode cX1_sources 63 = .ok (.iload 6, 2) := by decide +kernel
theorem dX1_sources_65 : decode cX1_sources 65 = .ok (.bipush 18, 2) := by decide +kernel
theorem dX1_sources_67 : decode cX1_sources 67 = .ok (.irem, 1) := by decide +kernel
theorem dX1_sources_68 : decode cX1_sources 68 = .ok (.invokevirtual 44, 3) := by decide +kernel
theorem dX1_sources_71 : decode cX1_sources 71 = .ok (.ifCond .eq 33, 3) := by decide +kernel
theorem dX1_sources_74 : decode cX1_sources 74 = .ok (.aload_n 0, 1) := by decide +kernel
theorem dX1_sources_75 : decode cX1_sources 75 = .ok (.iload_n 3, 1) := by decide +kernel
theorem dX1_sources_76 : decode cX1_sources 76 = .ok (.iload 6, 2) := by decide +kernel
theorem dX1_sources_78 : decode cX1_sources 78 = .ok (.bipush 18, 2) := by decide +kernel
theorem dX1_sources_80 : decode cX1_sources 80 = .ok (.idiv, 1) := by decide +kernel
theorem dX1_sources_81 : decode cX1_sources 81 = .ok (.iload 6, 2) := by decide +kernel
theorem dX1_sources_83 : decode cX1_sources 83 = .ok (.bipush 18, 2) := by decide +kernel
theorem dX1_sources_85 : decode cX1_sources 85 = .ok (.irem, 1) := by decide +kernel
theorem dX1_sources_86 : decode cX1_sources 86 = .ok (.invokevirtual 48, 3) := by decide +kernel
theorem dX1_sources_89 : decode cX1_sources 89 = .ok (.ifCond .eq 15, 3) := by decide +kernel
theorem dX1_sources_92 : decode cX1_sources 92 = .ok (.iload 4, 2) := by decide +kernel
theorem dX1_sources_94 : decode cX1_sources 94 = .ok (.iconst 1, 1) := by decide +kernel
theorem dX1_sources_95 : decode cX1_sources 95 = .ok (.iload 6, 2) := by decide +kernel
theorem dX1_sources_97 : decode cX1_sources 97 = .ok (.bipush 18, 2) := by decide +kernel
theorem dX1_sources_99 : decode cX1_sources 99 = .ok (.idiv, 1) := by decide +kernel
theorem dX1_sources_100 : decode cX1_sources 100 = .ok (.ishl, 1) := by decide +kernel
theorem dX1_sources_101 : decode cX1_sources 101 = .ok (.ior, 1) := by decide +kernel
theorem dX1_sources_102 : decode cX1_sources 102 = .ok (.istore 4, 2) := by decide +kernel
theorem dX1_sources_104 : decode cX1_sources 104 = .ok (.iinc 6 1, 3) := by decide +kernel
theorem dX1_sources_107 : decode cX1_sources 107 = .ok (.goto (-55), 3) := by decide +kernel
theorem dX1_sources_110 : decode cX1_sources 110 = .ok (.iinc 5 1, 3) := by decide +kernel
theorem dX1_sources_113 : decode cX1_sources 113 = .ok (.goto (-71), 3) := by decide +kernel
theorem dX1_sources_116 : decode cX1_sources 116 = .ok (.iload 4, 2) := by decide +kernel
theorem dX1_sources_118 : decode cX1_sources 118 = .ok (.ireturn, 1) := by decide +kernel
abbrev cX1_changed : ByteArray := prog_3_method_19_code
def yX1_changed : MethodName := ⟨RX1, "changed", "(II)I"⟩
theorem dX1_changed_0 : decode cX1_changed 0 = .ok (.aload_n 0, 1) := by decide +kernel
theorem dX1_changed_1 : decode cX1_changed 1 = .ok (.iload_n 1, 1) := by decide +kernel
theorem dX1_changed_2 : decode cX1_changed 2 = .ok (.invokevirtual 41, 3) := by decide +kernel
theorem dX1_changed_5 : decode cX1_changed 5 = .ok (.ifCond .eq 11, 3) := by decide +kernel
theorem dX1_changed_8 : decode cX1_changed 8 = .ok (.aload_n 0, 1) := by decide +kernel
theorem dX1_changed_9 : decode cX1_changed 9 = .ok (.iload_n 2, 1) := by decide +kernel
theorem dX1_changed_10 : decode cX1_changed 10 = .ok (.invokevirtual 41, 3) := by decide +kernel
theorem dX1_changed_13 : decode cX1_changed 13 = .ok (.ifCond .ne 5, 3) := by decide +kernel
theorem dX1_changed_16 : decode cX1_changed 16 = .ok (.iconst (-1), 1) := by decide +kernel
theorem dX1_changed_17 : decode cX1_changed 17 = .ok (.ireturn, 1) := by decide +kernel
theorem dX1_changed_18 : decode cX1_changed 18 = .ok (.aload_n 0, 1) := by decide +kernel
theorem dX1_changed_19 : decode cX1_changed 19 = .ok (.iload_n 1, 1) := by decide +kernel
theorem dX1_changed_20 : decode cX1_changed 20 = .ok (.invokevirtual 52, 3) := by decide +kernel
theorem dX1_changed_23 : decode cX1_changed 23 = .ok (.ifCond .eq 11, 3) := by decide +kernel
theorem dX1_changed_26 : decode cX1_changed 26 = .ok (.aload_n 0, 1) := by decide +kernel
theorem dX1_changed_27 : decode cX1_changed 27 = .ok (.iload_n 2, 1) := by decide +kernel
theorem dX1_changed_28 : decode cX1_changed 28 = .ok (.invokevirtual 52, 3) := by decide +kernel
theorem dX1_changed_31 : decode cX1_changed 31 = .ok (.ifCond .ne 6, 3) := by decide +kernel
theorem dX1_changed_34 : decode cX1_changed 34 = .ok (.bipush (-2), 2) := by decide +kernel
theorem dX1_changed_36 : decode cX1_changed 36 = .ok (.ireturn, 1) := by decide +kernel
theorem dX1_changed_37 : decode cX1_changed 37 = .ok (.iconst 0, 1) := by decide +kernel
theorem dX1_changed_38 : decode cX1_changed 38 = .ok (.istore_n 3, 1) := by decide +kernel
theorem dX1_changed_39 : decode cX1_changed 39 = .ok (.iconst 0, 1) := by decide +kernel
theorem dX1_changed_40 : decode cX1_changed 40 = .ok (.istore 4, 2) := by decide +kernel
theorem dX1_changed_42 : decode cX1_changed 42 = .ok (.iload 4, 2) := by decide +kernel
theorem dX1_changed_44 : decode cX1_changed 44 = .ok (.bipush 6, 2) := by decide +kernel
theorem dX1_changed_46 : decode cX1_changed 46 = .ok (.if_icmp .ge 60, 3) := by decide +kernel
theorem dX1_changed_49 : decode cX1_changed 49 = .ok (.aload_n 0, 1) := by decide +kernel
theorem dX1_changed_50 : decode cX1_changed 50 = .ok (.iload_n 1, 1) := by decide +kernel
theorem dX1_changed_51 : decode cX1_changed 51 = .ok (.iload 4, 2) := by decide +kernel
theorem dX1_changed_53 : decode cX1_changed 53 = .ok (.invokevirtual 59, 3) := by decide +kernel
theorem dX1_changed_56 : decode cX1_changed 56 = .ok (.istore 5, 2) := by decide +kernel
theorem dX1_changed_58 : decode cX1_changed 58 = .ok (.aload_n 0, 1) := by decide +kernel
theorem dX1_changed_59 : decode cX1_changed 59 = .ok (.iload_n 2, 1) := by decide +kernel
theorem dX1_changed_60 : decode cX1_changed 60 = .ok (.iload 4, 2) := by decide +kernel
theorem dX1_changed_62 : decode cX1_changed 62 = .ok (.invokevirtual 59, 3) := by decide +kernel
theorem dX1_changed_65 : decode cX1_changed 65 = .ok (.istore 6, 2) := by decide +kernel
theorem dX1_changed_67 : decode cX1_changed 67 = .ok (.iconst 0, 1) := by decide +kernel
theorem dX1_changed_68 : decode cX1_changed 68 = .ok (.istore 7, 2) := by decide +kernel
theorem dX1_changed_70 : decode cX1_changed 70 = .ok (.iload 7, 2) := by decide +kernel
theorem dX1_changed_72 : decode cX1_changed 72 = .ok (.bipush 18, 2) := by decide +kernel
theorem dX1_changed_74 : decode cX1_changed 74 = .ok (.if_icmp .ge 26, 3) := by decide +kernel
theorem dX1_changed_77 : decode cX1_changed 77 = .ok (.aload_n 0, 1) := by decide +kernel
theorem dX1_changed_78 : decode cX1_changed 78 = .ok (.iload 5, 2) := by decide +kernel
theorem dX1_changed_80 : decode cX1_changed 80 = .ok (.iload 6, 2) := by decide +kernel
theorem dX1_changed_82 : decode cX1_changed 82 = .ok (.ixor, 1) := by decide +kernel
theorem dX1_changed_83 : decode cX1_changed 83 = .ok (.iload 7, 2) := by decide +kernel
theorem dX1_changed_85 : decode cX1_changed 85 = .ok (.invokevirtual 44, 3) := by decide +kernel
theorem dX1_changed_88 : decode cX1_changed 88 = .ok (.ifCond .eq 6, 3) := by decide +kernel
theorem dX1_changed_91 : decode cX1_changed 91 = .ok (.iinc 3 1, 3) := by decide +kernel
theorem dX1_changed_94 : decode cX1_changed 94 = .ok (.iinc 7 1, 3) := by decide +kernel
theorem dX1_changed_97 : decode cX1_changed 97 = .ok (.goto (-27), 3) := by decide +kernel
theorem dX1_changed_100 : decode cX1_changed 100 = .ok (.iinc 4 1, 3) := by decide +kernel
theorem dX1_changed_103 : decode cX1_changed 103 = .ok (.goto (-61), 3) := by decide +kernel
theorem dX1_changed_106 : decode cX1_changed 106 = .ok (.iload_n 3, 1) := by decide +kernel
theorem dX1_changed_107 : decode cX1_changed 107 = .ok (.ireturn, 1) := by decide +kernel
abbrev cX1_since : ByteArray := prog_3_method_20_code
def yX1_since : MethodName := ⟨RX1, "since", "(III)I"⟩
theorem dX1_since_0 : decode cX1_since 0 = .ok (.aload_n 0, 1) := by decide +kernel
theorem dX1_since_1 : decode cX1_since 1 = .ok (.iload_n 1, 1) := by decide +kernel
theorem dX1_since_2 : decode cX1_since 2 = .ok (.invokevirtual 26, 3) := by decide +kernel
theorem dX1_since_5 : decode cX1_since 5 = .ok (.ifCond .eq 23, 3) := by decide +kernel
theorem dX1_since_8 : decode cX1_since 8 = .ok (.aload_n 0, 1) := by decide +kernel
theorem dX1_since_9 : decode cX1_since 9 = .ok (.iload_n 2, 1) := by decide +kernel
theorem dX1_since_10 : decode cX1_since 10 = .ok (.invokevirtual 30, 3) := by decide +kernel
theorem dX1_since_13 : decode cX1_since 13 = .ok (.ifCond .eq 15, 3) := by decide +kernel
theorem dX1_since_16 : decode cX1_since 16 = .ok (.iload_n 3, 1) := by decide +kernel
theorem dX1_since_17 : decode cX1_since 17 = .ok (.ifCond .lt 11, 3) := by decide +kernel
theorem dX1_since_20 : decode cX1_since 20 = .ok (.iload_n 3, 1) := by decide +kernel
theorem dX1_since_21 : decode cX1_since 21 = .ok (.aload_n 0, 1) := by decide +kernel
theorem dX1_since_22 : decode cX1_since 22 = .ok (.getfield 7, 3) := by decide +kernel
theorem dX1_since_25 : decode cX1_since 25 = .ok (.if_icmp .le 5, 3) := by decide +kernel
theorem dX1_since_28 : decode cX1_since 28 = .ok (.iconst (-1), 1) := by decide +kernel
theorem dX1_since_29 : decode cX1_since 29 = .ok (.ireturn, 1) := by decide +kernel
theorem dX1_since_30 : decode cX1_since 30 = .ok (.bipush 7, 2) := by decide +kernel
theorem dX1_since_32 : decode cX1_since 32 = .ok (.istore 4, 2) := by decide +kernel
theorem dX1_since_34 : decode cX1_since 34 = .ok (.iload 4, 2) := by decide +kernel
theorem dX1_since_36 : decode cX1_since 36 = .ok (.ifCond .lt 39, 3) := by decide +kernel
theorem dX1_since_39 : decode cX1_since 39 = .ok (.aload_n 0, 1) := by decide +kernel
theorem dX1_since_40 : decode cX1_since 40 = .ok (.getfield 7, 3) := by decide +kernel
theorem dX1_since_43 : decode cX1_since 43 = .ok (.iload 4, 2) := by decide +kernel
theorem dX1_since_45 : decode cX1_since 45 = .ok (.isub, 1) := by decide +kernel
theorem dX1_since_46 : decode cX1_since 46 = .ok (.istore 5, 2) := by decide +kernel
theorem dX1_since_48 : decode cX1_since 48 = .ok (.iload 5, 2) := by decide +kernel
theorem dX1_since_50 : decode cX1_since 50 = .ok (.iload_n 3, 1) := by decide +kernel
theorem dX1_since_51 : decode cX1_since 51 = .ok (.if_icmp .lt 18, 3) := by decide +kernel
theorem dX1_since_54 : decode cX1_since 54 = .ok (.aload_n 0, 1) := by decide +kernel
theorem dX1_since_55 : decode cX1_since 55 = .ok (.iload 5, 2) := by decide +kernel
theorem dX1_since_57 : decode cX1_since 57 = .ok (.iload_n 1, 1) := by decide +kernel
theorem dX1_since_58 : decode cX1_since 58 = .ok (.iload_n 2, 1) := by decide +kernel
theorem dX1_since_59 : decode cX1_since 59 = .ok (.invokevirtual 63, 3) := by decide +kernel
theorem dX1_since_62 : decode cX1_since 62 = .ok (.iconst 1, 1) := by decide +kernel
theorem dX1_since_63 : decode cX1_since 63 = .ok (.if_icmp .ne 6, 3) := by decide +kernel
theorem dX1_since_66 : decode cX1_since 66 = .ok (.iload 5, 2) := by decide +kernel
theorem dX1_since_68 : decode cX1_since 68 = .ok (.ireturn, 1) := by decide +kernel
theorem dX1_since_69 : decode cX1_since 69 = .ok (.iinc 4 (-1), 3) := by decide +kernel
theorem dX1_since_72 : decode cX1_since 72 = .ok (.goto (-38), 3) := by decide +kernel
theorem dX1_since_75 : decode cX1_since 75 = .ok (.bipush (-3), 2) := by decide +kernel
theorem dX1_since_77 : decode cX1_since 77 = .ok (.ireturn, 1) := by decide +kernel
theorem q21 : (Jvm.Cond.initialized "RelationTuplesModel") ∈ lw_all := lw_g (lw_at lw_m0 2 rfl) rfl
theorem q159 : (Jvm.Cond.instantiable "RelationTuplesModel" (5 : Nat)) ∈ lw_all := lw_g (lw_at lw_m0 140 rfl) rfl
theorem q161 : (Jvm.Cond.instanceMethod ({ cls := "RelationTuplesModel", name := "<init>", desc := "()V" } : Jvm.MethodName)) ∈ lw_all := lw_g (lw_at lw_m0 142 rfl) rfl
theorem q162 : (Jvm.Cond.code ({ cls := "RelationTuplesModel", name := "<init>", desc := "()V" } : Jvm.MethodName) prog_3_method_1_code (1 : Nat) (Option.none : Option Jvm.ClassFile.FieldType)) ∈ lw_all := lw_g (lw_at lw_m0 143 rfl) rfl
theorem q163 : (Jvm.Cond.methodLink "RelationTuplesModel" (1 : Nat) ({ cls := "java/lang/Object", name := "<init>", desc := "()V" } : Jvm.MethodName)) ∈ lw_all := lw_g (lw_at lw_m0 144 rfl) rfl
theorem q164 : (Jvm.Cond.fieldLink "RelationTuplesModel" (7 : Nat) "RelationTuplesModel" "latest" "I") ∈ lw_all := lw_g (lw_at lw_m0 145 rfl) rfl
theorem q165 : (Jvm.Cond.fieldLink "RelationTuplesModel" (13 : Nat) "RelationTuplesModel" "entered" "[I") ∈ lw_all := lw_g (lw_at lw_m0 146 rfl) rfl
theorem q166 : (Jvm.Cond.fieldLink "RelationTuplesModel" (17 : Nat) "RelationTuplesModel" "inner" "[I") ∈ lw_all := lw_g (lw_at lw_m0 147 rfl) rfl
theorem q167 : (Jvm.Cond.fieldLink "RelationTuplesModel" (20 : Nat) "RelationTuplesModel" "rules" "[I") ∈ lw_all := lw_g (lw_at lw_m0 148 rfl) rfl
theorem q168 : (Jvm.Cond.fieldLink "RelationTuplesModel" (23 : Nat) "RelationTuplesModel" "members" "[I") ∈ lw_all := lw_g (lw_at lw_m0 149 rfl) rfl
theorem q169 : (Jvm.Cond.lays "RelationTuplesModel" "RelationTuplesModel" "latest" "I") ∈ lw_all := lw_g (lw_at lw_m0 150 rfl) rfl
theorem q170 : (Jvm.Cond.soleField "RelationTuplesModel" "latest") ∈ lw_all := lw_g (lw_at lw_m0 151 rfl) rfl
theorem q171 : (Jvm.Cond.lays "RelationTuplesModel" "RelationTuplesModel" "entered" "[I") ∈ lw_all := lw_g (lw_at lw_m0 152 rfl) rfl
theorem q172 : (Jvm.Cond.soleField "RelationTuplesModel" "entered") ∈ lw_all := lw_g (lw_at lw_m0 153 rfl) rfl
theorem q173 : (Jvm.Cond.lays "RelationTuplesModel" "RelationTuplesModel" "inner" "[I") ∈ lw_all := lw_g (lw_at lw_m0 154 rfl) rfl
theorem q174 : (Jvm.Cond.soleField "RelationTuplesModel" "inner") ∈ lw_all := lw_g (lw_at lw_m0 155 rfl) rfl
theorem q175 : (Jvm.Cond.lays "RelationTuplesModel" "RelationTuplesModel" "rules" "[I") ∈ lw_all := lw_g (lw_at lw_m0 156 rfl) rfl
theorem q176 : (Jvm.Cond.soleField "RelationTuplesModel" "rules") ∈ lw_all := lw_g (lw_at lw_m0 157 rfl) rfl
theorem q177 : (Jvm.Cond.lays "RelationTuplesModel" "RelationTuplesModel" "members" "[I") ∈ lw_all := lw_g (lw_at lw_m0 158 rfl) rfl
theorem q178 : (Jvm.Cond.soleField "RelationTuplesModel" "members") ∈ lw_all := lw_g (lw_at lw_m0 159 rfl) rfl
theorem q179 : (Jvm.Cond.superclass "RelationTuplesModel" "java/lang/Object") ∈ lw_all := lw_g (lw_at lw_m0 160 rfl) rfl
theorem q181 : (Jvm.Cond.instanceMethod ({ cls := "RelationTuplesModel", name := "enter", desc := "(IIZ)I" } : Jvm.MethodName)) ∈ lw_all := lw_g (lw_at lw_m0 162 rfl) rfl
theorem q182 : (Jvm.Cond.selects "RelationTuplesModel" ({ cls := "RelationTuplesModel", name := "enter", desc := "(IIZ)I" } : Jvm.MethodName) ({ cls := "RelationTuplesModel", name := "enter", desc := "(IIZ)I" } : Jvm.MethodName)) ∈ lw_all := lw_g (lw_at lw_m0 163 rfl) rfl
theorem q183 : (Jvm.Cond.code ({ cls := "RelationTuplesModel", name := "enter", desc := "(IIZ)I" } : Jvm.MethodName) prog_3_method_7_code (5 : Nat) (Option.some Jvm.ClassFile.FieldType.int)) ∈ lw_all := lw_g (lw_at lw_m0 164 rfl) rfl
theorem q184 : (Jvm.Cond.methodLink "RelationTuplesModel" (26 : Nat) ({ cls := "RelationTuplesModel", name := "isPerson", desc := "(I)Z" } : Jvm.MethodName)) ∈ lw_all := lw_g (lw_at lw_m0 165 rfl) rfl
theorem q185 : (Jvm.Cond.privateMethod ({ cls := "RelationTuplesModel", name := "isPerson", desc := "(I)Z" } : Jvm.MethodName)) ∈ lw_tbl := lw_at lw_m0 166 rfl
theorem q186 : (Jvm.Cond.instanceMethod ({ cls := "RelationTuplesModel", name := "isPerson", desc := "(I)Z" } : Jvm.MethodName)) ∈ lw_all := lw_g (lw_at lw_m0 167 rfl) rfl
theorem q187 : (Jvm.Cond.code ({ cls := "RelationTuplesModel", name := "isPerson", desc := "(I)Z" } : Jvm.MethodName) prog_3_method_2_code (2 : Nat) (Option.some Jvm.ClassFile.FieldType.boolean)) ∈ lw_all := lw_g (lw_at lw_m0 168 rfl) rfl
theorem q188 : (Jvm.Cond.methodLink "RelationTuplesModel" (30 : Nat) ({ cls := "RelationTuplesModel", name := "isGroup", desc := "(I)Z" } : Jvm.MethodName)) ∈ lw_all := lw_g (lw_at lw_m0 169 rfl) rfl
theorem q189 : (Jvm.Cond.privateMethod ({ cls := "RelationTuplesModel", name := "isGroup", desc := "(I)Z" } : Jvm.MethodName)) ∈ lw_tbl := lw_at lw_m0 170 rfl
theorem q190 : (Jvm.Cond.instanceMethod ({ cls := "RelationTuplesModel", name := "isGroup", desc := "(I)Z" } : Jvm.MethodName)) ∈ lw_all := lw_g (lw_at lw_m0 171 rfl) rfl
theorem q191 : (Jvm.Cond.code ({ cls := "RelationTuplesModel", name := "isGroup", desc := "(I)Z" } : Jvm.MethodName) prog_3_method_3_code (2 : Nat) (Option.some Jvm.ClassFile.FieldType.boolean)) ∈ lw_all := lw_g (lw_at lw_m0 172 rfl) rfl
theorem q192 : (Jvm.Cond.methodLink "RelationTuplesModel" (33 : Nat) ({ cls := "RelationTuplesModel", name := "next", desc := "()I" } : Jvm.MethodName)) ∈ lw_all := lw_g (lw_at lw_m0 173 rfl) rfl
theorem q193 : (Jvm.Cond.privateMethod ({ cls := "RelationTuplesModel", name := "next", desc := "()I" } : Jvm.MethodName)) ∈ lw_tbl := lw_at lw_m0 174 rfl
theorem q194 : (Jvm.Cond.instanceMethod ({ cls := "RelationTuplesModel", name := "next", desc := "()I" } : Jvm.MethodName)) ∈ lw_all := lw_g (lw_at lw_m0 175 rfl) rfl
theorem q195 : (Jvm.Cond.code ({ cls := "RelationTuplesModel", name := "next", desc := "()I" } : Jvm.MethodName) prog_3_method_6_code (4 : Nat) (Option.some Jvm.ClassFile.FieldType.int)) ∈ lw_all := lw_g (lw_at lw_m0 176 rfl) rfl
theorem q196 : (Jvm.Cond.methodLink "RelationTuplesModel" (37 : Nat) ({ cls := "RelationTuplesModel", name := "with", desc := "(IIZ)I" } : Jvm.MethodName)) ∈ lw_all := lw_g (lw_at lw_m0 177 rfl) rfl
theorem q197 : (Jvm.Cond.privateMethod ({ cls := "RelationTuplesModel", name := "with", desc := "(IIZ)I" } : Jvm.MethodName)) ∈ lw_tbl := lw_at lw_m0 178 rfl
theorem q198 : (Jvm.Cond.instanceMethod ({ cls := "RelationTuplesModel", name := "with", desc := "(IIZ)I" } : Jvm.MethodName)) ∈ lw_all := lw_g (lw_at lw_m0 179 rfl) rfl
theorem q199 : (Jvm.Cond.code ({ cls := "RelationTuplesModel", name := "with", desc := "(IIZ)I" } : Jvm.MethodName) prog_3_method_5_code (4 : Nat) (Option.some Jvm.ClassFile.FieldType.int)) ∈ lw_all := lw_g (lw_at lw_m0 180 rfl) rfl
theorem q201 : (Jvm.Cond.instanceMethod ({ cls := "RelationTuplesModel", name := "nest", desc := "(IIZ)I" } : Jvm.MethodName)) ∈ lw_all := lw_g (lw_at lw_m0 182 rfl) rfl
theorem q202 : (Jvm.Cond.selects "RelationTuplesModel" ({ cls := "RelationTuplesModel", name := "nest", desc := "(IIZ)I" } : Jvm.MethodName) ({ cls := "RelationTuplesModel", name := "nest", desc := "(IIZ)I" } : Jvm.MethodName)) ∈ lw_all := lw_g (lw_at lw_m0 183 rfl) rfl
theorem q203 : (Jvm.Cond.code ({ cls := "RelationTuplesModel", name := "nest", desc := "(IIZ)I" } : Jvm.MethodName) prog_3_method_8_code (5 : Nat) (Option.some Jvm.ClassFile.FieldType.int)) ∈ lw_all := lw_g (lw_at lw_m0 184 rfl) rfl
theorem q205 : (Jvm.Cond.instanceMethod ({ cls := "RelationTuplesModel", name := "rule", desc := "(IIZ)I" } : Jvm.MethodName)) ∈ lw_all := lw_g (lw_at lw_m0 186 rfl) rfl
theorem q206 : (Jvm.Cond.selects "RelationTuplesModel" ({ cls := "RelationTuplesModel", name := "rule", desc := "(IIZ)I" } : Jvm.MethodName) ({ cls := "RelationTuplesModel", name := "rule", desc := "(IIZ)I" } : Jvm.MethodName)) ∈ lw_all := lw_g (lw_at lw_m0 187 rfl) rfl
theorem q207 : (Jvm.Cond.code ({ cls := "RelationTuplesModel", name := "rule", desc := "(IIZ)I" } : Jvm.MethodName) prog_3_method_9_code (5 : Nat) (Option.some Jvm.ClassFile.FieldType.int)) ∈ lw_all := lw_g (lw_at lw_m0 188 rfl) rfl
theorem q209 : (Jvm.Cond.instanceMethod ({ cls := "RelationTuplesModel", name := "latest", desc := "()I" } : Jvm.MethodName)) ∈ lw_all := lw_g (lw_at lw_m0 190 rfl) rfl
theorem q210 : (Jvm.Cond.selects "RelationTuplesModel" ({ cls := "RelationTuplesModel", name := "latest", desc := "()I" } : Jvm.MethodName) ({ cls := "RelationTuplesModel", name := "latest", desc := "()I" } : Jvm.MethodName)) ∈ lw_all := lw_g (lw_at lw_m0 191 rfl) rfl
theorem q211 : (Jvm.Cond.code ({ cls := "RelationTuplesModel", name := "latest", desc := "()I" } : Jvm.MethodName) prog_3_method_10_code (1 : Nat) (Option.some Jvm.ClassFile.FieldType.int)) ∈ lw_all := lw_g (lw_at lw_m0 192 rfl) rfl
theorem q213 : (Jvm.Cond.instanceMethod ({ cls := "RelationTuplesModel", name := "check", desc := "(III)I" } : Jvm.MethodName)) ∈ lw_all := lw_g (lw_at lw_m0 194 rfl) rfl
theorem q214 : (Jvm.Cond.selects "RelationTuplesModel" ({ cls := "RelationTuplesModel", name := "check", desc := "(III)I" } : Jvm.MethodName) ({ cls := "RelationTuplesModel", name := "check", desc := "(III)I" } : Jvm.MethodName)) ∈ lw_all := lw_g (lw_at lw_m0 195 rfl) rfl
theorem q215 : (Jvm.Cond.code ({ cls := "RelationTuplesModel", name := "check", desc := "(III)I" } : Jvm.MethodName) prog_3_method_15_code (4 : Nat) (Option.some Jvm.ClassFile.FieldType.int)) ∈ lw_all := lw_g (lw_at lw_m0 196 rfl) rfl
theorem q216 : (Jvm.Cond.methodLink "RelationTuplesModel" (41 : Nat) ({ cls := "RelationTuplesModel", name := "exists", desc := "(I)Z" } : Jvm.MethodName)) ∈ lw_all := lw_g (lw_at lw_m0 197 rfl) rfl
theorem q217 : (Jvm.Cond.privateMethod ({ cls := "RelationTuplesModel", name := "exists", desc := "(I)Z" } : Jvm.MethodName)) ∈ lw_tbl := lw_at lw_m0 198 rfl
theorem q218 : (Jvm.Cond.instanceMethod ({ cls := "RelationTuplesModel", name := "exists", desc := "(I)Z" } : Jvm.MethodName)) ∈ lw_all := lw_g (lw_at lw_m0 199 rfl) rfl
theorem q219 : (Jvm.Cond.code ({ cls := "RelationTuplesModel", name := "exists", desc := "(I)Z" } : Jvm.MethodName) prog_3_method_11_code (2 : Nat) (Option.some Jvm.ClassFile.FieldType.boolean)) ∈ lw_all := lw_g (lw_at lw_m0 200 rfl) rfl
theorem q220 : (Jvm.Cond.methodLink "RelationTuplesModel" (52 : Nat) ({ cls := "RelationTuplesModel", name := "isKept", desc := "(I)Z" } : Jvm.MethodName)) ∈ lw_all := lw_g (lw_at lw_m0 201 rfl) rfl
theorem q221 : (Jvm.Cond.privateMethod ({ cls := "RelationTuplesModel", name := "isKept", desc := "(I)Z" } : Jvm.MethodName)) ∈ lw_tbl := lw_at lw_m0 202 rfl
theorem q222 : (Jvm.Cond.instanceMethod ({ cls := "RelationTuplesModel", name := "isKept", desc := "(I)Z" } : Jvm.MethodName)) ∈ lw_all := lw_g (lw_at lw_m0 203 rfl) rfl
theorem q223 : (Jvm.Cond.code ({ cls := "RelationTuplesModel", name := "isKept", desc := "(I)Z" } : Jvm.MethodName) prog_3_method_12_code (2 : Nat) (Option.some Jvm.ClassFile.FieldType.boolean)) ∈ lw_all := lw_g (lw_at lw_m0 204 rfl) rfl
theorem q224 : (Jvm.Cond.methodLink "RelationTuplesModel" (55 : Nat) ({ cls := "RelationTuplesModel", name := "addAll", desc := "(I)V" } : Jvm.MethodName)) ∈ lw_all := lw_g (lw_at lw_m0 205 rfl) rfl
theorem q225 : (Jvm.Cond.privateMethod ({ cls := "RelationTuplesModel", name := "addAll", desc := "(I)V" } : Jvm.MethodName)) ∈ lw_tbl := lw_at lw_m0 206 rfl
theorem q226 : (Jvm.Cond.instanceMethod ({ cls := "RelationTuplesModel", name := "addAll", desc := "(I)V" } : Jvm.MethodName)) ∈ lw_all := lw_g (lw_at lw_m0 207 rfl) rfl
theorem q227 : (Jvm.Cond.code ({ cls := "RelationTuplesModel", name := "addAll", desc := "(I)V" } : Jvm.MethodName) prog_3_method_14_code (5 : Nat) (Option.none : Option Jvm.ClassFile.FieldType)) ∈ lw_all := lw_g (lw_at lw_m0 208 rfl) rfl
theorem q228 : (Jvm.Cond.methodLink "RelationTuplesModel" (48 : Nat) ({ cls := "RelationTuplesModel", name := "passes", desc := "(III)Z" } : Jvm.MethodName)) ∈ lw_all := lw_g (lw_at lw_m0 209 rfl) rfl
theorem q229 : (Jvm.Cond.privateMethod ({ cls := "RelationTuplesModel", name := "passes", desc := "(III)Z" } : Jvm.MethodName)) ∈ lw_tbl := lw_at lw_m0 210 rfl
theorem q230 : (Jvm.Cond.instanceMethod ({ cls := "RelationTuplesModel", name := "passes", desc := "(III)Z" } : Jvm.MethodName)) ∈ lw_all := lw_g (lw_at lw_m0 211 rfl) rfl
theorem q231 : (Jvm.Cond.code ({ cls := "RelationTuplesModel", name := "passes", desc := "(III)Z" } : Jvm.MethodName) prog_3_method_13_code (4 : Nat) (Option.some Jvm.ClassFile.FieldType.boolean)) ∈ lw_all := lw_g (lw_at lw_m0 212 rfl) rfl
theorem q232 : (Jvm.Cond.methodLink "RelationTuplesModel" (44 : Nat) ({ cls := "RelationTuplesModel", name := "in", desc := "(II)Z" } : Jvm.MethodName)) ∈ lw_all := lw_g (lw_at lw_m0 213 rfl) rfl
theorem q233 : (Jvm.Cond.privateMethod ({ cls := "RelationTuplesModel", name := "in", desc := "(II)Z" } : Jvm.MethodName)) ∈ lw_tbl := lw_at lw_m0 214 rfl
theorem q234 : (Jvm.Cond.instanceMethod ({ cls := "RelationTuplesModel", name := "in", desc := "(II)Z" } : Jvm.MethodName)) ∈ lw_all := lw_g (lw_at lw_m0 215 rfl) rfl
theorem q235 : (Jvm.Cond.code ({ cls := "RelationTuplesModel", name := "in", desc := "(II)Z" } : Jvm.MethodName) prog_3_method_4_code (3 : Nat) (Option.some Jvm.ClassFile.FieldType.boolean)) ∈ lw_all := lw_g (lw_at lw_m0 216 rfl) rfl
theorem q237 : (Jvm.Cond.instanceMethod ({ cls := "RelationTuplesModel", name := "members", desc := "(II)I" } : Jvm.MethodName)) ∈ lw_all := lw_g (lw_at lw_m0 218 rfl) rfl
theorem q238 : (Jvm.Cond.selects "RelationTuplesModel" ({ cls := "RelationTuplesModel", name := "members", desc := "(II)I" } : Jvm.MethodName) ({ cls := "RelationTuplesModel", name := "members", desc := "(II)I" } : Jvm.MethodName)) ∈ lw_all := lw_g (lw_at lw_m0 219 rfl) rfl
theorem q239 : (Jvm.Cond.code ({ cls := "RelationTuplesModel", name := "members", desc := "(II)I" } : Jvm.MethodName) prog_3_method_16_code (3 : Nat) (Option.some Jvm.ClassFile.FieldType.int)) ∈ lw_all := lw_g (lw_at lw_m0 220 rfl) rfl
theorem q241 : (Jvm.Cond.instanceMethod ({ cls := "RelationTuplesModel", name := "groups", desc := "(II)I" } : Jvm.MethodName)) ∈ lw_all := lw_g (lw_at lw_m0 222 rfl) rfl
theorem q242 : (Jvm.Cond.selects "RelationTuplesModel" ({ cls := "RelationTuplesModel", name := "groups", desc := "(II)I" } : Jvm.MethodName) ({ cls := "RelationTuplesModel", name := "groups", desc := "(II)I" } : Jvm.MethodName)) ∈ lw_all := lw_g (lw_at lw_m0 223 rfl) rfl
theorem q243 : (Jvm.Cond.code ({ cls := "RelationTuplesModel", name := "groups", desc := "(II)I" } : Jvm.MethodName) prog_3_method_17_code (5 : Nat) (Option.some Jvm.ClassFile.FieldType.int)) ∈ lw_all := lw_g (lw_at lw_m0 224 rfl) rfl
theorem q245 : (Jvm.Cond.instanceMethod ({ cls := "RelationTuplesModel", name := "sources", desc := "(II)I" } : Jvm.MethodName)) ∈ lw_all := lw_g (lw_at lw_m0 226 rfl) rfl
theorem q246 : (Jvm.Cond.selects "RelationTuplesModel" ({ cls := "RelationTuplesModel", name := "sources", desc := "(II)I" } : Jvm.MethodName) ({ cls := "RelationTuplesModel", name := "sources", desc := "(II)I" } : Jvm.MethodName)) ∈ lw_all := lw_g (lw_at lw_m0 227 rfl) rfl
theorem q247 : (Jvm.Cond.code ({ cls := "RelationTuplesModel", name := "sources", desc := "(II)I" } : Jvm.MethodName) prog_3_method_18_code (7 : Nat) (Option.some Jvm.ClassFile.FieldType.int)) ∈ lw_all := lw_g (lw_at lw_m0 228 rfl) rfl
theorem q249 : (Jvm.Cond.instanceMethod ({ cls := "RelationTuplesModel", name := "changed", desc := "(II)I" } : Jvm.MethodName)) ∈ lw_all := lw_g (lw_at lw_m0 230 rfl) rfl
theorem q250 : (Jvm.Cond.selects "RelationTuplesModel" ({ cls := "RelationTuplesModel", name := "changed", desc := "(II)I" } : Jvm.MethodName) ({ cls := "RelationTuplesModel", name := "changed", desc := "(II)I" } : Jvm.MethodName)) ∈ lw_all := lw_g (lw_at lw_m0 231 rfl) rfl
theorem q251 : (Jvm.Cond.code ({ cls := "RelationTuplesModel", name := "changed", desc := "(II)I" } : Jvm.MethodName) prog_3_method_19_code (8 : Nat) (Option.some Jvm.ClassFile.FieldType.int)) ∈ lw_all := lw_g (lw_at lw_m0 232 rfl) rfl
theorem q252 : (Jvm.Cond.methodLink "RelationTuplesModel" (59 : Nat) ({ cls := "RelationTuplesModel", name := "groups", desc := "(II)I" } : Jvm.MethodName)) ∈ lw_all := lw_g (lw_at lw_m0 233 rfl) rfl
theorem q254 : (Jvm.Cond.instanceMethod ({ cls := "RelationTuplesModel", name := "since", desc := "(III)I" } : Jvm.MethodName)) ∈ lw_all := lw_g (lw_at lw_m0 235 rfl) rfl
theorem q255 : (Jvm.Cond.selects "RelationTuplesModel" ({ cls := "RelationTuplesModel", name := "since", desc := "(III)I" } : Jvm.MethodName) ({ cls := "RelationTuplesModel", name := "since", desc := "(III)I" } : Jvm.MethodName)) ∈ lw_all := lw_g (lw_at lw_m0 236 rfl) rfl
theorem q256 : (Jvm.Cond.code ({ cls := "RelationTuplesModel", name := "since", desc := "(III)I" } : Jvm.MethodName) prog_3_method_20_code (6 : Nat) (Option.some Jvm.ClassFile.FieldType.int)) ∈ lw_all := lw_g (lw_at lw_m0 237 rfl) rfl
theorem q257 : (Jvm.Cond.methodLink "RelationTuplesModel" (63 : Nat) ({ cls := "RelationTuplesModel", name := "check", desc := "(III)I" } : Jvm.MethodName)) ∈ lw_all := lw_g (lw_at lw_m0 238 rfl) rfl
theorem in_X1 : ∀ w ∈ wsX10, w ∈ lw_all := lw_in wsX10 [169, 171, 173, 175, 177] (by decide +kernel) (by decide +kernel)
end
section
/-! java/lang/Object -/
set_option maxRecDepth 100000
def RJ0 : String := "java/lang/Object"
abbrev cJ0_init : ByteArray := object_method_1_code
def yJ0_init : MethodName := ⟨RJ0, "<init>", "()V"⟩
theorem dJ0_init_0 : decode cJ0_init 0 = .ok (.return_, 1) := by decide +kernel
theorem q28 : (Jvm.Cond.instanceMethod ({ cls := "java/lang/Object", name := "<init>", desc := "()V" } : Jvm.MethodName)) ∈ lw_all := lw_g (lw_at lw_m0 9 rfl) rfl
theorem q29 : (Jvm.Cond.code ({ cls := "java/lang/Object", name := "<init>", desc := "()V" } : Jvm.MethodName) object_method_1_code (1 : Nat) (Option.none : Option Jvm.ClassFile.FieldType)) ∈ lw_all := lw_g (lw_at lw_m0 10 rfl) rfl
/-! the law's own entry -/
set_option maxRecDepth 100000
abbrev cL_law : ByteArray := code
theorem dL_law_0 : decode cL_law 0 = .ok (.new 7, 3) := by decide +kernel
theorem dL_law_3 : decode cL_law 3 = .ok (.dup, 1) := by decide +kernel
theorem dL_law_4 : decode cL_law 4 = .ok (.invokespecial 9, 3) := by decide +kernel
theorem dL_law_7 : decode cL_law 7 = .ok (.astore_n 1, 1) := by decide +kernel
theorem dL_law_8 : decode cL_law 8 = .ok (.new 10, 3) := by decide +kernel
theorem dL_law_11 : decode cL_law 11 = .ok (.dup, 1) := by decide +kernel
theorem dL_law_12 : decode cL_law 12 = .ok (.invokespecial 12, 3) := by decide +kernel
theorem dL_law_15 : decode cL_law 15 = .ok (.astore_n 2, 1) := by decide +kernel
theorem dL_law_16 : decode cL_law 16 = .ok (.iconst 0, 1) := by decide +kernel
theorem dL_law_17 : decode cL_law 17 = .ok (.istore_n 3, 1) := by decide +kernel
theorem dL_law_18 : decode cL_law 18 = .ok (.iload_n 3, 1) := by decide +kernel
theorem dL_law_19 : decode cL_law 19 = .ok (.aload_n 0, 1) := by decide +kernel
theorem dL_law_20 : decode cL_law 20 = .ok (.arraylength, 1) := by decide +kernel
theorem dL_law_21 : decode cL_law 21 = .ok (.iconst 4, 1) := by decide +kernel
theorem dL_law_22 : decode cL_law 22 = .ok (.isub, 1) := by decide +kernel
theorem dL_law_23 : decode cL_law 23 = .ok (.if_icmp .gt 479, 3) := by decide +kernel
theorem dL_law_26 : decode cL_law 26 = .ok (.aload_n 0, 1) := by decide +kernel
theorem dL_law_27 : decode cL_law 27 = .ok (.iload_n 3, 1) := by decide +kernel
theorem dL_law_28 : decode cL_law 28 = .ok (.iaload, 1) := by decide +kernel
theorem dL_law_29 : decode cL_law 29 = .ok (.bipush 15, 2) := by decide +kernel
theorem dL_law_31 : decode cL_law 31 = .ok (.iand, 1) := by decide +kernel
theorem dL_law_32 : decode cL_law 32 = .ok (.tableswitch 464 0 9 #[56, 115, 174, 233, 246, 289, 322, 355, 388, 421], 56) := by decide +kernel
theorem dL_law_88 : decode cL_law 88 = .ok (.aload_n 1, 1) := by decide +kernel
theorem dL_law_89 : decode cL_law 89 = .ok (.aload_n 0, 1) := by decide +kernel
theorem dL_law_90 : decode cL_law 90 = .ok (.iload_n 3, 1) := by decide +kernel
theorem dL_law_91 : decode cL_law 91 = .ok (.iconst 1, 1) := by decide +kernel
theorem dL_law_92 : decode cL_law 92 = .ok (.iadd, 1) := by decide +kernel
theorem dL_law_93 : decode cL_law 93 = .ok (.iaload, 1) := by decide +kernel
theorem dL_law_94 : decode cL_law 94 = .ok (.aload_n 0, 1) := by decide +kernel
theorem dL_law_95 : decode cL_law 95 = .ok (.iload_n 3, 1) := by decide +kernel
theorem dL_law_96 : decode cL_law 96 = .ok (.iconst 2, 1) := by decide +kernel
theorem dL_law_97 : decode cL_law 97 = .ok (.iadd, 1) := by decide +kernel
theorem dL_law_98 : decode cL_law 98 = .ok (.iaload, 1) := by decide +kernel
theorem dL_law_99 : decode cL_law 99 = .ok (.aload_n 0, 1) := by decide +kernel
theorem dL_law_100 : decode cL_law 100 = .ok (.iload_n 3, 1) := by decide +kernel
theorem dL_law_101 : decode cL_law 101 = .ok (.iconst 3, 1) := by decide +kernel
theorem dL_law_102 : decode cL_law 102 = .ok (.iadd, 1) := by decide +kernel
theorem dL_law_103 : decode cL_law 103 = .ok (.iaload, 1) := by decide +kernel
theorem dL_law_104 : decode cL_law 104 = .ok (.ifCond .eq 7, 3) := by decide +kernel
theorem dL_law_107 : decode cL_law 107 = .ok (.iconst 1, 1) := by decide +kernel
theorem dL_law_108 : decode cL_law 108 = .ok (.goto 4, 3) := by decide +kernel
theorem dL_law_111 : decode cL_law 111 = .ok (.iconst 0, 1) := by decide +kernel
theorem dL_law_112 : decode cL_law 112 = .ok (.invokevirtual 13, 3) := by decide +kernel
theorem dL_law_115 : decode cL_law 115 = .ok (.aload_n 2, 1) := by decide +kernel
theorem dL_law_116 : decode cL_law 116 = .ok (.aload_n 0, 1) := by decide +kernel
theorem dL_law_117 : decode cL_law 117 = .ok (.iload_n 3, 1) := by decide +kernel
theorem dL_law_118 : decode cL_law 118 = .ok (.iconst 1, 1) := by decide +kernel
theorem dL_law_119 : decode cL_law 119 = .ok (.iadd, 1) := by decide +kernel
theorem dL_law_120 : decode cL_law 120 = .ok (.iaload, 1) := by decide +kernel
theorem dL_law_121 : decode cL_law 121 = .ok (.aload_n 0, 1) := by decide +kernel
theorem dL_law_122 : decode cL_law 122 = .ok (.iload_n 3, 1) := by decide +kernel
theorem dL_law_123 : decode cL_law 123 = .ok (.iconst 2, 1) := by decide +kernel
theorem dL_law_124 : decode cL_law 124 = .ok (.iadd, 1) := by decide +kernel
theorem dL_law_125 : decode cL_law 125 = .ok (.iaload, 1) := by decide +kernel
theorem dL_law_126 : decode cL_law 126 = .ok (.aload_n 0, 1) := by decide +kernel
theorem dL_law_127 : decode cL_law 127 = .ok (.iload_n 3, 1) := by decide +kernel
theorem dL_law_128 : decode cL_law 128 = .ok (.iconst 3, 1) := by decide +kernel
theorem dL_law_129 : decode cL_law 129 = .ok (.iadd, 1) := by decide +kernel
theorem dL_law_130 : decode cL_law 130 = .ok (.iaload, 1) := by decide +kernel
theorem dL_law_131 : decode cL_law 131 = .ok (.ifCond .eq 7, 3) := by decide +kernel
theorem dL_law_134 : decode cL_law 134 = .ok (.iconst 1, 1) := by decide +kernel
theorem dL_law_135 : decode cL_law 135 = .ok (.goto 4, 3) := by decide +kernel
theorem dL_law_138 : decode cL_law 138 = .ok (.iconst 0, 1) := by decide +kernel
theorem dL_law_139 : decode cL_law 139 = .ok (.invokevirtual 17, 3) := by decide +kernel
theorem dL_law_142 : decode cL_law 142 = .ok (.if_icmp .eq 354, 3) := by decide +kernel
theorem dL_law_145 : decode cL_law 145 = .ok (.iconst 0, 1) := by decide +kernel
theorem dL_law_146 : decode cL_law 146 = .ok (.ireturn, 1) := by decide +kernel
theorem dL_law_147 : decode cL_law 147 = .ok (.aload_n 1, 1) := by decide +kernel
theorem dL_law_148 : decode cL_law 148 = .ok (.aload_n 0, 1) := by decide +kernel
theorem dL_law_149 : decode cL_law 149 = .ok (.iload_n 3, 1) := by decide +kernel
theorem dL_law_150 : decode cL_law 150 = .ok (.iconst 1, 1) := by decide +kernel
theorem dL_law_151 : decode cL_law 151 = .ok (.iadd, 1) := by decide +kernel
theorem dL_law_152 : decode cL_law 152 = .ok (.iaload, 1) := by decide +kernel
theorem dL_law_153 : decode cL_law 153 = .ok (.aload_n 0, 1) := by decide +kernel
theorem dL_law_154 : decode cL_law 154 = .ok (.iload_n 3, 1) := by decide +kernel
theorem dL_law_155 : decode cL_law 155 = .ok (.iconst 2, 1) := by decide +kernel
theorem dL_law_156 : decode cL_law 156 = .ok (.iadd, 1) := by decide +kernel
theorem dL_law_157 : decode cL_law 157 = .ok (.iaload, 1) := by decide +kernel
theorem dL_law_158 : decode cL_law 158 = .ok (.aload_n 0, 1) := by decide +kernel
theorem dL_law_159 : decode cL_law 159 = .ok (.iload_n 3, 1) := by decide +kernel
theorem dL_law_160 : decode cL_law 160 = .ok (.iconst 3, 1) := by decide +kernel
theorem dL_law_161 : decode cL_law 161 = .ok (.iadd, 1) := by decide +kernel
theorem dL_law_162 : decode cL_law 162 = .ok (.iaload, 1) := by decide +kernel
theorem dL_law_163 : decode cL_law 163 = .ok (.ifCond .eq 7, 3) := by decide +kernel
theorem dL_law_166 : decode cL_law 166 = .ok (.iconst 1, 1) := by decide +kernel
theorem dL_law_167 : decode cL_law 167 = .ok (.goto 4, 3) := by decide +kernel
theorem dL_law_170 : decode cL_law 170 = .ok (.iconst 0, 1) := by decide +kernel
theorem dL_law_171 : decode cL_law 171 = .ok (.invokevirtual 18, 3) := by decide +kernel
theorem dL_law_174 : decode cL_law 174 = .ok (.aload_n 2, 1) := by decide +kernel
theorem dL_law_175 : decode cL_law 175 = .ok (.aload_n 0, 1) := by decide +kernel
theorem dL_law_176 : decode cL_law 176 = .ok (.iload_n 3, 1) := by decide +kernel
theorem dL_law_177 : decode cL_law 177 = .ok (.iconst 1, 1) := by decide +kernel
theorem dL_law_178 : decode cL_law 178 = .ok (.iadd, 1) := by decide +kernel
theorem dL_law_179 : decode cL_law 179 = .ok (.iaload, 1) := by decide +kernel
theorem dL_law_180 : decode cL_law 180 = .ok (.aload_n 0, 1) := by decide +kernel
theorem dL_law_181 : decode cL_law 181 = .ok (.iload_n 3, 1) := by decide +kernel
theorem dL_law_182 : decode cL_law 182 = .ok (.iconst 2, 1) := by decide +kernel
theorem dL_law_183 : decode cL_law 183 = .ok (.iadd, 1) := by decide +kernel
theorem dL_law_184 : decode cL_law 184 = .ok (.iaload, 1) := by decide +kernel
theorem dL_law_185 : decode cL_law 185 = .ok (.aload_n 0, 1) := by decide +kernel
theorem dL_law_186 : decode cL_law 186 = .ok (.iload_n 3, 1) := by decide +kernel
theorem dL_law_187 : decode cL_law 187 = .ok (.iconst 3, 1) := by decide +kernel
theorem dL_law_188 : decode cL_law 188 = .ok (.iadd, 1) := by decide +kernel
theorem dL_law_189 : decode cL_law 189 = .ok (.iaload, 1) := by decide +kernel
theorem dL_law_190 : decode cL_law 190 = .ok (.ifCond .eq 7, 3) := by decide +kernel
theorem dL_law_193 : decode cL_law 193 = .ok (.iconst 1, 1) := by decide +kernel
theorem dL_law_194 : decode cL_law 194 = .ok (.goto 4, 3) := by decide +kernel
theorem dL_law_197 : decode cL_law 197 = .ok (.iconst 0, 1) := by decide +kernel
theorem dL_law_198 : decode cL_law 198 = .ok (.invokevirtual 21, 3) := by decide +kernel
theorem dL_law_201 : decode cL_law 201 = .ok (.if_icmp .eq 295, 3) := by decide +kernel
theorem dL_law_204 : decode cL_law 204 = .ok (.iconst 0, 1) := by decide +kernel
theorem dL_law_205 : decode cL_law 205 = .ok (.ireturn, 1) := by decide +kernel
theorem dL_law_206 : decode cL_law 206 = .ok (.aload_n 1, 1) := by decide +kernel
theorem dL_law_207 : decode cL_law 207 = .ok (.aload_n 0, 1) := by decide +kernel
theorem dL_law_208 : decode cL_law 208 = .ok (.iload_n 3, 1) := by decide +kernel
theorem dL_law_209 : decode cL_law 209 = .ok (.iconst 1, 1) := by decide +kernel
theorem dL_law_210 : decode cL_law 210 = .ok (.iadd, 1) := by decide +kernel
theorem dL_law_211 : decode cL_law 211 = .ok (.iaload, 1) := by decide +kernel
theorem dL_law_212 : decode cL_law 212 = .ok (.aload_n 0, 1) := by decide +kernel
theorem dL_law_213 : decode cL_law 213 = .ok (.iload_n 3, 1) := by decide +kernel
theorem dL_law_214 : decode cL_law 214 = .ok (.iconst 2, 1) := by decide +kernel
theorem dL_law_215 : decode cL_law 215 = .ok (.iadd, 1) := by decide +kernel
theorem dL_law_216 : decode cL_law 216 = .ok (.iaload, 1) := by decide +kernel
theorem dL_law_217 : decode cL_law 217 = .ok (.aload_n 0, 1) := by decide +kernel
theorem dL_law_218 : decode cL_law 218 = .ok (.iload_n 3, 1) := by decide +kernel
theorem dL_law_219 : decode cL_law 219 = .ok (.iconst 3, 1) := by decide +kernel
theorem dL_law_220 : decode cL_law 220 = .ok (.iadd, 1) := by decide +kernel
theorem dL_law_221 : decode cL_law 221 = .ok (.iaload, 1) := by decide +kernel
theorem dL_law_222 : decode cL_law 222 = .ok (.ifCond .eq 7, 3) := by decide +kernel
theorem dL_law_225 : decode cL_law 225 = .ok (.iconst 1, 1) := by decide +kernel
theorem dL_law_226 : decode cL_law 226 = .ok (.goto 4, 3) := by decide +kernel
theorem dL_law_229 : decode cL_law 229 = .ok (.iconst 0, 1) := by decide +kernel
theorem dL_law_230 : decode cL_law 230 = .ok (.invokevirtual 22, 3) := by decide +kernel
theorem dL_law_233 : decode cL_law 233 = .ok (.aload_n 2, 1) := by decide +kernel
theorem dL_law_234 : decode cL_law 234 = .ok (.aload_n 0, 1) := by decide +kernel
theorem dL_law_235 : decode cL_law 235 = .ok (.iload_n 3, 1) := by decide +kernel
theorem dL_law_236 : decode cL_law 236 = .ok (.iconst 1, 1) := by decide +kernel
theorem dL_law_237 : decode cL_law 237 = .ok (.iadd, 1) := by decide +kernel
theorem dL_law_238 : decode cL_law 238 = .ok (.iaload, 1) := by decide +kernel
theorem dL_law_239 : decode cL_law 239 = .ok (.aload_n 0, 1) := by decide +kernel
theorem dL_law_240 : decode cL_law 240 = .ok (.iload_n 3, 1) := by decide +kernel
theorem dL_law_241 : decode cL_law 241 = .ok (.iconst 2, 1) := by decide +kernel
theorem dL_law_242 : decode cL_law 242 = .ok (.iadd, 1) := by decide +kernel
theorem dL_law_243 : decode cL_law 243 = .ok (.iaload, 1) := by decide +kernel
theorem dL_law_244 : decode cL_law 244 = .ok (.aload_n 0, 1) := by decide +kernel
theorem dL_law_245 : decode cL_law 245 = .ok (.iload_n 3, 1) := by decide +kernel
theorem dL_law_246 : decode cL_law 246 = .ok (.iconst 3, 1) := by decide +kernel
theorem dL_law_247 : decode cL_law 247 = .ok (.iadd, 1) := by decide +kernel
theorem dL_law_248 : decode cL_law 248 = .ok (.iaload, 1) := by decide +kernel
theorem dL_law_249 : decode cL_law 249 = .ok (.ifCond .eq 7, 3) := by decide +kernel
theorem dL_law_252 : decode cL_law 252 = .ok (.iconst 1, 1) := by decide +kernel
theorem dL_law_253 : decode cL_law 253 = .ok (.goto 4, 3) := by decide +kernel
theorem dL_law_256 : decode cL_law 256 = .ok (.iconst 0, 1) := by decide +kernel
theorem dL_law_257 : decode cL_law 257 = .ok (.invokevirtual 25, 3) := by decide +kernel
theorem dL_law_260 : decode cL_law 260 = .ok (.if_icmp .eq 236, 3) := by decide +kernel
theorem dL_law_263 : decode cL_law 263 = .ok (.iconst 0, 1) := by decide +kernel
theorem dL_law_264 : decode cL_law 264 = .ok (.ireturn, 1) := by decide +kernel
theorem dL_law_265 : decode cL_law 265 = .ok (.aload_n 1, 1) := by decide +kernel
theorem dL_law_266 : decode cL_law 266 = .ok (.invokevirtual 26, 3) := by decide +kernel
theorem dL_law_269 : decode cL_law 269 = .ok (.aload_n 2, 1) := by decide +kernel
theorem dL_law_270 : decode cL_law 270 = .ok (.invokevirtual 30, 3) := by decide +kernel
theorem dL_law_273 : decode cL_law 273 = .ok (.if_icmp .eq 223, 3) := by decide +kernel
theorem dL_law_276 : decode cL_law 276 = .ok (.iconst 0, 1) := by decide +kernel
theorem dL_law_277 : decode cL_law 277 = .ok (.ireturn, 1) := by decide +kernel
theorem dL_law_278 : decode cL_law 278 = .ok (.aload_n 1, 1) := by decide +kernel
theorem dL_law_279 : decode cL_law 279 = .ok (.aload_n 0, 1) := by decide +kernel
theorem dL_law_280 : decode cL_law 280 = .ok (.iload_n 3, 1) := by decide +kernel
theorem dL_law_281 : decode cL_law 281 = .ok (.iconst 1, 1) := by decide +kernel
theorem dL_law_282 : decode cL_law 282 = .ok (.iadd, 1) := by decide +kernel
theorem dL_law_283 : decode cL_law 283 = .ok (.iaload, 1) := by decide +kernel
theorem dL_law_284 : decode cL_law 284 = .ok (.aload_n 0, 1) := by decide +kernel
theorem dL_law_285 : decode cL_law 285 = .ok (.iload_n 3, 1) := by decide +kernel
theorem dL_law_286 : decode cL_law 286 = .ok (.iconst 2, 1) := by decide +kernel
theorem dL_law_287 : decode cL_law 287 = .ok (.iadd, 1) := by decide +kernel
theorem dL_law_288 : decode cL_law 288 = .ok (.iaload, 1) := by decide +kernel
theorem dL_law_289 : decode cL_law 289 = .ok (.aload_n 0, 1) := by decide +kernel
theorem dL_law_290 : decode cL_law 290 = .ok (.iload_n 3, 1) := by decide +kernel
theorem dL_law_291 : decode cL_law 291 = .ok (.iconst 3, 1) := by decide +kernel
theorem dL_law_292 : decode cL_law 292 = .ok (.iadd, 1) := by decide +kernel
theorem dL_law_293 : decode cL_law 293 = .ok (.iaload, 1) := by decide +kernel
theorem dL_law_294 : decode cL_law 294 = .ok (.invokevirtual 31, 3) := by decide +kernel
theorem dL_law_297 : decode cL_law 297 = .ok (.aload_n 2, 1) := by decide +kernel
theorem dL_law_298 : decode cL_law 298 = .ok (.aload_n 0, 1) := by decide +kernel
theorem dL_law_299 : decode cL_law 299 = .ok (.iload_n 3, 1) := by decide +kernel
theorem dL_law_300 : decode cL_law 300 = .ok (.iconst 1, 1) := by decide +kernel
theorem dL_law_301 : decode cL_law 301 = .ok (.iadd, 1) := by decide +kernel
theorem dL_law_302 : decode cL_law 302 = .ok (.iaload, 1) := by decide +kernel
theorem dL_law_303 : decode cL_law 303 = .ok (.aload_n 0, 1) := by decide +kernel
theorem dL_law_304 : decode cL_law 304 = .ok (.iload_n 3, 1) := by decide +kernel
theorem dL_law_305 : decode cL_law 305 = .ok (.iconst 2, 1) := by decide +kernel
theorem dL_law_306 : decode cL_law 306 = .ok (.iadd, 1) := by decide +kernel
theorem dL_law_307 : decode cL_law 307 = .ok (.iaload, 1) := by decide +kernel
theorem dL_law_308 : decode cL_law 308 = .ok (.aload_n 0, 1) := by decide +kernel
theorem dL_law_309 : decode cL_law 309 = .ok (.iload_n 3, 1) := by decide +kernel
theorem dL_law_310 : decode cL_law 310 = .ok (.iconst 3, 1) := by decide +kernel
theorem dL_law_311 : decode cL_law 311 = .ok (.iadd, 1) := by decide +kernel
theorem dL_law_312 : decode cL_law 312 = .ok (.iaload, 1) := by decide +kernel
theorem dL_law_313 : decode cL_law 313 = .ok (.invokevirtual 35, 3) := by decide +kernel
theorem dL_law_316 : decode cL_law 316 = .ok (.if_icmp .eq 180, 3) := by decide +kernel
theorem dL_law_319 : decode cL_law 319 = .ok (.iconst 0, 1) := by decide +kernel
theorem dL_law_320 : decode cL_law 320 = .ok (.ireturn, 1) := by decide +kernel
theorem dL_law_321 : decode cL_law 321 = .ok (.aload_n 1, 1) := by decide +kernel
theorem dL_law_322 : decode cL_law 322 = .ok (.aload_n 0, 1) := by decide +kernel
theorem dL_law_323 : decode cL_law 323 = .ok (.iload_n 3, 1) := by decide +kernel
theorem dL_law_324 : decode cL_law 324 = .ok (.iconst 1, 1) := by decide +kernel
theorem dL_law_325 : decode cL_law 325 = .ok (.iadd, 1) := by decide +kernel
theorem dL_law_326 : decode cL_law 326 = .ok (.iaload, 1) := by decide +kernel
theorem dL_law_327 : decode cL_law 327 = .ok (.aload_n 0, 1) := by decide +kernel
theorem dL_law_328 : decode cL_law 328 = .ok (.iload_n 3, 1) := by decide +kernel
theorem dL_law_329 : decode cL_law 329 = .ok (.iconst 2, 1) := by decide +kernel
theorem dL_law_330 : decode cL_law 330 = .ok (.iadd, 1) := by decide +kernel
theorem dL_law_331 : decode cL_law 331 = .ok (.iaload, 1) := by decide +kernel
theorem dL_law_332 : decode cL_law 332 = .ok (.invokevirtual 36, 3) := by decide +kernel
theorem dL_law_335 : decode cL_law 335 = .ok (.aload_n 2, 1) := by decide +kernel
theorem dL_law_336 : decode cL_law 336 = .ok (.aload_n 0, 1) := by decide +kernel
theorem dL_law_337 : decode cL_law 337 = .ok (.iload_n 3, 1) := by decide +kernel
theorem dL_law_338 : decode cL_law 338 = .ok (.iconst 1, 1) := by decide +kernel
theorem dL_law_339 : decode cL_law 339 = .ok (.iadd, 1) := by decide +kernel
theorem dL_law_340 : decode cL_law 340 = .ok (.iaload, 1) := by decide +kernel
theorem dL_law_341 : decode cL_law 341 = .ok (.aload_n 0, 1) := by decide +kernel
theorem dL_law_342 : decode cL_law 342 = .ok (.iload_n 3, 1) := by decide +kernel
theorem dL_law_343 : decode cL_law 343 = .ok (.iconst 2, 1) := by decide +kernel
theorem dL_law_344 : decode cL_law 344 = .ok (.iadd, 1) := by decide +kernel
theorem dL_law_345 : decode cL_law 345 = .ok (.iaload, 1) := by decide +kernel
theorem dL_law_346 : decode cL_law 346 = .ok (.invokevirtual 40, 3) := by decide +kernel
theorem dL_law_349 : decode cL_law 349 = .ok (.if_icmp .eq 147, 3) := by decide +kernel
theorem dL_law_352 : decode cL_law 352 = .ok (.iconst 0, 1) := by decide +kernel
theorem dL_law_353 : decode cL_law 353 = .ok (.ireturn, 1) := by decide +kernel
theorem dL_law_354 : decode cL_law 354 = .ok (.aload_n 1, 1) := by decide +kernel
theorem dL_law_355 : decode cL_law 355 = .ok (.aload_n 0, 1) := by decide +kernel
theorem dL_law_356 : decode cL_law 356 = .ok (.iload_n 3, 1) := by decide +kernel
theorem dL_law_357 : decode cL_law 357 = .ok (.iconst 1, 1) := by decide +kernel
theorem dL_law_358 : decode cL_law 358 = .ok (.iadd, 1) := by decide +kernel
theorem dL_law_359 : decode cL_law 359 = .ok (.iaload, 1) := by decide +kernel
theorem dL_law_360 : decode cL_law 360 = .ok (.aload_n 0, 1) := by decide +kernel
theorem dL_law_361 : decode cL_law 361 = .ok (.iload_n 3, 1) := by decide +kernel
theorem dL_law_362 : decode cL_law 362 = .ok (.iconst 2, 1) := by decide +kernel
theorem dL_law_363 : decode cL_law 363 = .ok (.iadd, 1) := by decide +kernel
theorem dL_law_364 : decode cL_law 364 = .ok (.iaload, 1) := by decide +kernel
theorem dL_law_365 : decode cL_law 365 = .ok (.invokevirtual 41, 3) := by decide +kernel
theorem dL_law_368 : decode cL_law 368 = .ok (.aload_n 2, 1) := by decide +kernel
theorem dL_law_369 : decode cL_law 369 = .ok (.aload_n 0, 1) := by decide +kernel
theorem dL_law_370 : decode cL_law 370 = .ok (.iload_n 3, 1) := by decide +kernel
theorem dL_law_371 : decode cL_law 371 = .ok (.iconst 1, 1) := by decide +kernel
theorem dL_law_372 : decode cL_law 372 = .ok (.iadd, 1) := by decide +kernel
theorem dL_law_373 : decode cL_law 373 = .ok (.iaload, 1) := by decide +kernel
theorem dL_law_374 : decode cL_law 374 = .ok (.aload_n 0, 1) := by decide +kernel
theorem dL_law_375 : decode cL_law 375 = .ok (.iload_n 3, 1) := by decide +kernel
theorem dL_law_376 : decode cL_law 376 = .ok (.iconst 2, 1) := by decide +kernel
theorem dL_law_377 : decode cL_law 377 = .ok (.iadd, 1) := by decide +kernel
theorem dL_law_378 : decode cL_law 378 = .ok (.iaload, 1) := by decide +kernel
theorem dL_law_379 : decode cL_law 379 = .ok (.invokevirtual 44, 3) := by decide +kernel
theorem dL_law_382 : decode cL_law 382 = .ok (.if_icmp .eq 114, 3) := by decide +kernel
theorem dL_law_385 : decode cL_law 385 = .ok (.iconst 0, 1) := by decide +kernel
theorem dL_law_386 : decode cL_law 386 = .ok (.ireturn, 1) := by decide +kernel
theorem dL_law_387 : decode cL_law 387 = .ok (.aload_n 1, 1) := by decide +kernel
theorem dL_law_388 : decode cL_law 388 = .ok (.aload_n 0, 1) := by decide +kernel
theorem dL_law_389 : decode cL_law 389 = .ok (.iload_n 3, 1) := by decide +kernel
theorem dL_law_390 : decode cL_law 390 = .ok (.iconst 1, 1) := by decide +kernel
theorem dL_law_391 : decode cL_law 391 = .ok (.iadd, 1) := by decide +kernel
theorem dL_law_392 : decode cL_law 392 = .ok (.iaload, 1) := by decide +kernel
theorem dL_law_393 : decode cL_law 393 = .ok (.aload_n 0, 1) := by decide +kernel
theorem dL_law_394 : decode cL_law 394 = .ok (.iload_n 3, 1) := by decide +kernel
theorem dL_law_395 : decode cL_law 395 = .ok (.iconst 2, 1) := by decide +kernel
theorem dL_law_396 : decode cL_law 396 = .ok (.iadd, 1) := by decide +kernel
theorem dL_law_397 : decode cL_law 397 = .ok (.iaload, 1) := by decide +kernel
theorem dL_law_398 : decode cL_law 398 = .ok (.invokevirtual 45, 3) := by decide +kernel
theorem dL_law_401 : decode cL_law 401 = .ok (.aload_n 2, 1) := by decide +kernel
theorem dL_law_402 : decode cL_law 402 = .ok (.aload_n 0, 1) := by decide +kernel
theorem dL_law_403 : decode cL_law 403 = .ok (.iload_n 3, 1) := by decide +kernel
theorem dL_law_404 : decode cL_law 404 = .ok (.iconst 1, 1) := by decide +kernel
theorem dL_law_405 : decode cL_law 405 = .ok (.iadd, 1) := by decide +kernel
theorem dL_law_406 : decode cL_law 406 = .ok (.iaload, 1) := by decide +kernel
theorem dL_law_407 : decode cL_law 407 = .ok (.aload_n 0, 1) := by decide +kernel
theorem dL_law_408 : decode cL_law 408 = .ok (.iload_n 3, 1) := by decide +kernel
theorem dL_law_409 : decode cL_law 409 = .ok (.iconst 2, 1) := by decide +kernel
theorem dL_law_410 : decode cL_law 410 = .ok (.iadd, 1) := by decide +kernel
theorem dL_law_411 : decode cL_law 411 = .ok (.iaload, 1) := by decide +kernel
theorem dL_law_412 : decode cL_law 412 = .ok (.invokevirtual 48, 3) := by decide +kernel
theorem dL_law_415 : decode cL_law 415 = .ok (.if_icmp .eq 81, 3) := by decide +kernel
theorem dL_law_418 : decode cL_law 418 = .ok (.iconst 0, 1) := by decide +kernel
theorem dL_law_419 : decode cL_law 419 = .ok (.ireturn, 1) := by decide +kernel
theorem dL_law_420 : decode cL_law 420 = .ok (.aload_n 1, 1) := by decide +kernel
theorem dL_law_421 : decode cL_law 421 = .ok (.aload_n 0, 1) := by decide +kernel
theorem dL_law_422 : decode cL_law 422 = .ok (.iload_n 3, 1) := by decide +kernel
theorem dL_law_423 : decode cL_law 423 = .ok (.iconst 1, 1) := by decide +kernel
theorem dL_law_424 : decode cL_law 424 = .ok (.iadd, 1) := by decide +kernel
theorem dL_law_425 : decode cL_law 425 = .ok (.iaload, 1) := by decide +kernel
theorem dL_law_426 : decode cL_law 426 = .ok (.aload_n 0, 1) := by decide +kernel
theorem dL_law_427 : decode cL_law 427 = .ok (.iload_n 3, 1) := by decide +kernel
theorem dL_law_428 : decode cL_law 428 = .ok (.iconst 2, 1) := by decide +kernel
theorem dL_law_429 : decode cL_law 429 = .ok (.iadd, 1) := by decide +kernel
theorem dL_law_430 : decode cL_law 430 = .ok (.iaload, 1) := by decide +kernel
theorem dL_law_431 : decode cL_law 431 = .ok (.invokevirtual 49, 3) := by decide +kernel
theorem dL_law_434 : decode cL_law 434 = .ok (.aload_n 2, 1) := by decide +kernel
theorem dL_law_435 : decode cL_law 435 = .ok (.aload_n 0, 1) := by decide +kernel
theorem dL_law_436 : decode cL_law 436 = .ok (.iload_n 3, 1) := by decide +kernel
theorem dL_law_437 : decode cL_law 437 = .ok (.iconst 1, 1) := by decide +kernel
theorem dL_law_438 : decode cL_law 438 = .ok (.iadd, 1) := by decide +kernel
theorem dL_law_439 : decode cL_law 439 = .ok (.iaload, 1) := by decide +kernel
theorem dL_law_440 : decode cL_law 440 = .ok (.aload_n 0, 1) := by decide +kernel
theorem dL_law_441 : decode cL_law 441 = .ok (.iload_n 3, 1) := by decide +kernel
theorem dL_law_442 : decode cL_law 442 = .ok (.iconst 2, 1) := by decide +kernel
theorem dL_law_443 : decode cL_law 443 = .ok (.iadd, 1) := by decide +kernel
theorem dL_law_444 : decode cL_law 444 = .ok (.iaload, 1) := by decide +kernel
theorem dL_law_445 : decode cL_law 445 = .ok (.invokevirtual 52, 3) := by decide +kernel
theorem dL_law_448 : decode cL_law 448 = .ok (.if_icmp .eq 48, 3) := by decide +kernel
theorem dL_law_451 : decode cL_law 451 = .ok (.iconst 0, 1) := by decide +kernel
theorem dL_law_452 : decode cL_law 452 = .ok (.ireturn, 1) := by decide +kernel
theorem dL_law_453 : decode cL_law 453 = .ok (.aload_n 1, 1) := by decide +kernel
theorem dL_law_454 : decode cL_law 454 = .ok (.aload_n 0, 1) := by decide +kernel
theorem dL_law_455 : decode cL_law 455 = .ok (.iload_n 3, 1) := by decide +kernel
theorem dL_law_456 : decode cL_law 456 = .ok (.iconst 1, 1) := by decide +kernel
theorem dL_law_457 : decode cL_law 457 = .ok (.iadd, 1) := by decide +kernel
theorem dL_law_458 : decode cL_law 458 = .ok (.iaload, 1) := by decide +kernel
theorem dL_law_459 : decode cL_law 459 = .ok (.aload_n 0, 1) := by decide +kernel
theorem dL_law_460 : decode cL_law 460 = .ok (.iload_n 3, 1) := by decide +kernel
theorem dL_law_461 : decode cL_law 461 = .ok (.iconst 2, 1) := by decide +kernel
theorem dL_law_462 : decode cL_law 462 = .ok (.iadd, 1) := by decide +kernel
theorem dL_law_463 : decode cL_law 463 = .ok (.iaload, 1) := by decide +kernel
theorem dL_law_464 : decode cL_law 464 = .ok (.aload_n 0, 1) := by decide +kernel
theorem dL_law_465 : decode cL_law 465 = .ok (.iload_n 3, 1) := by decide +kernel
theorem dL_law_466 : decode cL_law 466 = .ok (.iconst 3, 1) := by decide +kernel
theorem dL_law_467 : decode cL_law 467 = .ok (.iadd, 1) := by decide +kernel
theorem dL_law_468 : decode cL_law 468 = .ok (.iaload, 1) := by decide +kernel
theorem dL_law_469 : decode cL_law 469 = .ok (.invokevirtual 53, 3) := by decide +kernel
theorem dL_law_472 : decode cL_law 472 = .ok (.aload_n 2, 1) := by decide +kernel
theorem dL_law_473 : decode cL_law 473 = .ok (.aload_n 0, 1) := by decide +kernel
theorem dL_law_474 : decode cL_law 474 = .ok (.iload_n 3, 1) := by decide +kernel
theorem dL_law_475 : decode cL_law 475 = .ok (.iconst 1, 1) := by decide +kernel
theorem dL_law_476 : decode cL_law 476 = .ok (.iadd, 1) := by decide +kernel
theorem dL_law_477 : decode cL_law 477 = .ok (.iaload, 1) := by decide +kernel
theorem dL_law_478 : decode cL_law 478 = .ok (.aload_n 0, 1) := by decide +kernel
theorem dL_law_479 : decode cL_law 479 = .ok (.iload_n 3, 1) := by decide +kernel
theorem dL_law_480 : decode cL_law 480 = .ok (.iconst 2, 1) := by decide +kernel
theorem dL_law_481 : decode cL_law 481 = .ok (.iadd, 1) := by decide +kernel
theorem dL_law_482 : decode cL_law 482 = .ok (.iaload, 1) := by decide +kernel
theorem dL_law_483 : decode cL_law 483 = .ok (.aload_n 0, 1) := by decide +kernel
theorem dL_law_484 : decode cL_law 484 = .ok (.iload_n 3, 1) := by decide +kernel
theorem dL_law_485 : decode cL_law 485 = .ok (.iconst 3, 1) := by decide +kernel
theorem dL_law_486 : decode cL_law 486 = .ok (.iadd, 1) := by decide +kernel
theorem dL_law_487 : decode cL_law 487 = .ok (.iaload, 1) := by decide +kernel
theorem dL_law_488 : decode cL_law 488 = .ok (.invokevirtual 56, 3) := by decide +kernel
theorem dL_law_491 : decode cL_law 491 = .ok (.if_icmp .eq 5, 3) := by decide +kernel
theorem dL_law_494 : decode cL_law 494 = .ok (.iconst 0, 1) := by decide +kernel
theorem dL_law_495 : decode cL_law 495 = .ok (.ireturn, 1) := by decide +kernel
theorem dL_law_496 : decode cL_law 496 = .ok (.iinc 3 4, 3) := by decide +kernel
theorem dL_law_499 : decode cL_law 499 = .ok (.goto (-481), 3) := by decide +kernel
theorem dL_law_502 : decode cL_law 502 = .ok (.iconst 1, 1) := by decide +kernel
theorem dL_law_503 : decode cL_law 503 = .ok (.ireturn, 1) := by decide +kernel
theorem q73 : (Jvm.Cond.arrayClass Jvm.ClassFile.FieldType.int) ∈ lw_all := lw_g (lw_at lw_m0 54 rfl) rfl
set_option maxRecDepth 100000
theorem q74 : (Jvm.Cond.arrayClass Jvm.ClassFile.FieldType.byte) ∈ lw_all := lw_g (lw_at lw_m0 55 rfl) rfl
theorem q75 : (Jvm.Cond.arrayClass Jvm.ClassFile.FieldType.boolean) ∈ lw_all := lw_g (lw_at lw_m0 56 rfl) rfl
theorem q19 : (Jvm.Cond.initialized "RelationTuplesLaw") ∈ lw_all := lw_g (lw_at lw_m0 0 rfl) rfl
set_option maxRecDepth 100000
theorem q22 : (Jvm.Cond.classLink "RelationTuplesLaw" (7 : Nat) "RelationTuples") ∈ lw_all := lw_g (lw_at lw_m0 3 rfl) rfl
theorem q24 : (Jvm.Cond.methodLink "RelationTuplesLaw" (9 : Nat) ({ cls := "RelationTuples", name := "<init>", desc := "()V" } : Jvm.MethodName)) ∈ lw_all := lw_g (lw_at lw_m0 5 rfl) rfl
theorem q76 : (Jvm.Cond.methodLink "RelationTuplesLaw" (13 : Nat) ({ cls := "RelationTuples", name := "enter", desc := "(IIZ)I" } : Jvm.MethodName)) ∈ lw_all := lw_g (lw_at lw_m0 57 rfl) rfl
theorem q100 : (Jvm.Cond.methodLink "RelationTuplesLaw" (18 : Nat) ({ cls := "RelationTuples", name := "nest", desc := "(IIZ)I" } : Jvm.MethodName)) ∈ lw_all := lw_g (lw_at lw_m0 81 rfl) rfl
theorem q104 : (Jvm.Cond.methodLink "RelationTuplesLaw" (22 : Nat) ({ cls := "RelationTuples", name := "rule", desc := "(IIZ)I" } : Jvm.MethodName)) ∈ lw_all := lw_g (lw_at lw_m0 85 rfl) rfl
theorem q108 : (Jvm.Cond.methodLink "RelationTuplesLaw" (26 : Nat) ({ cls := "RelationTuples", name := "latest", desc := "()I" } : Jvm.MethodName)) ∈ lw_all := lw_g (lw_at lw_m0 89 rfl) rfl
theorem q112 : (Jvm.Cond.methodLink "RelationTuplesLaw" (31 : Nat) ({ cls := "RelationTuples", name := "check", desc := "(III)I" } : Jvm.MethodName)) ∈ lw_all := lw_g (lw_at lw_m0 93 rfl) rfl
theorem q138 : (Jvm.Cond.methodLink "RelationTuplesLaw" (36 : Nat) ({ cls := "RelationTuples", name := "members", desc := "(II)I" } : Jvm.MethodName)) ∈ lw_all := lw_g (lw_at lw_m0 119 rfl) rfl
theorem q142 : (Jvm.Cond.methodLink "RelationTuplesLaw" (41 : Nat) ({ cls := "RelationTuples", name := "groups", desc := "(II)I" } : Jvm.MethodName)) ∈ lw_all := lw_g (lw_at lw_m0 123 rfl) rfl
theorem q146 : (Jvm.Cond.methodLink "RelationTuplesLaw" (45 : Nat) ({ cls := "RelationTuples", name := "sources", desc := "(II)I" } : Jvm.MethodName)) ∈ lw_all := lw_g (lw_at lw_m0 127 rfl) rfl
theorem q150 : (Jvm.Cond.methodLink "RelationTuplesLaw" (49 : Nat) ({ cls := "RelationTuples", name := "changed", desc := "(II)I" } : Jvm.MethodName)) ∈ lw_all := lw_g (lw_at lw_m0 131 rfl) rfl
theorem q154 : (Jvm.Cond.methodLink "RelationTuplesLaw" (53 : Nat) ({ cls := "RelationTuples", name := "since", desc := "(III)I" } : Jvm.MethodName)) ∈ lw_all := lw_g (lw_at lw_m0 135 rfl) rfl
theorem q158 : (Jvm.Cond.classLink "RelationTuplesLaw" (10 : Nat) "RelationTuplesModel") ∈ lw_all := lw_g (lw_at lw_m0 139 rfl) rfl
theorem q160 : (Jvm.Cond.methodLink "RelationTuplesLaw" (12 : Nat) ({ cls := "RelationTuplesModel", name := "<init>", desc := "()V" } : Jvm.MethodName)) ∈ lw_all := lw_g (lw_at lw_m0 141 rfl) rfl
theorem q180 : (Jvm.Cond.methodLink "RelationTuplesLaw" (17 : Nat) ({ cls := "RelationTuplesModel", name := "enter", desc := "(IIZ)I" } : Jvm.MethodName)) ∈ lw_all := lw_g (lw_at lw_m0 161 rfl) rfl
theorem q200 : (Jvm.Cond.methodLink "RelationTuplesLaw" (21 : Nat) ({ cls := "RelationTuplesModel", name := "nest", desc := "(IIZ)I" } : Jvm.MethodName)) ∈ lw_all := lw_g (lw_at lw_m0 181 rfl) rfl
theorem q204 : (Jvm.Cond.methodLink "RelationTuplesLaw" (25 : Nat) ({ cls := "RelationTuplesModel", name := "rule", desc := "(IIZ)I" } : Jvm.MethodName)) ∈ lw_all := lw_g (lw_at lw_m0 185 rfl) rfl
theorem q208 : (Jvm.Cond.methodLink "RelationTuplesLaw" (30 : Nat) ({ cls := "RelationTuplesModel", name := "latest", desc := "()I" } : Jvm.MethodName)) ∈ lw_all := lw_g (lw_at lw_m0 189 rfl) rfl
theorem q212 : (Jvm.Cond.methodLink "RelationTuplesLaw" (35 : Nat) ({ cls := "RelationTuplesModel", name := "check", desc := "(III)I" } : Jvm.MethodName)) ∈ lw_all := lw_g (lw_at lw_m0 193 rfl) rfl
theorem q236 : (Jvm.Cond.methodLink "RelationTuplesLaw" (40 : Nat) ({ cls := "RelationTuplesModel", name := "members", desc := "(II)I" } : Jvm.MethodName)) ∈ lw_all := lw_g (lw_at lw_m0 217 rfl) rfl
theorem q240 : (Jvm.Cond.methodLink "RelationTuplesLaw" (44 : Nat) ({ cls := "RelationTuplesModel", name := "groups", desc := "(II)I" } : Jvm.MethodName)) ∈ lw_all := lw_g (lw_at lw_m0 221 rfl) rfl
theorem q244 : (Jvm.Cond.methodLink "RelationTuplesLaw" (48 : Nat) ({ cls := "RelationTuplesModel", name := "sources", desc := "(II)I" } : Jvm.MethodName)) ∈ lw_all := lw_g (lw_at lw_m0 225 rfl) rfl
theorem q248 : (Jvm.Cond.methodLink "RelationTuplesLaw" (52 : Nat) ({ cls := "RelationTuplesModel", name := "changed", desc := "(II)I" } : Jvm.MethodName)) ∈ lw_all := lw_g (lw_at lw_m0 229 rfl) rfl
theorem q253 : (Jvm.Cond.methodLink "RelationTuplesLaw" (56 : Nat) ({ cls := "RelationTuplesModel", name := "since", desc := "(III)I" } : Jvm.MethodName)) ∈ lw_all := lw_g (lw_at lw_m0 234 rfl) rfl
end
section
/-! the walk: W at a frame whose world and locals are named; a row an instruction. rw_F: what stays all through a method; rw_W: from every heap that holds the cells wd and every locals that hold lv -/
set_option maxRecDepth 100000
abbrev vwCl : List vw_C := [(RX0, TX0, 14), (RX1, TX1, 5)]
def rw_F (p : Program) (s : State) (m : MethodId) (args : Array Value) (meth : Method) (c : Code) (D : va_G) (A : Nat → Prop) (tys : List (ClassId × FieldType)) (cc : ByteArray) (nL : Nat) (own : String) : Prop := p.tables.exec = Jvm.exec ∧ c.code = cc ∧ c.maxLocals = nL ∧ s.vm.findClass own = some m.cls ∧ (∀ w ∈ lw_all, w.before args s = true) ∧ va_K D vwCl tys s ∧ (∀ q : Nat, s.heap.size ≤ q → A q) ∧ meth.locks = false
/-- the locals: place i of the list is local i -/
def rw_lv (ls : Array Slot) (nL : Nat) (lv : List (Option Value)) : Prop := ls.size = nL ∧ lv_wf ls ∧ ∀ (i : Nat) (v : Value), lv[i]? = some (some v) → ls[i]? = some (.val v) ∧ v.category = 1
def rw_l (lv : List (Option Value)) : List (Nat × Value) := (List.range lv.length).filterMap (fun i => (lv[i]?).join.map (fun v => (i, v)))
theorem rw_l_mem {lv : List (Option Value)} {q : Nat × Value} : q ∈ rw_l lv ↔ lv[q.1]? = some (some q.2) := by
  unfold rw_l
  simp only [List.mem_filterMap, List.mem_range]
  constructor
  · rintro ⟨i, hi, h⟩
    cases h1 : lv[i]? with
    | none => rw [h1] at h; simp at h
    | some o =>
      cases o with
      | none => rw [h1] at h; simp at h
      | some v =>
        rw [h1] at h
        simp at h
        subst h
        exact h1
  · intro h
    refine ⟨q.1, (List.getElem?_eq_some_iff.mp h).1, ?_⟩
    rw [h]
    rfl
theorem rw_has {ls : Array Slot} {nL : Nat} {lv : List (Option Value)} (h : rw_lv ls nL lv) : lv_has ls nL (rw_l lv) := ⟨h.1, h.2.1, fun q hq => (h.2.2 q.1 q.2 (rw_l_mem.mp hq)).1⟩
theorem rw_store {ls ls' : Array Slot} {nL : Nat} {lv : List (Option Value)} {i : Nat} {v : Value} (h : rw_lv ls nL lv) (hc : v.category = 1) (h' : lv_has ls' nL ((i, v) :: (rw_l lv).filter (fun q => !(q.1 == i) && !(q.1 + 1 == i && q.2.category == 2)))) : rw_lv ls' nL (lv.set i (some v)) := by
  refine ⟨h'.1, h'.2.1, fun j w hj => ?_⟩
  rw [List.getElem?_set] at hj
  by_cases e : i = j
  · rw [if_pos e] at hj
    split at hj
    · cases hj
      subst e
      exact ⟨h'.2.2 (i, v) List.mem_cons_self, hc⟩
    · cases hj
  · rw [if_neg e] at hj
    have hcat := (h.2.2 j w hj).2
    refine ⟨h'.2.2 (j, w) (List.mem_cons_of_mem _ (List.mem_filter.mpr ⟨rw_l_mem.mpr hj, ?_⟩)), hcat⟩
    have e2 : ¬ j = i := fun q => e q.symm
    simp [e2, hcat]
/-- fewer known locals -/
theorem rw_less {ls : Array Slot} {nL : Nat} {lv lv' : List (Option Value)} (h : rw_lv ls nL lv) (hl : ∀ (i : Nat) (v : Value), lv'[i]? = some (some v) → lv[i]? = some (some v)) : rw_lv ls nL lv' := ⟨h.1, h.2.1, fun i v hi => h.2.2 i v (hl i v hi)⟩
theorem rw_drop {ls : Array Slot} {nL : Nat} {lv : List (Option Value)} (i : Nat) (h : rw_lv ls nL lv) : rw_lv ls nL (lv.set i none) := rw_less h (fun j v hj => by
  rw [List.getElem?_set] at hj
  split at hj
  · split at hj <;> cases hj
  · exact hj)
theorem rw_args : ∀ (vs : List Value) (k n i : Nat) (v : Value), vs.all (fun v => v.category == 1) = true → (vs.map some ++ List.replicate k none)[i]? = some (some v) → (n + i, v) ∈ lv_args n vs ∧ v.category = 1
  | [], k, n, i, v, _, h => by
    simp [List.getElem?_replicate] at h
  | w :: t, k, n, 0, v, hc, h => by
    simp at h
    subst h
    rw [List.all_cons, Bool.and_eq_true] at hc
    exact ⟨List.mem_cons_self, by simpa using hc.1⟩
  | w :: t, k, n, i + 1, v, hc, h => by
    rw [List.all_cons, Bool.and_eq_true] at hc
    have h1 := rw_args t k (n + 1) i v hc.2 (by simpa using h)
    have hw : w.category = 1 := by simpa using hc.1
    refine ⟨List.mem_cons_of_mem _ ?_, h1.2⟩
    rw [hw, if_neg (by decide), show n + (i + 1) = n + 1 + i by omega]
    exact h1.1
def rw_W (p : Program) (l : Launch) (e : Env) (R : Room) (s : State) (m : MethodId) (args : Array Value) (below : List Frame) (meth : Method) (c : Code) (D : va_G) (A : Nat → Prop) (nL kc ks : Nat) (Q : State → Prop) (wd : va_W) (lv : List (Option Value)) (pc : Nat) (stk : List Value) : Prop :=
  ∀ (H : Heap) (locs : List Loc) (ls : Array Slot), va_P D vwCl wd H → va_D A wd → va_S A s.heap H locs → rw_lv ls nL lv → W p l e R s m args below meth c H locs kc ks Q (F0 m pc ls stk)
/-- a contract: int (or boolean) answer, void; the cells stay where they are, what they hold is a state -/
def rw_B (D : va_G) (tys : List (ClassId × FieldType)) (wdf : rt_S → va_W) (A : Nat → Prop) (u : rt_S) (t : State) : Prop := va_P D vwCl (wdf u) t.heap ∧ va_K D vwCl tys t ∧ va_D A (wdf u)
def rw_Pre (D : va_G) (tys : List (ClassId × FieldType)) (wd : va_W) (sz : Nat) (U : State) : Prop := U.heap.size = sz ∧ va_P D vwCl wd U.heap ∧ va_K D vwCl tys U ∧ va_D (fun _ => True) wd
def rw_Mi (l : Launch) (D : va_G) (tys : List (ClassId × FieldType)) (wdf : rt_S → va_W) (y : MethodName) (cc : ByteArray) (nL : Nat) (ret : Option FieldType) (rm : Room) (h0 : Nat) (As : List Value) (st : rt_S) (post : Int32 → rt_S → Prop) : Prop :=
  ∀ sz : Nat, Met l y (ws_ y cc nL ret) rm (va_Pc (.ref h0 :: As) (rw_Pre D tys (wdf st) sz)) (va_Qi post (rw_B D tys wdf (va_A (wdf st) sz)) (va_A (wdf st) sz)) 0 0 (va_A (wdf st) sz)
def rw_Mv (l : Launch) (D : va_G) (tys : List (ClassId × FieldType)) (wdf : rt_S → va_W) (y : MethodName) (cc : ByteArray) (nL : Nat) (ret : Option FieldType) (rm : Room) (h0 : Nat) (As : List Value) (st : rt_S) (post : rt_S → Prop) : Prop :=
  ∀ sz : Nat, Met l y (ws_ y cc nL ret) rm (va_Pc (.ref h0 :: As) (rw_Pre D tys (wdf st) sz)) (va_Qv post (rw_B D tys wdf (va_A (wdf st) sz)) (va_A (wdf st) sz)) 0 0 (va_A (wdf st) sz)
section RW
variable {p : Program} {l : Launch} {e : Env} {R : Room} {s : State} {m : MethodId} {args : Array Value} {below : List Frame} {meth : Method} {c : Code} {D : va_G} {A : Nat → Prop} {tys : List (ClassId × FieldType)} {cc : ByteArray} {nL : Nat} {own : String} {kc ks : Nat} {Q : State → Prop} {wd : va_W} {lv : List (Option Value)} {pc : Nat} {rest : List Value}
theorem rw_iconst {n : Int} {v : Int32} (F : rw_F p s m args meth c D A tys cc nL own) (hd : decode cc pc = .ok (.iconst n, 1)) (hv : Int32.ofInt n = v) (kk : rw_W p l e R s m args below meth c D A nL kc ks Q wd lv (pc + 1) (.int v :: rest)) : rw_W p l e R s m args below meth c D A nL kc ks Q wd lv pc (rest) := fun H locs ls hP hD hS hl => lv_iconst F.1 F.2.1 hd hv (kk H locs ls hP hD hS hl)
theorem rw_bipush {n : Int} {v : Int32} (F : rw_F p s m args meth c D A tys cc nL own) (hd : decode cc pc = .ok (.bipush n, 2)) (hv : (Int8.ofInt n).toInt32 = v) (kk : rw_W p l e R s m args below meth c D A nL kc ks Q wd lv (pc + 2) (.int v :: rest)) : rw_W p l e R s m args below meth c D A nL kc ks Q wd lv pc (rest) := fun H locs ls hP hD hS hl => lv_bipush F.1 F.2.1 hd hv (kk H locs ls hP hD hS hl)
theorem rw_sipush {n : Int} {v : Int32} (F : rw_F p s m args meth c D A tys cc nL own) (hd : decode cc pc = .ok (.sipush n, 3)) (hv : (Int16.ofInt n).toInt32 = v) (kk : rw_W p l e R s m args below meth c D A nL kc ks Q wd lv (pc + 3) (.int v :: rest)) : rw_W p l e R s m args below meth c D A nL kc ks Q wd lv pc (rest) := fun H locs ls hP hD hS hl => lv_sipush F.1 F.2.1 hd hv (kk H locs ls hP hD hS hl)
theorem rw_ldc {index : Nat} {v : Int32} (F : rw_F p s m args meth c D A tys cc nL own) (hq : Cond.constant own index v ∈ lw_all) (hd : decode cc pc = .ok (.ldc index, 2)) (kk : rw_W p l e R s m args below meth c D A nL kc ks Q wd lv (pc + 2) (.int v :: rest)) : rw_W p l e R s m args below meth c D A nL kc ks Q wd lv pc rest := fun H locs ls hP hD hS hl => lv_ldc F.1 F.2.1 F.2.2.2.1 (F.2.2.2.2.1 _ hq) hd (kk H locs ls hP hD hS hl)
theorem rw_iload_n {k : Fin 4} {x : Int32} (F : rw_F p s m args meth c D A tys cc nL own) (hd : decode cc pc = .ok (.iload_n k, 1)) (h : lv[(k : Nat)]? = some (some (.int x))) (kk : rw_W p l e R s m args below meth c D A nL kc ks Q wd lv (pc + 1) (.int x :: rest)) : rw_W p l e R s m args below meth c D A nL kc ks Q wd lv pc (rest) := fun H locs ls hP hD hS hl => lv_iload_n F.1 F.2.1 hd rfl (hl.2.2 _ _ h).1 (kk H locs ls hP hD hS hl)
theorem rw_iload {i : Nat} {x : Int32} (F : rw_F p s m args meth c D A tys cc nL own) (hd : decode cc pc = .ok (.iload i, 2)) (h : lv[i]? = some (some (.int x))) (kk : rw_W p l e R s m args below meth c D A nL kc ks Q wd lv (pc + 2) (.int x :: rest)) : rw_W p l e R s m args below meth c D A nL kc ks Q wd lv pc (rest) := fun H locs ls hP hD hS hl => lv_iload F.1 F.2.1 hd (hl.2.2 _ _ h).1 (kk H locs ls hP hD hS hl)
theorem rw_aload_n {k : Fin 4} {x : Nat} (F : rw_F p s m args meth c D A tys cc nL own) (hd : decode cc pc = .ok (.aload_n k, 1)) (h : lv[(k : Nat)]? = some (some (.ref x))) (kk : rw_W p l e R s m args below meth c D A nL kc ks Q wd lv (pc + 1) (.ref x :: rest)) : rw_W p l e R s m args below meth c D A nL kc ks Q wd lv pc (rest) := fun H locs ls hP hD hS hl => lv_aload_n F.1 F.2.1 hd rfl (hl.2.2 _ _ h).1 (kk H locs ls hP hD hS hl)
theorem rw_istore_n {k : Fin 4} {x : Int32} (F : rw_F p s m args meth c D A tys cc nL own) (hd : decode cc pc = .ok (.istore_n k, 1)) (hn : (k : Nat) < nL) (kk : rw_W p l e R s m args below meth c D A nL kc ks Q wd (lv.set (k : Nat) (some (.int x))) (pc + 1) (rest)) : rw_W p l e R s m args below meth c D A nL kc ks Q wd lv pc (.int x :: rest) := fun H locs ls hP hD hS hl => lv_istore_n F.1 F.2.1 hd rfl (rw_has hl) hn rfl (fun ls2 h2 => kk H locs ls2 hP hD hS (rw_store hl rfl h2))
theorem rw_istore {i : Nat} {x : Int32} (F : rw_F p s m args meth c D A tys cc nL own) (hd : decode cc pc = .ok (.istore i, 2)) (hn : i < nL) (kk : rw_W p l e R s m args below meth c D A nL kc ks Q wd (lv.set i (some (.int x))) (pc + 2) (rest)) : rw_W p l e R s m args below meth c D A nL kc ks Q wd lv pc (.int x :: rest) := fun H locs ls hP hD hS hl => lv_istore F.1 F.2.1 hd (rw_has hl) hn rfl (fun ls2 h2 => kk H locs ls2 hP hD hS (rw_store hl rfl h2))
theorem rw_astore_n {k : Fin 4} {x : Nat} (F : rw_F p s m args meth c D A tys cc nL own) (hd : decode cc pc = .ok (.astore_n k, 1)) (hn : (k : Nat) < nL) (kk : rw_W p l e R s m args below meth c D A nL kc ks Q wd (lv.set (k : Nat) (some (.ref x))) (pc + 1) (rest)) : rw_W p l e R s m args below meth c D A nL kc ks Q wd lv pc (.ref x :: rest) := fun H locs ls hP hD hS hl => lv_astore_n F.1 F.2.1 hd rfl (rw_has hl) hn rfl (fun ls2 h2 => kk H locs ls2 hP hD hS (rw_store hl rfl h2))
theorem rw_iinc {i : Nat} {n : Int} {x v : Int32} (F : rw_F p s m args meth c D A tys cc nL own) (hd : decode cc pc = .ok (.iinc i n, 3)) (h : lv[i]? = some (some (.int x))) (hv : x + Int32.ofInt n = v) (hn : i < nL) (kk : rw_W p l e R s m args below meth c D A nL kc ks Q wd (lv.set i (some (.int v))) (pc + 3) rest) : rw_W p l e R s m args below meth c D A nL kc ks Q wd lv pc rest := fun H locs ls hP hD hS hl => by
  obtain ⟨k, hk⟩ := List.getElem?_of_mem (rw_l_mem (q := (i, .int x)).mpr h)
  exact lv_iinc F.1 F.2.1 hd (rw_has hl) hk hv hn rfl (fun ls2 h2 => kk H locs ls2 hP hD hS (rw_store hl rfl h2))
theorem rw_iinc1 {i j : Nat} (F : rw_F p s m args meth c D A tys cc nL own) (hd : decode cc pc = .ok (.iinc i 1, 3)) (h : lv[i]? = some (some (.int (nI j)))) (hn : i < nL) (kk : rw_W p l e R s m args below meth c D A nL kc ks Q wd (lv.set i (some (.int (nI (j + 1))))) (pc + 3) rest) : rw_W p l e R s m args below meth c D A nL kc ks Q wd lv pc rest := rw_iinc F hd h ((nI_succ j).symm) hn kk
theorem rw_iincm {i j : Nat} (F : rw_F p s m args meth c D A tys cc nL own) (hd : decode cc pc = .ok (.iinc i (-1), 3)) (h : lv[i]? = some (some (.int (nI (j + 1))))) (hn : i < nL) (kk : rw_W p l e R s m args below meth c D A nL kc ks Q wd (lv.set i (some (.int (nI j)))) (pc + 3) rest) : rw_W p l e R s m args below meth c D A nL kc ks Q wd lv pc rest := rw_iinc F hd h (pk_m1 j) hn kk
theorem rw_iadd {x y : Int32} (F : rw_F p s m args meth c D A tys cc nL own) (hd : decode cc pc = .ok (.iadd, 1))  (kk : rw_W p l e R s m args below meth c D A nL kc ks Q wd lv (pc + 1) (.int (x + y) :: rest)) : rw_W p l e R s m args below meth c D A nL kc ks Q wd lv pc (.int y :: .int x :: rest) := fun H locs ls hP hD hS hl => lv_iadd F.1 F.2.1 hd (kk H locs ls hP hD hS hl)
theorem rw_isub {x y : Int32} (F : rw_F p s m args meth c D A tys cc nL own) (hd : decode cc pc = .ok (.isub, 1))  (kk : rw_W p l e R s m args below meth c D A nL kc ks Q wd lv (pc + 1) (.int (x - y) :: rest)) : rw_W p l e R s m args below meth c D A nL kc ks Q wd lv pc (.int y :: .int x :: rest) := fun H locs ls hP hD hS hl => lv_isub F.1 F.2.1 hd (kk H locs ls hP hD hS hl)
theorem rw_imul {x y : Int32} (F : rw_F p s m args meth c D A tys cc nL own) (hd : decode cc pc = .ok (.imul, 1))  (kk : rw_W p l e R s m args below meth c D A nL kc ks Q wd lv (pc + 1) (.int (x * y) :: rest)) : rw_W p l e R s m args below meth c D A nL kc ks Q wd lv pc (.int y :: .int x :: rest) := fun H locs ls hP hD hS hl => lv_imul F.1 F.2.1 hd (kk H locs ls hP hD hS hl)
theorem rw_iand {x y : Int32} (F : rw_F p s m args meth c D A tys cc nL own) (hd : decode cc pc = .ok (.iand, 1))  (kk : rw_W p l e R s m args below meth c D A nL kc ks Q wd lv (pc + 1) (.int (x &&& y) :: rest)) : rw_W p l e R s m args below meth c D A nL kc ks Q wd lv pc (.int y :: .int x :: rest) := fun H locs ls hP hD hS hl => lv_iand F.1 F.2.1 hd (kk H locs ls hP hD hS hl)
theorem rw_ior {x y : Int32} (F : rw_F p s m args meth c D A tys cc nL own) (hd : decode cc pc = .ok (.ior, 1))  (kk : rw_W p l e R s m args below meth c D A nL kc ks Q wd lv (pc + 1) (.int (x ||| y) :: rest)) : rw_W p l e R s m args below meth c D A nL kc ks Q wd lv pc (.int y :: .int x :: rest) := fun H locs ls hP hD hS hl => lv_ior F.1 F.2.1 hd (kk H locs ls hP hD hS hl)
theorem rw_ixor {x y : Int32} (F : rw_F p s m args meth c D A tys cc nL own) (hd : decode cc pc = .ok (.ixor, 1))  (kk : rw_W p l e R s m args below meth c D A nL kc ks Q wd lv (pc + 1) (.int (x ^^^ y) :: rest)) : rw_W p l e R s m args below meth c D A nL kc ks Q wd lv pc (.int y :: .int x :: rest) := fun H locs ls hP hD hS hl => lv_ixor F.1 F.2.1 hd (kk H locs ls hP hD hS hl)
theorem rw_ishl {x y : Int32} (F : rw_F p s m args meth c D A tys cc nL own) (hd : decode cc pc = .ok (.ishl, 1))  (kk : rw_W p l e R s m args below meth c D A nL kc ks Q wd lv (pc + 1) (.int (x <<< (y &&& 31)) :: rest)) : rw_W p l e R s m args below meth c D A nL kc ks Q wd lv pc (.int y :: .int x :: rest) := fun H locs ls hP hD hS hl => lv_ishl F.1 F.2.1 hd (kk H locs ls hP hD hS hl)
theorem rw_ishr {x y : Int32} (F : rw_F p s m args meth c D A tys cc nL own) (hd : decode cc pc = .ok (.ishr, 1))  (kk : rw_W p l e R s m args below meth c D A nL kc ks Q wd lv (pc + 1) (.int (x >>> (y &&& 31)) :: rest)) : rw_W p l e R s m args below meth c D A nL kc ks Q wd lv pc (.int y :: .int x :: rest) := fun H locs ls hP hD hS hl => lv_ishr F.1 F.2.1 hd (kk H locs ls hP hD hS hl)
theorem rw_idivN {a d : Nat} (F : rw_F p s m args meth c D A tys cc nL own) (hd : decode cc pc = .ok (.idiv, 1)) (ha : a < 2 ^ 31) (h0 : 0 < d) (h1 : d < 2 ^ 31) (kk : rw_W p l e R s m args below meth c D A nL kc ks Q wd lv (pc + 1) (.int (nI (a / d)) :: rest)) : rw_W p l e R s m args below meth c D A nL kc ks Q wd lv pc (.int (nI d) :: .int (nI a) :: rest) := fun H locs ls hP hD hS hl => lv_idiv F.1 F.2.1 hd (nI_ne0 h0 h1) (by rw [pk_div ha h0 h1]; exact kk H locs ls hP hD hS hl)
theorem rw_iremN {a d : Nat} (F : rw_F p s m args meth c D A tys cc nL own) (hd : decode cc pc = .ok (.irem, 1)) (ha : a < 2 ^ 31) (h0 : 0 < d) (h1 : d < 2 ^ 31) (kk : rw_W p l e R s m args below meth c D A nL kc ks Q wd lv (pc + 1) (.int (nI (a % d)) :: rest)) : rw_W p l e R s m args below meth c D A nL kc ks Q wd lv pc (.int (nI d) :: .int (nI a) :: rest) := fun H locs ls hP hD hS hl => lv_irem F.1 F.2.1 hd (nI_ne0 h0 h1) (by rw [pk_rem ha h0 h1]; exact kk H locs ls hP hD hS hl)
theorem rw_i2b {x v : Int32} (F : rw_F p s m args meth c D A tys cc nL own) (hd : decode cc pc = .ok (.i2b, 1)) (hv : x.toInt8.toInt32 = v) (kk : rw_W p l e R s m args below meth c D A nL kc ks Q wd lv (pc + 1) (.int v :: rest)) : rw_W p l e R s m args below meth c D A nL kc ks Q wd lv pc (.int x :: rest) := fun H locs ls hP hD hS hl => lv_i2b F.1 F.2.1 hd hv (kk H locs ls hP hD hS hl)
theorem rw_dup {va : Value} (F : rw_F p s m args meth c D A tys cc nL own) (hd : decode cc pc = .ok (.dup, 1)) (hva : va.category = 1) (kk : rw_W p l e R s m args below meth c D A nL kc ks Q wd lv (pc + 1) (va :: va :: rest)) : rw_W p l e R s m args below meth c D A nL kc ks Q wd lv pc (va :: rest) := fun H locs ls hP hD hS hl => lv_dup F.1 F.2.1 hd hva (kk H locs ls hP hD hS hl)
theorem rw_if_eq {x : Int32} {off : Int} {tgt : Nat} (F : rw_F p s m args meth c D A tys cc nL own) (hd : decode cc pc = .ok (.ifCond .eq off, 3)) (ht : (pc : Int) + off = (tgt : Int)) (kt : x = 0 → rw_W p l e R s m args below meth c D A nL kc ks Q wd lv tgt rest) (kf : ¬ x = 0 → rw_W p l e R s m args below meth c D A nL kc ks Q wd lv (pc + 3) rest) : rw_W p l e R s m args below meth c D A nL kc ks Q wd lv pc (.int x :: rest) := fun H locs ls hP hD hS hl => lv_if_eq F.1 F.2.1 hd ht (fun h => kt h H locs ls hP hD hS hl) (fun h => kf h H locs ls hP hD hS hl)
theorem rw_icmp_eq {x y : Int32} {off : Int} {tgt : Nat} (F : rw_F p s m args meth c D A tys cc nL own) (hd : decode cc pc = .ok (.if_icmp .eq off, 3)) (ht : (pc : Int) + off = (tgt : Int)) (kt : x = y → rw_W p l e R s m args below meth c D A nL kc ks Q wd lv tgt rest) (kf : ¬ x = y → rw_W p l e R s m args below meth c D A nL kc ks Q wd lv (pc + 3) rest) : rw_W p l e R s m args below meth c D A nL kc ks Q wd lv pc (.int y :: .int x :: rest) := fun H locs ls hP hD hS hl => lv_icmp_eq F.1 F.2.1 hd ht (fun h => kt h H locs ls hP hD hS hl) (fun h => kf h H locs ls hP hD hS hl)
theorem rw_if_ne {x : Int32} {off : Int} {tgt : Nat} (F : rw_F p s m args meth c D A tys cc nL own) (hd : decode cc pc = .ok (.ifCond .ne off, 3)) (ht : (pc : Int) + off = (tgt : Int)) (kt : ¬ x = 0 → rw_W p l e R s m args below meth c D A nL kc ks Q wd lv tgt rest) (kf : x = 0 → rw_W p l e R s m args below meth c D A nL kc ks Q wd lv (pc + 3) rest) : rw_W p l e R s m args below meth c D A nL kc ks Q wd lv pc (.int x :: rest) := fun H locs ls hP hD hS hl => lv_if_ne F.1 F.2.1 hd ht (fun h => kt h H locs ls hP hD hS hl) (fun h => kf h H locs ls hP hD hS hl)
theorem rw_icmp_ne {x y : Int32} {off : Int} {tgt : Nat} (F : rw_F p s m args meth c D A tys cc nL own) (hd : decode cc pc = .ok (.if_icmp .ne off, 3)) (ht : (pc : Int) + off = (tgt : Int)) (kt : ¬ x = y → rw_W p l e R s m args below meth c D A nL kc ks Q wd lv tgt rest) (kf : x = y → rw_W p l e R s m args below meth c D A nL kc ks Q wd lv (pc + 3) rest) : rw_W p l e R s m args below meth c D A nL kc ks Q wd lv pc (.int y :: .int x :: rest) := fun H locs ls hP hD hS hl => lv_icmp_ne F.1 F.2.1 hd ht (fun h => kt h H locs ls hP hD hS hl) (fun h => kf h H locs ls hP hD hS hl)
theorem rw_if_lt {x : Int32} {off : Int} {tgt : Nat} (F : rw_F p s m args meth c D A tys cc nL own) (hd : decode cc pc = .ok (.ifCond .lt off, 3)) (ht : (pc : Int) + off = (tgt : Int)) (kt : x < 0 → rw_W p l e R s m args below meth c D A nL kc ks Q wd lv tgt rest) (kf : ¬ x < 0 → rw_W p l e R s m args below meth c D A nL kc ks Q wd lv (pc + 3) rest) : rw_W p l e R s m args below meth c D A nL kc ks Q wd lv pc (.int x :: rest) := fun H locs ls hP hD hS hl => lv_if_lt F.1 F.2.1 hd ht (fun h => kt h H locs ls hP hD hS hl) (fun h => kf h H locs ls hP hD hS hl)
theorem rw_icmp_lt {x y : Int32} {off : Int} {tgt : Nat} (F : rw_F p s m args meth c D A tys cc nL own) (hd : decode cc pc = .ok (.if_icmp .lt off, 3)) (ht : (pc : Int) + off = (tgt : Int)) (kt : x < y → rw_W p l e R s m args below meth c D A nL kc ks Q wd lv tgt rest) (kf : ¬ x < y → rw_W p l e R s m args below meth c D A nL kc ks Q wd lv (pc + 3) rest) : rw_W p l e R s m args below meth c D A nL kc ks Q wd lv pc (.int y :: .int x :: rest) := fun H locs ls hP hD hS hl => lv_icmp_lt F.1 F.2.1 hd ht (fun h => kt h H locs ls hP hD hS hl) (fun h => kf h H locs ls hP hD hS hl)
theorem rw_if_ge {x : Int32} {off : Int} {tgt : Nat} (F : rw_F p s m args meth c D A tys cc nL own) (hd : decode cc pc = .ok (.ifCond .ge off, 3)) (ht : (pc : Int) + off = (tgt : Int)) (kt : 0 ≤ x → rw_W p l e R s m args below meth c D A nL kc ks Q wd lv tgt rest) (kf : ¬ 0 ≤ x → rw_W p l e R s m args below meth c D A nL kc ks Q wd lv (pc + 3) rest) : rw_W p l e R s m args below meth c D A nL kc ks Q wd lv pc (.int x :: rest) := fun H locs ls hP hD hS hl => lv_if_ge F.1 F.2.1 hd ht (fun h => kt h H locs ls hP hD hS hl) (fun h => kf h H locs ls hP hD hS hl)
theorem rw_icmp_ge {x y : Int32} {off : Int} {tgt : Nat} (F : rw_F p s m args meth c D A tys cc nL own) (hd : decode cc pc = .ok (.if_icmp .ge off, 3)) (ht : (pc : Int) + off = (tgt : Int)) (kt : y ≤ x → rw_W p l e R s m args below meth c D A nL kc ks Q wd lv tgt rest) (kf : ¬ y ≤ x → rw_W p l e R s m args below meth c D A nL kc ks Q wd lv (pc + 3) rest) : rw_W p l e R s m args below meth c D A nL kc ks Q wd lv pc (.int y :: .int x :: rest) := fun H locs ls hP hD hS hl => lv_icmp_ge F.1 F.2.1 hd ht (fun h => kt h H locs ls hP hD hS hl) (fun h => kf h H locs ls hP hD hS hl)
theorem rw_if_gt {x : Int32} {off : Int} {tgt : Nat} (F : rw_F p s m args meth c D A tys cc nL own) (hd : decode cc pc = .ok (.ifCond .gt off, 3)) (ht : (pc : Int) + off = (tgt : Int)) (kt : 0 < x → rw_W p l e R s m args below meth c D A nL kc ks Q wd lv tgt rest) (kf : ¬ 0 < x → rw_W p l e R s m args below meth c D A nL kc ks Q wd lv (pc + 3) rest) : rw_W p l e R s m args below meth c D A nL kc ks Q wd lv pc (.int x :: rest) := fun H locs ls hP hD hS hl => lv_if_gt F.1 F.2.1 hd ht (fun h => kt h H locs ls hP hD hS hl) (fun h => kf h H locs ls hP hD hS hl)
theorem rw_icmp_gt {x y : Int32} {off : Int} {tgt : Nat} (F : rw_F p s m args meth c D A tys cc nL own) (hd : decode cc pc = .ok (.if_icmp .gt off, 3)) (ht : (pc : Int) + off = (tgt : Int)) (kt : y < x → rw_W p l e R s m args below meth c D A nL kc ks Q wd lv tgt rest) (kf : ¬ y < x → rw_W p l e R s m args below meth c D A nL kc ks Q wd lv (pc + 3) rest) : rw_W p l e R s m args below meth c D A nL kc ks Q wd lv pc (.int y :: .int x :: rest) := fun H locs ls hP hD hS hl => lv_icmp_gt F.1 F.2.1 hd ht (fun h => kt h H locs ls hP hD hS hl) (fun h => kf h H locs ls hP hD hS hl)
theorem rw_if_le {x : Int32} {off : Int} {tgt : Nat} (F : rw_F p s m args meth c D A tys cc nL own) (hd : decode cc pc = .ok (.ifCond .le off, 3)) (ht : (pc : Int) + off = (tgt : Int)) (kt : x ≤ 0 → rw_W p l e R s m args below meth c D A nL kc ks Q wd lv tgt rest) (kf : ¬ x ≤ 0 → rw_W p l e R s m args below meth c D A nL kc ks Q wd lv (pc + 3) rest) : rw_W p l e R s m args below meth c D A nL kc ks Q wd lv pc (.int x :: rest) := fun H locs ls hP hD hS hl => lv_if_le F.1 F.2.1 hd ht (fun h => kt h H locs ls hP hD hS hl) (fun h => kf h H locs ls hP hD hS hl)
theorem rw_icmp_le {x y : Int32} {off : Int} {tgt : Nat} (F : rw_F p s m args meth c D A tys cc nL own) (hd : decode cc pc = .ok (.if_icmp .le off, 3)) (ht : (pc : Int) + off = (tgt : Int)) (kt : x ≤ y → rw_W p l e R s m args below meth c D A nL kc ks Q wd lv tgt rest) (kf : ¬ x ≤ y → rw_W p l e R s m args below meth c D A nL kc ks Q wd lv (pc + 3) rest) : rw_W p l e R s m args below meth c D A nL kc ks Q wd lv pc (.int y :: .int x :: rest) := fun H locs ls hP hD hS hl => lv_icmp_le F.1 F.2.1 hd ht (fun h => kt h H locs ls hP hD hS hl) (fun h => kf h H locs ls hP hD hS hl)
theorem rw_icmp_ge_N {a b : Nat} {off : Int} {tgt : Nat} (F : rw_F p s m args meth c D A tys cc nL own) (hd : decode cc pc = .ok (.if_icmp .ge off, 3)) (ht : (pc : Int) + off = (tgt : Int)) (ha : a < 2 ^ 31) (hb : b < 2 ^ 31) (kt : b ≤ a → rw_W p l e R s m args below meth c D A nL kc ks Q wd lv tgt rest) (kf : a < b → rw_W p l e R s m args below meth c D A nL kc ks Q wd lv (pc + 3) rest) : rw_W p l e R s m args below meth c D A nL kc ks Q wd lv pc (.int (nI b) :: .int (nI a) :: rest) := rw_icmp_ge F hd ht (fun h => kt ((nI_leI hb ha).mp h)) (fun h => kf (Nat.lt_of_not_le (fun z => h ((nI_leI hb ha).mpr z))))
theorem rw_icmp_gt_N {a b : Nat} {off : Int} {tgt : Nat} (F : rw_F p s m args meth c D A tys cc nL own) (hd : decode cc pc = .ok (.if_icmp .gt off, 3)) (ht : (pc : Int) + off = (tgt : Int)) (ha : a < 2 ^ 31) (hb : b < 2 ^ 31) (kt : b < a → rw_W p l e R s m args below meth c D A nL kc ks Q wd lv tgt rest) (kf : a ≤ b → rw_W p l e R s m args below meth c D A nL kc ks Q wd lv (pc + 3) rest) : rw_W p l e R s m args below meth c D A nL kc ks Q wd lv pc (.int (nI b) :: .int (nI a) :: rest) := rw_icmp_gt F hd ht (fun h => kt ((nI_ltI hb ha).mp h)) (fun h => kf (Nat.le_of_not_lt (fun z => h ((nI_ltI hb ha).mpr z))))
theorem rw_icmp_le_N {a b : Nat} {off : Int} {tgt : Nat} (F : rw_F p s m args meth c D A tys cc nL own) (hd : decode cc pc = .ok (.if_icmp .le off, 3)) (ht : (pc : Int) + off = (tgt : Int)) (ha : a < 2 ^ 31) (hb : b < 2 ^ 31) (kt : a ≤ b → rw_W p l e R s m args below meth c D A nL kc ks Q wd lv tgt rest) (kf : b < a → rw_W p l e R s m args below meth c D A nL kc ks Q wd lv (pc + 3) rest) : rw_W p l e R s m args below meth c D A nL kc ks Q wd lv pc (.int (nI b) :: .int (nI a) :: rest) := rw_icmp_le F hd ht (fun h => kt ((nI_leI ha hb).mp h)) (fun h => kf (Nat.lt_of_not_le (fun z => h ((nI_leI ha hb).mpr z))))
theorem rw_icmp_lt_N {a b : Nat} {off : Int} {tgt : Nat} (F : rw_F p s m args meth c D A tys cc nL own) (hd : decode cc pc = .ok (.if_icmp .lt off, 3)) (ht : (pc : Int) + off = (tgt : Int)) (ha : a < 2 ^ 31) (hb : b < 2 ^ 31) (kt : a < b → rw_W p l e R s m args below meth c D A nL kc ks Q wd lv tgt rest) (kf : b ≤ a → rw_W p l e R s m args below meth c D A nL kc ks Q wd lv (pc + 3) rest) : rw_W p l e R s m args below meth c D A nL kc ks Q wd lv pc (.int (nI b) :: .int (nI a) :: rest) := rw_icmp_lt F hd ht (fun h => kt ((nI_ltI ha hb).mp h)) (fun h => kf (Nat.le_of_not_lt (fun z => h ((nI_ltI ha hb).mpr z))))
theorem rw_icmp_eq_N {a b : Nat} {off : Int} {tgt : Nat} (F : rw_F p s m args meth c D A tys cc nL own) (hd : decode cc pc = .ok (.if_icmp .eq off, 3)) (ht : (pc : Int) + off = (tgt : Int)) (ha : a < 2 ^ 31) (hb : b < 2 ^ 31) (kt : a = b → rw_W p l e R s m args below meth c D A nL kc ks Q wd lv tgt rest) (kf : ¬ a = b → rw_W p l e R s m args below meth c D A nL kc ks Q wd lv (pc + 3) rest) : rw_W p l e R s m args below meth c D A nL kc ks Q wd lv pc (.int (nI b) :: .int (nI a) :: rest) := rw_icmp_eq F hd ht (fun h => kt ((nI_eq ha hb).mp h)) (fun h => kf (fun z => h ((nI_eq ha hb).mpr z)))
theorem rw_icmp_ne_N {a b : Nat} {off : Int} {tgt : Nat} (F : rw_F p s m args meth c D A tys cc nL own) (hd : decode cc pc = .ok (.if_icmp .ne off, 3)) (ht : (pc : Int) + off = (tgt : Int)) (ha : a < 2 ^ 31) (hb : b < 2 ^ 31) (kt : ¬ a = b → rw_W p l e R s m args below meth c D A nL kc ks Q wd lv tgt rest) (kf : a = b → rw_W p l e R s m args below meth c D A nL kc ks Q wd lv (pc + 3) rest) : rw_W p l e R s m args below meth c D A nL kc ks Q wd lv pc (.int (nI b) :: .int (nI a) :: rest) := rw_icmp_ne F hd ht (fun h => kt (fun z => h ((nI_eq ha hb).mpr z))) (fun h => kf ((nI_eq ha hb).mp h))
theorem rw_goto {off : Int} {tgt : Nat} (F : rw_F p s m args meth c D A tys cc nL own) (hd : decode cc pc = .ok (.goto off, 3)) (ht : (pc : Int) + off = (tgt : Int)) (kk : rw_W p l e R s m args below meth c D A nL kc ks Q wd lv tgt rest) : rw_W p l e R s m args below meth c D A nL kc ks Q wd lv pc rest := fun H locs ls hP hD hS hl => lv_goto F.1 F.2.1 hd ht (kk H locs ls hP hD hS hl)
/-- the value on top gets another form, or a name -/
theorem rw_as {x y : Int32} (h : x = y) (kk : rw_W p l e R s m args below meth c D A nL kc ks Q wd lv pc (.int y :: rest)) : rw_W p l e R s m args below meth c D A nL kc ks Q wd lv pc (.int x :: rest) := by rw [h]; exact kk
theorem rw_nm {x : Int32} (kk : ∀ y : Int32, y = x → rw_W p l e R s m args below meth c D A nL kc ks Q wd lv pc (.int y :: rest)) : rw_W p l e R s m args below meth c D A nL kc ks Q wd lv pc (.int x :: rest) := kk x rfl
theorem rw_forget (i : Nat) (kk : rw_W p l e R s m args below meth c D A nL kc ks Q wd (lv.set i none) pc rest) : rw_W p l e R s m args below meth c D A nL kc ks Q wd lv pc rest := fun H locs ls hP hD hS hl => kk H locs ls hP hD hS (rw_drop i hl)
theorem rw_few {lv2 : List (Option Value)} (h : ∀ (i : Nat) (v : Value), lv2[i]? = some (some v) → lv[i]? = some (some v)) (kk : rw_W p l e R s m args below meth c D A nL kc ks Q wd lv2 pc rest) : rw_W p l e R s m args below meth c D A nL kc ks Q wd lv pc rest := fun H locs ls hP hD hS hl => kk H locs ls hP hD hS (rw_less hl h)
/-- 'x != 0' as javac lays it: ifeq, iconst_1, goto, iconst_0 -/
theorem rw_bool {x : Int32} {pc1 pc2 pc3 pc4 : Nat} {o1 o2 : Int} (F : rw_F p s m args meth c D A tys cc nL own) (d0 : decode cc pc = .ok (.ifCond .eq o1, 3)) (d1 : decode cc pc1 = .ok (.iconst 1, 1)) (d2 : decode cc pc2 = .ok (.goto o2, 3)) (d3 : decode cc pc3 = .ok (.iconst 0, 1)) (e1 : pc + 3 = pc1) (e2 : pc1 + 1 = pc2) (t3 : (pc : Int) + o1 = (pc3 : Int)) (t4 : (pc2 : Int) + o2 = (pc4 : Int)) (e4 : pc3 + 1 = pc4) (b : Bool) (hb : b = true ↔ ¬ x = 0) (kk : rw_W p l e R s m args below meth c D A nL kc ks Q wd lv pc4 (.int (rt_b b) :: rest)) : rw_W p l e R s m args below meth c D A nL kc ks Q wd lv pc (.int x :: rest) := by
  subst e1
  subst e2
  subst e4
  refine rw_if_eq F d0 t3 (fun c => ?_) (fun c => ?_)
  · refine rw_iconst (v := nI 0) F d3 (by decide) ?_
    have hb2 : b = false := by cases b; rfl; exact absurd c (hb.mp rfl)
    rw [hb2] at kk
    exact kk
  · refine rw_iconst (v := nI 1) F d1 (by decide) ?_
    refine rw_goto F d2 t4 ?_
    rw [hb.mpr c] at kk
    exact kk
theorem rw_calli {wdf : rt_S → va_W} {st : rt_S} {y : MethodName} {cc2 : ByteArray} {nL2 n idx ci : Nat} {ret : Option FieldType} {rm : Room} {h0 : Nat} {As : List Value} {post : Int32 → rt_S → Prop} {C : String} {q : vw_C} {fs : List Value} {stk : List Value}
    (F : rw_F p s m args meth c D A tys cc nL own) (hM : rw_Mi l D tys wdf y cc2 nL2 ret rm h0 As st post) (cw : CallW R s args own C idx y cc2 nL2 ret (ws_ y cc2 nL2 ret) rm 0 0 n)
    (hq : vwCl[ci]? = some q) (hqc : q.1 = C) (he : (wdf st)[0]? = some (h0, .inr (ci, fs))) (hn : As.length = n) (hstk : stk = As.reverse ++ .ref h0 :: rest) (hW : (rest.map fun v => v.category).sum ≤ 8) (hd : decode cc pc = .ok (.invokevirtual idx, 3)) (hf : kc ≤ R.cells ∧ ks ≤ R.slots)
    (kk : ∀ (r : Int32) (u : rt_S), post r u → rw_W p l e R s m args below meth c D A nL kc ks Q (wdf u) lv (pc + 3) (.int r :: rest)) : rw_W p l e R s m args below meth c D A nL kc ks Q (wdf st) lv pc stk := by
  intro H locs ls hP hD hS hl
  have hK := F.2.2.2.2.2.1
  have hA := F.2.2.2.2.2.2.1
  have hFc : ∀ q, va_A (wdf st) H.size q → A q := by
    intro q h
    rcases h with ⟨k, e, h⟩ | h
    · exact hD.2 k (q, e) h
    · exact hA q (Nat.le_trans hS.1 h)
  refine va_calli (va_runV (As := As) (rest := rest) ⟨F.1, F.2.1, F.2.2.1, F.2.2.2.1, F.2.2.2.2.1⟩ (hM H.size) cw ⟨fun a U g mk q => ?_, ?_, fun U hU hW => ?_⟩ rfl hn hl.1 hstk (lv_room hW) hd hf) hS (fun q _ h => hFc q h) hFc (fun r u t H1 locs1 ht hvm hp hB hz1 hk1 hS1 => ?_)
  · obtain ⟨q0, q1, qP, qK, qD⟩ := q
    exact ⟨q0, q1, qP, va_K.moved (u := U) (U := U.calling g mk a) (Vm.Alike.refl U.vm) qK, qD⟩
  · rw [← hqc]
    exact va_recv hK hP hq he
  · exact ⟨rfl, by rw [hU], by rw [hU]; exact hP, va_K.moved hW.alike hK, hD.weaken (fun _ _ _ _ => trivial)⟩
  · obtain ⟨hP1, hK1, hD1⟩ := hB
    rw [ht] at hP1
    exact kk r u hp H1 locs1 ls hP1 (hD1.weaken (fun k q _ h => hFc q.1 h)) hS1 hl
theorem rw_callv {wdf : rt_S → va_W} {st : rt_S} {y : MethodName} {cc2 : ByteArray} {nL2 n idx ci : Nat} {ret : Option FieldType} {rm : Room} {h0 : Nat} {As : List Value} {post : rt_S → Prop} {C : String} {q : vw_C} {fs : List Value} {stk : List Value}
    (F : rw_F p s m args meth c D A tys cc nL own) (hM : rw_Mv l D tys wdf y cc2 nL2 ret rm h0 As st post) (cw : CallW R s args own C idx y cc2 nL2 ret (ws_ y cc2 nL2 ret) rm 0 0 n)
    (hq : vwCl[ci]? = some q) (hqc : q.1 = C) (he : (wdf st)[0]? = some (h0, .inr (ci, fs))) (hn : As.length = n) (hstk : stk = As.reverse ++ .ref h0 :: rest) (hW : (rest.map fun v => v.category).sum ≤ 8) (hd : decode cc pc = .ok (.invokevirtual idx, 3)) (hf : kc ≤ R.cells ∧ ks ≤ R.slots)
    (kk : ∀ (u : rt_S), post u → rw_W p l e R s m args below meth c D A nL kc ks Q (wdf u) lv (pc + 3) (rest)) : rw_W p l e R s m args below meth c D A nL kc ks Q (wdf st) lv pc stk := by
  intro H locs ls hP hD hS hl
  have hK := F.2.2.2.2.2.1
  have hA := F.2.2.2.2.2.2.1
  have hFc : ∀ q, va_A (wdf st) H.size q → A q := by
    intro q h
    rcases h with ⟨k, e, h⟩ | h
    · exact hD.2 k (q, e) h
    · exact hA q (Nat.le_trans hS.1 h)
  refine va_callv (va_runV (As := As) (rest := rest) ⟨F.1, F.2.1, F.2.2.1, F.2.2.2.1, F.2.2.2.2.1⟩ (hM H.size) cw ⟨fun a U g mk q => ?_, ?_, fun U hU hW => ?_⟩ rfl hn hl.1 hstk (lv_room hW) hd hf) hS (fun q _ h => hFc q h) hFc (fun u t H1 locs1 ht hvm hp hB hz1 hk1 hS1 => ?_)
  · obtain ⟨q0, q1, qP, qK, qD⟩ := q
    exact ⟨q0, q1, qP, va_K.moved (u := U) (U := U.calling g mk a) (Vm.Alike.refl U.vm) qK, qD⟩
  · rw [← hqc]
    exact va_recv hK hP hq he
  · exact ⟨rfl, by rw [hU], by rw [hU]; exact hP, va_K.moved hW.alike hK, hD.weaken (fun _ _ _ _ => trivial)⟩
  · obtain ⟨hP1, hK1, hD1⟩ := hB
    rw [ht] at hP1
    exact kk u hp H1 locs1 ls hP1 (hD1.weaken (fun k q _ h => hFc q.1 h)) hS1 hl
end RW
theorem rw_Mi.of {l : Launch} {D : va_G} {tys : List (ClassId × FieldType)} {wdf : rt_S → va_W} {y : MethodName} {cc : ByteArray} {nL : Nat} {ret : Option FieldType} {rm : Room} {h0 : Nat} {As : List Value} {st : rt_S} {post : Int32 → rt_S → Prop} {own : String} {lv : List (Option Value)}
    (hy : plainName y.cls = true) (ho : y.cls = own) (k : Nat) (hlen : (lg_sl (.ref h0 :: As)).length ≤ nL) (hlv : lv = (Value.ref h0 :: As).map some ++ List.replicate k none) (hcat : (Value.ref h0 :: As).all (fun v => v.category == 1) = true)
    (body : ∀ (p : Program) (e : Env) (s : State) (m : MethodId) (below : List Frame) (meth : Method) (c : Code) (A : Nat → Prop), rw_F p s m (Value.ref h0 :: As).toArray meth c D A tys cc nL own → meth.sig.returnType = ret →
      rw_W p l e rm s m (Value.ref h0 :: As).toArray below meth c D A nL 0 0 (MQ below (va_Qi post (rw_B D tys wdf A) A) (Value.ref h0 :: As).toArray s 0 0 A) (wdf st) lv 0 []) : rw_Mi l D tys wdf y cc nL ret rm h0 As st post := by
  intro sz
  refine Met.ofW (cc := cc) (maxL := nL) (ret := ret) hy rfl ?_
  intro p e s m args below meth c s₁ B hml hv
  obtain ⟨rfl, hsz, hP, hK, hD0⟩ := hv
  have hts := atoms_spec (ws := ws_ y cc nL ret) B.pre
  have hts : ∀ w ∈ lw_all, w.before _ s = true := fun w h => hts w (List.mem_cons_of_mem _ h)
  have hown : s.vm.findClass own = some m.cls := by rw [← ho]; exact findClass_of_methodNamed B.named
  subst hsz
  have hD := hD0.self (sz := s.heap.size)
  have hl := lv_entry (.ref h0 :: As) (n := nL) hlen
  rw [lg_entry_eq]
  refine body p e s m below meth c (va_A (wdf st) s.heap.size) ⟨B.exec, B.bytes, hml, hown, hts, hK, fun q h => Or.inr h, B.notSynchronized⟩ B.returns s.heap [] _ hP hD va_S.rf ⟨hl.1, hl.2.1, fun i v h => ?_⟩
  rw [hlv] at h
  obtain ⟨h1, h2⟩ := rw_args _ k 0 i v hcat h
  rw [Nat.zero_add] at h1
  exact ⟨hl.2.2 _ h1, h2⟩
theorem rw_Mv.of {l : Launch} {D : va_G} {tys : List (ClassId × FieldType)} {wdf : rt_S → va_W} {y : MethodName} {cc : ByteArray} {nL : Nat} {ret : Option FieldType} {rm : Room} {h0 : Nat} {As : List Value} {st : rt_S} {post : rt_S → Prop} {own : String} {lv : List (Option Value)}
    (hy : plainName y.cls = true) (ho : y.cls = own) (k : Nat) (hlen : (lg_sl (.ref h0 :: As)).length ≤ nL) (hlv : lv = (Value.ref h0 :: As).map some ++ List.replicate k none) (hcat : (Value.ref h0 :: As).all (fun v => v.category == 1) = true)
    (body : ∀ (p : Program) (e : Env) (s : State) (m : MethodId) (below : List Frame) (meth : Method) (c : Code) (A : Nat → Prop), rw_F p s m (Value.ref h0 :: As).toArray meth c D A tys cc nL own → meth.sig.returnType = ret →
      rw_W p l e rm s m (Value.ref h0 :: As).toArray below meth c D A nL 0 0 (MQ below (va_Qv post (rw_B D tys wdf A) A) (Value.ref h0 :: As).toArray s 0 0 A) (wdf st) lv 0 []) : rw_Mv l D tys wdf y cc nL ret rm h0 As st post := by
  intro sz
  refine Met.ofW (cc := cc) (maxL := nL) (ret := ret) hy rfl ?_
  intro p e s m args below meth c s₁ B hml hv
  obtain ⟨rfl, hsz, hP, hK, hD0⟩ := hv
  have hts := atoms_spec (ws := ws_ y cc nL ret) B.pre
  have hts : ∀ w ∈ lw_all, w.before _ s = true := fun w h => hts w (List.mem_cons_of_mem _ h)
  have hown : s.vm.findClass own = some m.cls := by rw [← ho]; exact findClass_of_methodNamed B.named
  subst hsz
  have hD := hD0.self (sz := s.heap.size)
  have hl := lv_entry (.ref h0 :: As) (n := nL) hlen
  rw [lg_entry_eq]
  refine body p e s m below meth c (va_A (wdf st) s.heap.size) ⟨B.exec, B.bytes, hml, hown, hts, hK, fun q h => Or.inr h, B.notSynchronized⟩ B.returns s.heap [] _ hP hD va_S.rf ⟨hl.1, hl.2.1, fun i v h => ?_⟩
  rw [hlv] at h
  obtain ⟨h1, h2⟩ := rw_args _ k 0 i v hcat h
  rw [Nat.zero_add] at h1
  exact ⟨hl.2.2 _ h1, h2⟩
theorem rw_ret {p : Program} {l : Launch} {e : Env} {R : Room} {s : State} {m : MethodId} {args : Array Value} {below : List Frame} {meth : Method} {c : Code} {D : va_G} {A : Nat → Prop} {tys : List (ClassId × FieldType)} {cc : ByteArray} {nL : Nat} {own : String} {lv : List (Option Value)} {pc : Nat} {wdf : rt_S → va_W} {post : Int32 → rt_S → Prop} {v : Int32} {u : rt_S} {ty : FieldType} (F : rw_F p s m args meth c D A tys cc nL own) (hr : meth.sig.returnType = some ty) (hn : narrow ty (.int v) = .int v) (hp : post v u) (hd : decode cc pc = .ok (.ireturn, 1)) :
    rw_W p l e R s m args below meth c D A nL 0 0 (MQ below (va_Qi post (rw_B D tys wdf A) A) args s 0 0 A) (wdf u) lv pc [.int v] :=
  fun H locs ls hP hD hS hl => W.zret F.1 F.2.1 hr hn (fun t ht hW => ⟨⟨v, u, rfl, hp, by rw [ht]; exact hP, va_K.moved hW.alike F.2.2.2.2.2.1, hD⟩, hS.F ht⟩) hS.2.2 hd F.2.2.2.2.2.2.2
theorem rw_vret {p : Program} {l : Launch} {e : Env} {R : Room} {s : State} {m : MethodId} {args : Array Value} {below : List Frame} {meth : Method} {c : Code} {D : va_G} {A : Nat → Prop} {tys : List (ClassId × FieldType)} {cc : ByteArray} {nL : Nat} {own : String} {lv : List (Option Value)} {pc : Nat} {wdf : rt_S → va_W} {post : rt_S → Prop} {u : rt_S} (F : rw_F p s m args meth c D A tys cc nL own) (hr : meth.sig.returnType = none) (hp : post u) (hd : decode cc pc = .ok (.return_, 1)) :
    rw_W p l e R s m args below meth c D A nL 0 0 (MQ below (va_Qv post (rw_B D tys wdf A) A) args s 0 0 A) (wdf u) lv pc [] :=
  fun H locs ls hP hD hS hl => W.vret F.1 F.2.1 hr (fun t ht hW => ⟨⟨u, rfl, hp, by rw [ht]; exact hP, va_K.moved hW.alike F.2.2.2.2.2.1, hD⟩, hS.F ht⟩) hS.2.2 hd F.2.2.2.2.2.2.2
theorem rw_int (v : Int32) : narrow .int (.int v) = .int v := rfl
end
section
/-! the two classes' cells as a state, and the rows of their fields and arrays -/
set_option maxRecDepth 100000
def rx_w (dA : Nat → ClassId) (h0 : Nat) (ad : Nat → Nat) (st : rt_S) : va_W := [(h0, .inr (0, [.ref (ad 0), .ref (ad 1), .ref (ad 2), .int (st 3 0), .int (st 4 0), .ref (ad 5), .ref (ad 6), .ref (ad 7), .ref (ad 8), .ref (ad 9), .ref (ad 10), .int (st 11 0), .ref (ad 12), .ref (ad 13)])), (ad 0, .inl (dA 0, 18, .inl (st 0))), (ad 1, .inl (dA 1, 18, .inl (st 1))), (ad 2, .inl (dA 2, 3, .inl (st 2))), (ad 5, .inl (dA 5, 8, .inl (st 5))), (ad 6, .inl (dA 6, 8, .inl (st 6))), (ad 7, .inl (dA 7, 8, .inl (st 7))), (ad 8, .inl (dA 8, 8, .inl (st 8))), (ad 9, .inl (dA 9, 8, .inl (st 9))), (ad 10, .inl (dA 10, 18, .inl (st 10))), (ad 12, .inl (dA 12, 18, .inl (st 12))), (ad 13, .inl (dA 13, 18, .inl (st 13)))]
def rx_t (dA : Nat → ClassId) : List (ClassId × FieldType) := [(dA 0, .int), (dA 1, .int), (dA 2, .int), (dA 5, .byte), (dA 6, .byte), (dA 7, .byte), (dA 8, .boolean), (dA 9, .boolean), (dA 10, .int), (dA 12, .byte), (dA 13, .int)]
def ry_w (dA : Nat → ClassId) (h0 : Nat) (ad : Nat → Nat) (st : rt_S) : va_W := [(h0, .inr (1, [.int (st 0 0), .ref (ad 1), .ref (ad 2), .ref (ad 3), .ref (ad 4)])), (ad 1, .inl (dA 1, 144, .inl (st 1))), (ad 2, .inl (dA 2, 144, .inl (st 2))), (ad 3, .inl (dA 3, 8, .inl (st 3))), (ad 4, .inl (dA 4, 18, .inl (st 4)))]
def ry_t (dA : Nat → ClassId) : List (ClassId × FieldType) := [(dA 1, .int), (dA 2, .int), (dA 3, .int), (dA 4, .int)]
theorem dd_X_enter : yX0_enter.cls = RX0 ∧ yX0_enter.cls ≠ "java/lang/invoke/MethodHandle" ∧ yX0_enter.cls ≠ "java/lang/invoke/VarHandle" ∧ (parseMethodDescriptor yX0_enter.desc).map (fun d => d.parameters.length) = some 3 := by decide +kernel
theorem dd_X_isPerson : yX0_isPerson.cls = RX0 ∧ yX0_isPerson.cls ≠ "java/lang/invoke/MethodHandle" ∧ yX0_isPerson.cls ≠ "java/lang/invoke/VarHandle" ∧ (parseMethodDescriptor yX0_isPerson.desc).map (fun d => d.parameters.length) = some 1 := by decide +kernel
theorem dd_X_isGroup : yX0_isGroup.cls = RX0 ∧ yX0_isGroup.cls ≠ "java/lang/invoke/MethodHandle" ∧ yX0_isGroup.cls ≠ "java/lang/invoke/VarHandle" ∧ (parseMethodDescriptor yX0_isGroup.desc).map (fun d => d.parameters.length) = some 1 := by decide +kernel
theorem dd_X_load : yX0_load.cls = RX0 ∧ yX0_load.cls ≠ "java/lang/invoke/MethodHandle" ∧ yX0_load.cls ≠ "java/lang/invoke/VarHandle" ∧ (parseMethodDescriptor yX0_load.desc).map (fun d => d.parameters.length) = some 1 := by decide +kernel
theorem dd_X_make : yX0_make.cls = RX0 ∧ yX0_make.cls ≠ "java/lang/invoke/MethodHandle" ∧ yX0_make.cls ≠ "java/lang/invoke/VarHandle" ∧ (parseMethodDescriptor yX0_make.desc).map (fun d => d.parameters.length) = some 2 := by decide +kernel
theorem dd_X_noteChange : yX0_noteChange.cls = RX0 ∧ yX0_noteChange.cls ≠ "java/lang/invoke/MethodHandle" ∧ yX0_noteChange.cls ≠ "java/lang/invoke/VarHandle" ∧ (parseMethodDescriptor yX0_noteChange.desc).map (fun d => d.parameters.length) = some 5 := by decide +kernel
theorem dd_X_nest : yX0_nest.cls = RX0 ∧ yX0_nest.cls ≠ "java/lang/invoke/MethodHandle" ∧ yX0_nest.cls ≠ "java/lang/invoke/VarHandle" ∧ (parseMethodDescriptor yX0_nest.desc).map (fun d => d.parameters.length) = some 3 := by decide +kernel
theorem dd_X_rule : yX0_rule.cls = RX0 ∧ yX0_rule.cls ≠ "java/lang/invoke/MethodHandle" ∧ yX0_rule.cls ≠ "java/lang/invoke/VarHandle" ∧ (parseMethodDescriptor yX0_rule.desc).map (fun d => d.parameters.length) = some 3 := by decide +kernel
theorem dd_X_latest : yX0_latest.cls = RX0 ∧ yX0_latest.cls ≠ "java/lang/invoke/MethodHandle" ∧ yX0_latest.cls ≠ "java/lang/invoke/VarHandle" ∧ (parseMethodDescriptor yX0_latest.desc).map (fun d => d.parameters.length) = some 0 := by decide +kernel
theorem dd_X_check : yX0_check.cls = RX0 ∧ yX0_check.cls ≠ "java/lang/invoke/MethodHandle" ∧ yX0_check.cls ≠ "java/lang/invoke/VarHandle" ∧ (parseMethodDescriptor yX0_check.desc).map (fun d => d.parameters.length) = some 3 := by decide +kernel
theorem dd_X_isState : yX0_isState.cls = RX0 ∧ yX0_isState.cls ≠ "java/lang/invoke/MethodHandle" ∧ yX0_isState.cls ≠ "java/lang/invoke/VarHandle" ∧ (parseMethodDescriptor yX0_isState.desc).map (fun d => d.parameters.length) = some 1 := by decide +kernel
theorem dd_X_isKept : yX0_isKept.cls = RX0 ∧ yX0_isKept.cls ≠ "java/lang/invoke/MethodHandle" ∧ yX0_isKept.cls ≠ "java/lang/invoke/VarHandle" ∧ (parseMethodDescriptor yX0_isKept.desc).map (fun d => d.parameters.length) = some 1 := by decide +kernel
theorem dd_X_membersOf : yX0_membersOf.cls = RX0 ∧ yX0_membersOf.cls ≠ "java/lang/invoke/MethodHandle" ∧ yX0_membersOf.cls ≠ "java/lang/invoke/VarHandle" ∧ (parseMethodDescriptor yX0_membersOf.desc).map (fun d => d.parameters.length) = some 1 := by decide +kernel
theorem dd_X_sourcesTo : yX0_sourcesTo.cls = RX0 ∧ yX0_sourcesTo.cls ≠ "java/lang/invoke/MethodHandle" ∧ yX0_sourcesTo.cls ≠ "java/lang/invoke/VarHandle" ∧ (parseMethodDescriptor yX0_sourcesTo.desc).map (fun d => d.parameters.length) = some 1 := by decide +kernel
theorem dd_X_byRules : yX0_byRules.cls = RX0 ∧ yX0_byRules.cls ≠ "java/lang/invoke/MethodHandle" ∧ yX0_byRules.cls ≠ "java/lang/invoke/VarHandle" ∧ (parseMethodDescriptor yX0_byRules.desc).map (fun d => d.parameters.length) = some 1 := by decide +kernel
theorem dd_X_members : yX0_members.cls = RX0 ∧ yX0_members.cls ≠ "java/lang/invoke/MethodHandle" ∧ yX0_members.cls ≠ "java/lang/invoke/VarHandle" ∧ (parseMethodDescriptor yX0_members.desc).map (fun d => d.parameters.length) = some 2 := by decide +kernel
theorem dd_X_groups : yX0_groups.cls = RX0 ∧ yX0_groups.cls ≠ "java/lang/invoke/MethodHandle" ∧ yX0_groups.cls ≠ "java/lang/invoke/VarHandle" ∧ (parseMethodDescriptor yX0_groups.desc).map (fun d => d.parameters.length) = some 2 := by decide +kernel
theorem dd_X_sources : yX0_sources.cls = RX0 ∧ yX0_sources.cls ≠ "java/lang/invoke/MethodHandle" ∧ yX0_sources.cls ≠ "java/lang/invoke/VarHandle" ∧ (parseMethodDescriptor yX0_sources.desc).map (fun d => d.parameters.length) = some 2 := by decide +kernel
theorem dd_X_changed : yX0_changed.cls = RX0 ∧ yX0_changed.cls ≠ "java/lang/invoke/MethodHandle" ∧ yX0_changed.cls ≠ "java/lang/invoke/VarHandle" ∧ (parseMethodDescriptor yX0_changed.desc).map (fun d => d.parameters.length) = some 2 := by decide +kernel
theorem dd_X_since : yX0_since.cls = RX0 ∧ yX0_since.cls ≠ "java/lang/invoke/MethodHandle" ∧ yX0_since.cls ≠ "java/lang/invoke/VarHandle" ∧ (parseMethodDescriptor yX0_since.desc).map (fun d => d.parameters.length) = some 3 := by decide +kernel
theorem dd_M_enter : yX1_enter.cls = RX1 ∧ yX1_enter.cls ≠ "java/lang/invoke/MethodHandle" ∧ yX1_enter.cls ≠ "java/lang/invoke/VarHandle" ∧ (parseMethodDescriptor yX1_enter.desc).map (fun d => d.parameters.length) = some 3 := by decide +kernel
theorem dd_M_isPerson : yX1_isPerson.cls = RX1 ∧ yX1_isPerson.cls ≠ "java/lang/invoke/MethodHandle" ∧ yX1_isPerson.cls ≠ "java/lang/invoke/VarHandle" ∧ (parseMethodDescriptor yX1_isPerson.desc).map (fun d => d.parameters.length) = some 1 := by decide +kernel
theorem dd_M_isGroup : yX1_isGroup.cls = RX1 ∧ yX1_isGroup.cls ≠ "java/lang/invoke/MethodHandle" ∧ yX1_isGroup.cls ≠ "java/lang/invoke/VarHandle" ∧ (parseMethodDescriptor yX1_isGroup.desc).map (fun d => d.parameters.length) = some 1 := by decide +kernel
theorem dd_M_next : yX1_next.cls = RX1 ∧ yX1_next.cls ≠ "java/lang/invoke/MethodHandle" ∧ yX1_next.cls ≠ "java/lang/invoke/VarHandle" ∧ (parseMethodDescriptor yX1_next.desc).map (fun d => d.parameters.length) = some 0 := by decide +kernel
theorem dd_M_with : yX1_with.cls = RX1 ∧ yX1_with.cls ≠ "java/lang/invoke/MethodHandle" ∧ yX1_with.cls ≠ "java/lang/invoke/VarHandle" ∧ (parseMethodDescriptor yX1_with.desc).map (fun d => d.parameters.length) = some 3 := by decide +kernel
theorem dd_M_nest : yX1_nest.cls = RX1 ∧ yX1_nest.cls ≠ "java/lang/invoke/MethodHandle" ∧ yX1_nest.cls ≠ "java/lang/invoke/VarHandle" ∧ (parseMethodDescriptor yX1_nest.desc).map (fun d => d.parameters.length) = some 3 := by decide +kernel
theorem dd_M_rule : yX1_rule.cls = RX1 ∧ yX1_rule.cls ≠ "java/lang/invoke/MethodHandle" ∧ yX1_rule.cls ≠ "java/lang/invoke/VarHandle" ∧ (parseMethodDescriptor yX1_rule.desc).map (fun d => d.parameters.length) = some 3 := by decide +kernel
theorem dd_M_latest : yX1_latest.cls = RX1 ∧ yX1_latest.cls ≠ "java/lang/invoke/MethodHandle" ∧ yX1_latest.cls ≠ "java/lang/invoke/VarHandle" ∧ (parseMethodDescriptor yX1_latest.desc).map (fun d => d.parameters.length) = some 0 := by decide +kernel
theorem dd_M_check : yX1_check.cls = RX1 ∧ yX1_check.cls ≠ "java/lang/invoke/MethodHandle" ∧ yX1_check.cls ≠ "java/lang/invoke/VarHandle" ∧ (parseMethodDescriptor yX1_check.desc).map (fun d => d.parameters.length) = some 3 := by decide +kernel
theorem dd_M_exists : yX1_exists.cls = RX1 ∧ yX1_exists.cls ≠ "java/lang/invoke/MethodHandle" ∧ yX1_exists.cls ≠ "java/lang/invoke/VarHandle" ∧ (parseMethodDescriptor yX1_exists.desc).map (fun d => d.parameters.length) = some 1 := by decide +kernel
theorem dd_M_isKept : yX1_isKept.cls = RX1 ∧ yX1_isKept.cls ≠ "java/lang/invoke/MethodHandle" ∧ yX1_isKept.cls ≠ "java/lang/invoke/VarHandle" ∧ (parseMethodDescriptor yX1_isKept.desc).map (fun d => d.parameters.length) = some 1 := by decide +kernel
theorem dd_M_addAll : yX1_addAll.cls = RX1 ∧ yX1_addAll.cls ≠ "java/lang/invoke/MethodHandle" ∧ yX1_addAll.cls ≠ "java/lang/invoke/VarHandle" ∧ (parseMethodDescriptor yX1_addAll.desc).map (fun d => d.parameters.length) = some 1 := by decide +kernel
theorem dd_M_passes : yX1_passes.cls = RX1 ∧ yX1_passes.cls ≠ "java/lang/invoke/MethodHandle" ∧ yX1_passes.cls ≠ "java/lang/invoke/VarHandle" ∧ (parseMethodDescriptor yX1_passes.desc).map (fun d => d.parameters.length) = some 3 := by decide +kernel
theorem dd_M_in : yX1_in.cls = RX1 ∧ yX1_in.cls ≠ "java/lang/invoke/MethodHandle" ∧ yX1_in.cls ≠ "java/lang/invoke/VarHandle" ∧ (parseMethodDescriptor yX1_in.desc).map (fun d => d.parameters.length) = some 2 := by decide +kernel
theorem dd_M_members : yX1_members.cls = RX1 ∧ yX1_members.cls ≠ "java/lang/invoke/MethodHandle" ∧ yX1_members.cls ≠ "java/lang/invoke/VarHandle" ∧ (parseMethodDescriptor yX1_members.desc).map (fun d => d.parameters.length) = some 2 := by decide +kernel
theorem dd_M_groups : yX1_groups.cls = RX1 ∧ yX1_groups.cls ≠ "java/lang/invoke/MethodHandle" ∧ yX1_groups.cls ≠ "java/lang/invoke/VarHandle" ∧ (parseMethodDescriptor yX1_groups.desc).map (fun d => d.parameters.length) = some 2 := by decide +kernel
theorem dd_M_sources : yX1_sources.cls = RX1 ∧ yX1_sources.cls ≠ "java/lang/invoke/MethodHandle" ∧ yX1_sources.cls ≠ "java/lang/invoke/VarHandle" ∧ (parseMethodDescriptor yX1_sources.desc).map (fun d => d.parameters.length) = some 2 := by decide +kernel
theorem dd_M_changed : yX1_changed.cls = RX1 ∧ yX1_changed.cls ≠ "java/lang/invoke/MethodHandle" ∧ yX1_changed.cls ≠ "java/lang/invoke/VarHandle" ∧ (parseMethodDescriptor yX1_changed.desc).map (fun d => d.parameters.length) = some 2 := by decide +kernel
theorem dd_M_since : yX1_since.cls = RX1 ∧ yX1_since.cls ≠ "java/lang/invoke/MethodHandle" ∧ yX1_since.cls ≠ "java/lang/invoke/VarHandle" ∧ (parseMethodDescriptor yX1_since.desc).map (fun d => d.parameters.length) = some 3 := by decide +kernel
abbrev rr_X_init : Room := { frames := 1, cells := 0, slots := 0, locals := 12 }
abbrev rr_X_enter : Room := { frames := 2, cells := 0, slots := 0, locals := 52 }
abbrev rr_X_nest : Room := { frames := 2, cells := 0, slots := 0, locals := 52 }
abbrev rr_X_rule : Room := { frames := 2, cells := 0, slots := 0, locals := 52 }
abbrev rr_X_isPerson : Room := { frames := 0, cells := 0, slots := 0, locals := 0 }
abbrev rr_X_isGroup : Room := { frames := 0, cells := 0, slots := 0, locals := 0 }
abbrev rr_X_noteChange : Room := { frames := 1, cells := 0, slots := 0, locals := 26 }
abbrev rr_X_make : Room := { frames := 0, cells := 0, slots := 0, locals := 0 }
abbrev rr_X_latest : Room := { frames := 0, cells := 0, slots := 0, locals := 0 }
abbrev rr_X_isState : Room := { frames := 0, cells := 0, slots := 0, locals := 0 }
abbrev rr_X_isKept : Room := { frames := 1, cells := 0, slots := 0, locals := 21 }
abbrev rr_X_load : Room := { frames := 1, cells := 0, slots := 0, locals := 26 }
abbrev rr_X_check : Room := { frames := 3, cells := 0, slots := 0, locals := 71 }
abbrev rr_X_members : Room := { frames := 3, cells := 0, slots := 0, locals := 71 }
abbrev rr_X_groups : Room := { frames := 3, cells := 0, slots := 0, locals := 71 }
abbrev rr_X_sources : Room := { frames := 2, cells := 0, slots := 0, locals := 47 }
abbrev rr_X_changed : Room := { frames := 3, cells := 0, slots := 0, locals := 71 }
abbrev rr_X_since : Room := { frames := 3, cells := 0, slots := 0, locals := 71 }
abbrev rr_X_membersOf : Room := { frames := 2, cells := 0, slots := 0, locals := 47 }
abbrev rr_X_sourcesTo : Room := { frames := 1, cells := 0, slots := 0, locals := 21 }
abbrev rr_X_byRules : Room := { frames := 0, cells := 0, slots := 0, locals := 0 }
abbrev rr_M_init : Room := { frames := 1, cells := 0, slots := 0, locals := 12 }
abbrev rr_M_isPerson : Room := { frames := 0, cells := 0, slots := 0, locals := 0 }
abbrev rr_M_isGroup : Room := { frames := 0, cells := 0, slots := 0, locals := 0 }
abbrev rr_M_in : Room := { frames := 0, cells := 0, slots := 0, locals := 0 }
abbrev rr_M_with : Room := { frames := 0, cells := 0, slots := 0, locals := 0 }
abbrev rr_M_next : Room := { frames := 0, cells := 0, slots := 0, locals := 0 }
abbrev rr_M_enter : Room := { frames := 1, cells := 0, slots := 0, locals := 23 }
abbrev rr_M_nest : Room := { frames := 1, cells := 0, slots := 0, locals := 23 }
abbrev rr_M_rule : Room := { frames := 1, cells := 0, slots := 0, locals := 23 }
abbrev rr_M_latest : Room := { frames := 0, cells := 0, slots := 0, locals := 0 }
abbrev rr_M_exists : Room := { frames := 0, cells := 0, slots := 0, locals := 0 }
abbrev rr_M_isKept : Room := { frames := 1, cells := 0, slots := 0, locals := 21 }
abbrev rr_M_passes : Room := { frames := 1, cells := 0, slots := 0, locals := 22 }
abbrev rr_M_addAll : Room := { frames := 2, cells := 0, slots := 0, locals := 45 }
abbrev rr_M_check : Room := { frames := 3, cells := 0, slots := 0, locals := 69 }
abbrev rr_M_members : Room := { frames := 3, cells := 0, slots := 0, locals := 69 }
abbrev rr_M_groups : Room := { frames := 3, cells := 0, slots := 0, locals := 69 }
abbrev rr_M_sources : Room := { frames := 2, cells := 0, slots := 0, locals := 45 }
abbrev rr_M_changed : Room := { frames := 4, cells := 0, slots := 0, locals := 93 }
abbrev rr_M_since : Room := { frames := 4, cells := 0, slots := 0, locals := 92 }
section RF
variable {p : Program} {l : Launch} {e : Env} {R : Room} {s : State} {m : MethodId} {args : Array Value} {below : List Frame} {meth : Method} {c : Code} {D : va_G} {A : Nat → Prop} {cc : ByteArray} {nL : Nat} {kc ks : Nat} {Q : State → Prop} {lv : List (Option Value)} {pc : Nat} {rest : List Value} {dA : Nat → ClassId} {h0 : Nat} {ad : Nat → Nat} {st : rt_S}
theorem rx_g_entered (F : rw_F p s m args meth c D A (rx_t dA) cc nL RX0) (hd : decode cc pc = .ok (.getfield 7, 3)) (kk : rw_W p l e R s m args below meth c D A nL kc ks Q (rx_w dA h0 ad st) lv (pc + 3) (.ref (ad 0) :: rest)) : rw_W p l e R s m args below meth c D A nL kc ks Q (rx_w dA h0 ad st) lv pc (.ref h0 :: rest) := fun H locs ls hP hD hS hl => va_get (D := D) (ci := 0) (v := .ref (ad 0)) (C := RX0) (T := TX0) (N := 14) F.1 F.2.1 F.2.2.2.2.1 in_X0 F.2.2.2.1 F.2.2.2.2.2.1 hP 0 rfl rfl 0 (by decide) (F.2.2.2.2.1 _ q30) (fun _ h9 => h9) rfl hd (kk H locs ls hP hD hS hl)
theorem rx_l_entered {i : Int32} {j : Nat} (F : rw_F p s m args meth c D A (rx_t dA) cc nL RX0) (hi : i = nI j) (hj : j < 18) (hd : decode cc pc = .ok (.iaload, 1)) (kk : rw_W p l e R s m args below meth c D A nL kc ks Q (rx_w dA h0 ad st) lv (pc + 1) (.int (st 0 j) :: rest)) : rw_W p l e R s m args below meth c D A nL kc ks Q (rx_w dA h0 ad st) lv pc (.int i :: .ref (ad 0) :: rest) := by
  subst hi
  exact fun H locs ls hP hD hS hl => va_iald F.1 F.2.1 F.2.2.2.2.2.1 hP 1 0 rfl rfl (vp_in_nI hj (by decide)) hd (by rw [nI_clamp (by omega)]; exact kk H locs ls hP hD hS hl)
theorem rx_s_entered {i : Int32} {j : Nat} {x : Int32} (F : rw_F p s m args meth c D A (rx_t dA) cc nL RX0) (hi : i = nI j) (hj : j < 18)  (hd : decode cc pc = .ok (.iastore, 1)) (kk : rw_W p l e R s m args below meth c D A nL kc ks Q (rx_w dA h0 ad (rt_u st 0 j (x))) lv (pc + 1) rest) : rw_W p l e R s m args below meth c D A nL kc ks Q (rx_w dA h0 ad st) lv pc (.int x :: .int i :: .ref (ad 0) :: rest) := by
  subst hi
  exact fun H locs ls hP hD hS hl => va_iast F.1 F.2.1 F.2.2.2.2.2.1 hP hD hS 1 0 rfl rfl (vp_in_nI hj (by decide)) hd (fun H1 locs1 hP1 hD1 hS1 => by rw [nI_clamp (by omega)] at hP1 hD1; exact kk H1 locs1 ls hP1 hD1 hS1 hl)
theorem rx_g_nested (F : rw_F p s m args meth c D A (rx_t dA) cc nL RX0) (hd : decode cc pc = .ok (.getfield 13, 3)) (kk : rw_W p l e R s m args below meth c D A nL kc ks Q (rx_w dA h0 ad st) lv (pc + 3) (.ref (ad 1) :: rest)) : rw_W p l e R s m args below meth c D A nL kc ks Q (rx_w dA h0 ad st) lv pc (.ref h0 :: rest) := fun H locs ls hP hD hS hl => va_get (D := D) (ci := 0) (v := .ref (ad 1)) (C := RX0) (T := TX0) (N := 14) F.1 F.2.1 F.2.2.2.2.1 in_X0 F.2.2.2.1 F.2.2.2.2.2.1 hP 0 rfl rfl 1 (by decide) (F.2.2.2.2.1 _ q31) (fun _ h9 => h9) rfl hd (kk H locs ls hP hD hS hl)
theorem rx_l_nested {i : Int32} {j : Nat} (F : rw_F p s m args meth c D A (rx_t dA) cc nL RX0) (hi : i = nI j) (hj : j < 18) (hd : decode cc pc = .ok (.iaload, 1)) (kk : rw_W p l e R s m args below meth c D A nL kc ks Q (rx_w dA h0 ad st) lv (pc + 1) (.int (st 1 j) :: rest)) : rw_W p l e R s m args below meth c D A nL kc ks Q (rx_w dA h0 ad st) lv pc (.int i :: .ref (ad 1) :: rest) := by
  subst hi
  exact fun H locs ls hP hD hS hl => va_iald F.1 F.2.1 F.2.2.2.2.2.1 hP 2 1 rfl rfl (vp_in_nI hj (by decide)) hd (by rw [nI_clamp (by omega)]; exact kk H locs ls hP hD hS hl)
theorem rx_s_nested {i : Int32} {j : Nat} {x : Int32} (F : rw_F p s m args meth c D A (rx_t dA) cc nL RX0) (hi : i = nI j) (hj : j < 18)  (hd : decode cc pc = .ok (.iastore, 1)) (kk : rw_W p l e R s m args below meth c D A nL kc ks Q (rx_w dA h0 ad (rt_u st 1 j (x))) lv (pc + 1) rest) : rw_W p l e R s m args below meth c D A nL kc ks Q (rx_w dA h0 ad st) lv pc (.int x :: .int i :: .ref (ad 1) :: rest) := by
  subst hi
  exact fun H locs ls hP hD hS hl => va_iast F.1 F.2.1 F.2.2.2.2.2.1 hP hD hS 2 1 rfl rfl (vp_in_nI hj (by decide)) hd (fun H1 locs1 hP1 hD1 hS1 => by rw [nI_clamp (by omega)] at hP1 hD1; exact kk H1 locs1 ls hP1 hD1 hS1 hl)
theorem rx_g_ruledBy (F : rw_F p s m args meth c D A (rx_t dA) cc nL RX0) (hd : decode cc pc = .ok (.getfield 16, 3)) (kk : rw_W p l e R s m args below meth c D A nL kc ks Q (rx_w dA h0 ad st) lv (pc + 3) (.ref (ad 2) :: rest)) : rw_W p l e R s m args below meth c D A nL kc ks Q (rx_w dA h0 ad st) lv pc (.ref h0 :: rest) := fun H locs ls hP hD hS hl => va_get (D := D) (ci := 0) (v := .ref (ad 2)) (C := RX0) (T := TX0) (N := 14) F.1 F.2.1 F.2.2.2.2.1 in_X0 F.2.2.2.1 F.2.2.2.2.2.1 hP 0 rfl rfl 2 (by decide) (F.2.2.2.2.1 _ q32) (fun _ h9 => h9) rfl hd (kk H locs ls hP hD hS hl)
theorem rx_l_ruledBy {i : Int32} {j : Nat} (F : rw_F p s m args meth c D A (rx_t dA) cc nL RX0) (hi : i = nI j) (hj : j < 3) (hd : decode cc pc = .ok (.iaload, 1)) (kk : rw_W p l e R s m args below meth c D A nL kc ks Q (rx_w dA h0 ad st) lv (pc + 1) (.int (st 2 j) :: rest)) : rw_W p l e R s m args below meth c D A nL kc ks Q (rx_w dA h0 ad st) lv pc (.int i :: .ref (ad 2) :: rest) := by
  subst hi
  exact fun H locs ls hP hD hS hl => va_iald F.1 F.2.1 F.2.2.2.2.2.1 hP 3 2 rfl rfl (vp_in_nI hj (by decide)) hd (by rw [nI_clamp (by omega)]; exact kk H locs ls hP hD hS hl)
theorem rx_s_ruledBy {i : Int32} {j : Nat} {x : Int32} (F : rw_F p s m args meth c D A (rx_t dA) cc nL RX0) (hi : i = nI j) (hj : j < 3)  (hd : decode cc pc = .ok (.iastore, 1)) (kk : rw_W p l e R s m args below meth c D A nL kc ks Q (rx_w dA h0 ad (rt_u st 2 j (x))) lv (pc + 1) rest) : rw_W p l e R s m args below meth c D A nL kc ks Q (rx_w dA h0 ad st) lv pc (.int x :: .int i :: .ref (ad 2) :: rest) := by
  subst hi
  exact fun H locs ls hP hD hS hl => va_iast F.1 F.2.1 F.2.2.2.2.2.1 hP hD hS 3 2 rfl rfl (vp_in_nI hj (by decide)) hd (fun H1 locs1 hP1 hD1 hS1 => by rw [nI_clamp (by omega)] at hP1 hD1; exact kk H1 locs1 ls hP1 hD1 hS1 hl)
theorem rx_g_loaded (F : rw_F p s m args meth c D A (rx_t dA) cc nL RX0) (hd : decode cc pc = .ok (.getfield 68, 3)) (kk : rw_W p l e R s m args below meth c D A nL kc ks Q (rx_w dA h0 ad st) lv (pc + 3) (.int (st 3 0) :: rest)) : rw_W p l e R s m args below meth c D A nL kc ks Q (rx_w dA h0 ad st) lv pc (.ref h0 :: rest) := fun H locs ls hP hD hS hl => va_get (D := D) (ci := 0) (v := .int (st 3 0)) (C := RX0) (T := TX0) (N := 14) F.1 F.2.1 F.2.2.2.2.1 in_X0 F.2.2.2.1 F.2.2.2.2.2.1 hP 0 rfl rfl 3 (by decide) (F.2.2.2.2.1 _ q33) (fun _ h9 => h9) rfl hd (kk H locs ls hP hD hS hl)
theorem rx_p_loaded {v : Int32} (F : rw_F p s m args meth c D A (rx_t dA) cc nL RX0) (hd : decode cc pc = .ok (.putfield 68, 3)) (kk : rw_W p l e R s m args below meth c D A nL kc ks Q (rx_w dA h0 ad (rt_u st 3 0 v)) lv (pc + 3) rest) : rw_W p l e R s m args below meth c D A nL kc ks Q (rx_w dA h0 ad st) lv pc (.int v :: .ref h0 :: rest) := fun H locs ls hP hD hS hl => va_put (D := D) (ci := 0) (v := .int v) (ty := .int) (C := RX0) (T := TX0) (N := 14) F.1 F.2.1 F.2.2.2.2.1 in_X0 tyX0 tyX0_ok nmX0 F.2.2.2.1 F.2.2.2.2.2.1 hP hD hS 0 rfl rfl 3 (by decide) (F.2.2.2.2.1 _ q33) (fun _ h9 => h9) rfl (by decide +kernel) rfl rfl (Nat.le_of_ble_eq_true rfl) hd (fun H1 locs1 hP1 hD1 hS1 => kk H1 locs1 ls hP1 hD1 hS1 hl)
theorem rx_g_latestState (F : rw_F p s m args meth c D A (rx_t dA) cc nL RX0) (hd : decode cc pc = .ok (.getfield 52, 3)) (kk : rw_W p l e R s m args below meth c D A nL kc ks Q (rx_w dA h0 ad st) lv (pc + 3) (.int (st 4 0) :: rest)) : rw_W p l e R s m args below meth c D A nL kc ks Q (rx_w dA h0 ad st) lv pc (.ref h0 :: rest) := fun H locs ls hP hD hS hl => va_get (D := D) (ci := 0) (v := .int (st 4 0)) (C := RX0) (T := TX0) (N := 14) F.1 F.2.1 F.2.2.2.2.1 in_X0 F.2.2.2.1 F.2.2.2.2.2.1 hP 0 rfl rfl 4 (by decide) (F.2.2.2.2.1 _ q34) (fun _ h9 => h9) rfl hd (kk H locs ls hP hD hS hl)
theorem rx_p_latestState {v : Int32} (F : rw_F p s m args meth c D A (rx_t dA) cc nL RX0) (hd : decode cc pc = .ok (.putfield 52, 3)) (kk : rw_W p l e R s m args below meth c D A nL kc ks Q (rx_w dA h0 ad (rt_u st 4 0 v)) lv (pc + 3) rest) : rw_W p l e R s m args below meth c D A nL kc ks Q (rx_w dA h0 ad st) lv pc (.int v :: .ref h0 :: rest) := fun H locs ls hP hD hS hl => va_put (D := D) (ci := 0) (v := .int v) (ty := .int) (C := RX0) (T := TX0) (N := 14) F.1 F.2.1 F.2.2.2.2.1 in_X0 tyX0 tyX0_ok nmX0 F.2.2.2.1 F.2.2.2.2.2.1 hP hD hS 0 rfl rfl 4 (by decide) (F.2.2.2.2.1 _ q34) (fun _ h9 => h9) rfl (by decide +kernel) rfl rfl (Nat.le_of_ble_eq_true rfl) hd (fun H1 locs1 hP1 hD1 hS1 => kk H1 locs1 ls hP1 hD1 hS1 hl)
theorem rx_g_sortOf (F : rw_F p s m args meth c D A (rx_t dA) cc nL RX0) (hd : decode cc pc = .ok (.getfield 19, 3)) (kk : rw_W p l e R s m args below meth c D A nL kc ks Q (rx_w dA h0 ad st) lv (pc + 3) (.ref (ad 5) :: rest)) : rw_W p l e R s m args below meth c D A nL kc ks Q (rx_w dA h0 ad st) lv pc (.ref h0 :: rest) := fun H locs ls hP hD hS hl => va_get (D := D) (ci := 0) (v := .ref (ad 5)) (C := RX0) (T := TX0) (N := 14) F.1 F.2.1 F.2.2.2.2.1 in_X0 F.2.2.2.1 F.2.2.2.2.2.1 hP 0 rfl rfl 5 (by decide) (F.2.2.2.2.1 _ q35) (fun _ h9 => h9) rfl hd (kk H locs ls hP hD hS hl)
theorem rx_l_sortOf {i : Int32} {j : Nat} (F : rw_F p s m args meth c D A (rx_t dA) cc nL RX0) (hi : i = nI j) (hj : j < 8) (hd : decode cc pc = .ok (.baload, 1)) (kk : rw_W p l e R s m args below meth c D A nL kc ks Q (rx_w dA h0 ad st) lv (pc + 1) (.int (st 5 j) :: rest)) : rw_W p l e R s m args below meth c D A nL kc ks Q (rx_w dA h0 ad st) lv pc (.int i :: .ref (ad 5) :: rest) := by
  subst hi
  exact fun H locs ls hP hD hS hl => va_bald F.1 F.2.1 F.2.2.2.2.2.1 hP 4 3 rfl rfl (vp_in_nI hj (by decide)) hd (by rw [nI_clamp (by omega)]; exact kk H locs ls hP hD hS hl)
theorem rx_s_sortOf {i : Int32} {j : Nat} {x : Int32} {k : Nat} (F : rw_F p s m args meth c D A (rx_t dA) cc nL RX0) (hi : i = nI j) (hj : j < 8) (hx : x = nI k) (hk : k < 128) (hd : decode cc pc = .ok (.bastore, 1)) (kk : rw_W p l e R s m args below meth c D A nL kc ks Q (rx_w dA h0 ad (rt_u st 5 j (nI k))) lv (pc + 1) rest) : rw_W p l e R s m args below meth c D A nL kc ks Q (rx_w dA h0 ad st) lv pc (.int x :: .int i :: .ref (ad 5) :: rest) := by
  subst hi
  subst hx
  exact fun H locs ls hP hD hS hl => va_bast F.1 F.2.1 F.2.2.2.2.2.1 hP hD hS 4 3 rfl rfl (vp_in_nI hj (by decide)) hd (fun H1 locs1 hP1 hD1 hS1 => by rw [nI_clamp (by omega), rt_narB k hk] at hP1 hD1; exact kk H1 locs1 ls hP1 hD1 hS1 hl)
theorem rx_g_partOf (F : rw_F p s m args meth c D A (rx_t dA) cc nL RX0) (hd : decode cc pc = .ok (.getfield 23, 3)) (kk : rw_W p l e R s m args below meth c D A nL kc ks Q (rx_w dA h0 ad st) lv (pc + 3) (.ref (ad 6) :: rest)) : rw_W p l e R s m args below meth c D A nL kc ks Q (rx_w dA h0 ad st) lv pc (.ref h0 :: rest) := fun H locs ls hP hD hS hl => va_get (D := D) (ci := 0) (v := .ref (ad 6)) (C := RX0) (T := TX0) (N := 14) F.1 F.2.1 F.2.2.2.2.1 in_X0 F.2.2.2.1 F.2.2.2.2.2.1 hP 0 rfl rfl 6 (by decide) (F.2.2.2.2.1 _ q36) (fun _ h9 => h9) rfl hd (kk H locs ls hP hD hS hl)
theorem rx_l_partOf {i : Int32} {j : Nat} (F : rw_F p s m args meth c D A (rx_t dA) cc nL RX0) (hi : i = nI j) (hj : j < 8) (hd : decode cc pc = .ok (.baload, 1)) (kk : rw_W p l e R s m args below meth c D A nL kc ks Q (rx_w dA h0 ad st) lv (pc + 1) (.int (st 6 j) :: rest)) : rw_W p l e R s m args below meth c D A nL kc ks Q (rx_w dA h0 ad st) lv pc (.int i :: .ref (ad 6) :: rest) := by
  subst hi
  exact fun H locs ls hP hD hS hl => va_bald F.1 F.2.1 F.2.2.2.2.2.1 hP 5 4 rfl rfl (vp_in_nI hj (by decide)) hd (by rw [nI_clamp (by omega)]; exact kk H locs ls hP hD hS hl)
theorem rx_s_partOf {i : Int32} {j : Nat} {x : Int32} {k : Nat} (F : rw_F p s m args meth c D A (rx_t dA) cc nL RX0) (hi : i = nI j) (hj : j < 8) (hx : x = nI k) (hk : k < 128) (hd : decode cc pc = .ok (.bastore, 1)) (kk : rw_W p l e R s m args below meth c D A nL kc ks Q (rx_w dA h0 ad (rt_u st 6 j (nI k))) lv (pc + 1) rest) : rw_W p l e R s m args below meth c D A nL kc ks Q (rx_w dA h0 ad st) lv pc (.int x :: .int i :: .ref (ad 6) :: rest) := by
  subst hi
  subst hx
  exact fun H locs ls hP hD hS hl => va_bast F.1 F.2.1 F.2.2.2.2.2.1 hP hD hS 5 4 rfl rfl (vp_in_nI hj (by decide)) hd (fun H1 locs1 hP1 hD1 hS1 => by rw [nI_clamp (by omega), rt_narB k hk] at hP1 hD1; exact kk H1 locs1 ls hP1 hD1 hS1 hl)
theorem rx_g_placeOf (F : rw_F p s m args meth c D A (rx_t dA) cc nL RX0) (hd : decode cc pc = .ok (.getfield 26, 3)) (kk : rw_W p l e R s m args below meth c D A nL kc ks Q (rx_w dA h0 ad st) lv (pc + 3) (.ref (ad 7) :: rest)) : rw_W p l e R s m args below meth c D A nL kc ks Q (rx_w dA h0 ad st) lv pc (.ref h0 :: rest) := fun H locs ls hP hD hS hl => va_get (D := D) (ci := 0) (v := .ref (ad 7)) (C := RX0) (T := TX0) (N := 14) F.1 F.2.1 F.2.2.2.2.1 in_X0 F.2.2.2.1 F.2.2.2.2.2.1 hP 0 rfl rfl 7 (by decide) (F.2.2.2.2.1 _ q37) (fun _ h9 => h9) rfl hd (kk H locs ls hP hD hS hl)
theorem rx_l_placeOf {i : Int32} {j : Nat} (F : rw_F p s m args meth c D A (rx_t dA) cc nL RX0) (hi : i = nI j) (hj : j < 8) (hd : decode cc pc = .ok (.baload, 1)) (kk : rw_W p l e R s m args below meth c D A nL kc ks Q (rx_w dA h0 ad st) lv (pc + 1) (.int (st 7 j) :: rest)) : rw_W p l e R s m args below meth c D A nL kc ks Q (rx_w dA h0 ad st) lv pc (.int i :: .ref (ad 7) :: rest) := by
  subst hi
  exact fun H locs ls hP hD hS hl => va_bald F.1 F.2.1 F.2.2.2.2.2.1 hP 6 5 rfl rfl (vp_in_nI hj (by decide)) hd (by rw [nI_clamp (by omega)]; exact kk H locs ls hP hD hS hl)
theorem rx_s_placeOf {i : Int32} {j : Nat} {x : Int32} {k : Nat} (F : rw_F p s m args meth c D A (rx_t dA) cc nL RX0) (hi : i = nI j) (hj : j < 8) (hx : x = nI k) (hk : k < 128) (hd : decode cc pc = .ok (.bastore, 1)) (kk : rw_W p l e R s m args below meth c D A nL kc ks Q (rx_w dA h0 ad (rt_u st 7 j (nI k))) lv (pc + 1) rest) : rw_W p l e R s m args below meth c D A nL kc ks Q (rx_w dA h0 ad st) lv pc (.int x :: .int i :: .ref (ad 7) :: rest) := by
  subst hi
  subst hx
  exact fun H locs ls hP hD hS hl => va_bast F.1 F.2.1 F.2.2.2.2.2.1 hP hD hS 6 5 rfl rfl (vp_in_nI hj (by decide)) hd (fun H1 locs1 hP1 hD1 hS1 => by rw [nI_clamp (by omega), rt_narB k hk] at hP1 hD1; exact kk H1 locs1 ls hP1 hD1 hS1 hl)
theorem rx_g_beforeOf (F : rw_F p s m args meth c D A (rx_t dA) cc nL RX0) (hd : decode cc pc = .ok (.getfield 29, 3)) (kk : rw_W p l e R s m args below meth c D A nL kc ks Q (rx_w dA h0 ad st) lv (pc + 3) (.ref (ad 8) :: rest)) : rw_W p l e R s m args below meth c D A nL kc ks Q (rx_w dA h0 ad st) lv pc (.ref h0 :: rest) := fun H locs ls hP hD hS hl => va_get (D := D) (ci := 0) (v := .ref (ad 8)) (C := RX0) (T := TX0) (N := 14) F.1 F.2.1 F.2.2.2.2.1 in_X0 F.2.2.2.1 F.2.2.2.2.2.1 hP 0 rfl rfl 8 (by decide) (F.2.2.2.2.1 _ q38) (fun _ h9 => h9) rfl hd (kk H locs ls hP hD hS hl)
theorem rx_l_beforeOf {i : Int32} {j : Nat} (F : rw_F p s m args meth c D A (rx_t dA) cc nL RX0) (hi : i = nI j) (hj : j < 8) (hd : decode cc pc = .ok (.baload, 1)) (kk : rw_W p l e R s m args below meth c D A nL kc ks Q (rx_w dA h0 ad st) lv (pc + 1) (.int (st 8 j) :: rest)) : rw_W p l e R s m args below meth c D A nL kc ks Q (rx_w dA h0 ad st) lv pc (.int i :: .ref (ad 8) :: rest) := by
  subst hi
  exact fun H locs ls hP hD hS hl => va_zald F.1 F.2.1 F.2.2.2.2.2.1 hP 7 6 rfl rfl (vp_in_nI hj (by decide)) hd (by rw [nI_clamp (by omega)]; exact kk H locs ls hP hD hS hl)
theorem rx_s_beforeOf {i : Int32} {j : Nat} {x : Int32} {b : Bool} (F : rw_F p s m args meth c D A (rx_t dA) cc nL RX0) (hi : i = nI j) (hj : j < 8) (hx : x = rt_b b) (hd : decode cc pc = .ok (.bastore, 1)) (kk : rw_W p l e R s m args below meth c D A nL kc ks Q (rx_w dA h0 ad (rt_u st 8 j (rt_b b))) lv (pc + 1) rest) : rw_W p l e R s m args below meth c D A nL kc ks Q (rx_w dA h0 ad st) lv pc (.int x :: .int i :: .ref (ad 8) :: rest) := by
  subst hi
  subst hx
  exact fun H locs ls hP hD hS hl => va_zast F.1 F.2.1 F.2.2.2.2.2.1 hP hD hS 7 6 rfl rfl (vp_in_nI hj (by decide)) hd (fun H1 locs1 hP1 hD1 hS1 => by rw [nI_clamp (by omega), rt_narZ b] at hP1 hD1; exact kk H1 locs1 ls hP1 hD1 hS1 hl)
theorem rx_g_afterOf (F : rw_F p s m args meth c D A (rx_t dA) cc nL RX0) (hd : decode cc pc = .ok (.getfield 33, 3)) (kk : rw_W p l e R s m args below meth c D A nL kc ks Q (rx_w dA h0 ad st) lv (pc + 3) (.ref (ad 9) :: rest)) : rw_W p l e R s m args below meth c D A nL kc ks Q (rx_w dA h0 ad st) lv pc (.ref h0 :: rest) := fun H locs ls hP hD hS hl => va_get (D := D) (ci := 0) (v := .ref (ad 9)) (C := RX0) (T := TX0) (N := 14) F.1 F.2.1 F.2.2.2.2.1 in_X0 F.2.2.2.1 F.2.2.2.2.2.1 hP 0 rfl rfl 9 (by decide) (F.2.2.2.2.1 _ q39) (fun _ h9 => h9) rfl hd (kk H locs ls hP hD hS hl)
theorem rx_l_afterOf {i : Int32} {j : Nat} (F : rw_F p s m args meth c D A (rx_t dA) cc nL RX0) (hi : i = nI j) (hj : j < 8) (hd : decode cc pc = .ok (.baload, 1)) (kk : rw_W p l e R s m args below meth c D A nL kc ks Q (rx_w dA h0 ad st) lv (pc + 1) (.int (st 9 j) :: rest)) : rw_W p l e R s m args below meth c D A nL kc ks Q (rx_w dA h0 ad st) lv pc (.int i :: .ref (ad 9) :: rest) := by
  subst hi
  exact fun H locs ls hP hD hS hl => va_zald F.1 F.2.1 F.2.2.2.2.2.1 hP 8 7 rfl rfl (vp_in_nI hj (by decide)) hd (by rw [nI_clamp (by omega)]; exact kk H locs ls hP hD hS hl)
theorem rx_s_afterOf {i : Int32} {j : Nat} {x : Int32} {b : Bool} (F : rw_F p s m args meth c D A (rx_t dA) cc nL RX0) (hi : i = nI j) (hj : j < 8) (hx : x = rt_b b) (hd : decode cc pc = .ok (.bastore, 1)) (kk : rw_W p l e R s m args below meth c D A nL kc ks Q (rx_w dA h0 ad (rt_u st 9 j (rt_b b))) lv (pc + 1) rest) : rw_W p l e R s m args below meth c D A nL kc ks Q (rx_w dA h0 ad st) lv pc (.int x :: .int i :: .ref (ad 9) :: rest) := by
  subst hi
  subst hx
  exact fun H locs ls hP hD hS hl => va_zast F.1 F.2.1 F.2.2.2.2.2.1 hP hD hS 8 7 rfl rfl (vp_in_nI hj (by decide)) hd (fun H1 locs1 hP1 hD1 hS1 => by rw [nI_clamp (by omega), rt_narZ b] at hP1 hD1; exact kk H1 locs1 ls hP1 hD1 hS1 hl)
theorem rx_g_sourcesOf (F : rw_F p s m args meth c D A (rx_t dA) cc nL RX0) (hd : decode cc pc = .ok (.getfield 36, 3)) (kk : rw_W p l e R s m args below meth c D A nL kc ks Q (rx_w dA h0 ad st) lv (pc + 3) (.ref (ad 10) :: rest)) : rw_W p l e R s m args below meth c D A nL kc ks Q (rx_w dA h0 ad st) lv pc (.ref h0 :: rest) := fun H locs ls hP hD hS hl => va_get (D := D) (ci := 0) (v := .ref (ad 10)) (C := RX0) (T := TX0) (N := 14) F.1 F.2.1 F.2.2.2.2.1 in_X0 F.2.2.2.1 F.2.2.2.2.2.1 hP 0 rfl rfl 10 (by decide) (F.2.2.2.2.1 _ q40) (fun _ h9 => h9) rfl hd (kk H locs ls hP hD hS hl)
theorem rx_l_sourcesOf {i : Int32} {j : Nat} (F : rw_F p s m args meth c D A (rx_t dA) cc nL RX0) (hi : i = nI j) (hj : j < 18) (hd : decode cc pc = .ok (.iaload, 1)) (kk : rw_W p l e R s m args below meth c D A nL kc ks Q (rx_w dA h0 ad st) lv (pc + 1) (.int (st 10 j) :: rest)) : rw_W p l e R s m args below meth c D A nL kc ks Q (rx_w dA h0 ad st) lv pc (.int i :: .ref (ad 10) :: rest) := by
  subst hi
  exact fun H locs ls hP hD hS hl => va_iald F.1 F.2.1 F.2.2.2.2.2.1 hP 9 8 rfl rfl (vp_in_nI hj (by decide)) hd (by rw [nI_clamp (by omega)]; exact kk H locs ls hP hD hS hl)
theorem rx_s_sourcesOf {i : Int32} {j : Nat} {x : Int32} (F : rw_F p s m args meth c D A (rx_t dA) cc nL RX0) (hi : i = nI j) (hj : j < 18)  (hd : decode cc pc = .ok (.iastore, 1)) (kk : rw_W p l e R s m args below meth c D A nL kc ks Q (rx_w dA h0 ad (rt_u st 10 j (x))) lv (pc + 1) rest) : rw_W p l e R s m args below meth c D A nL kc ks Q (rx_w dA h0 ad st) lv pc (.int x :: .int i :: .ref (ad 10) :: rest) := by
  subst hi
  exact fun H locs ls hP hD hS hl => va_iast F.1 F.2.1 F.2.2.2.2.2.1 hP hD hS 9 8 rfl rfl (vp_in_nI hj (by decide)) hd (fun H1 locs1 hP1 hD1 hS1 => by rw [nI_clamp (by omega)] at hP1 hD1; exact kk H1 locs1 ls hP1 hD1 hS1 hl)
theorem rx_g_waiting (F : rw_F p s m args meth c D A (rx_t dA) cc nL RX0) (hd : decode cc pc = .ok (.getfield 85, 3)) (kk : rw_W p l e R s m args below meth c D A nL kc ks Q (rx_w dA h0 ad st) lv (pc + 3) (.int (st 11 0) :: rest)) : rw_W p l e R s m args below meth c D A nL kc ks Q (rx_w dA h0 ad st) lv pc (.ref h0 :: rest) := fun H locs ls hP hD hS hl => va_get (D := D) (ci := 0) (v := .int (st 11 0)) (C := RX0) (T := TX0) (N := 14) F.1 F.2.1 F.2.2.2.2.1 in_X0 F.2.2.2.1 F.2.2.2.2.2.1 hP 0 rfl rfl 11 (by decide) (F.2.2.2.2.1 _ q41) (fun _ h9 => h9) rfl hd (kk H locs ls hP hD hS hl)
theorem rx_p_waiting {v : Int32} (F : rw_F p s m args meth c D A (rx_t dA) cc nL RX0) (hd : decode cc pc = .ok (.putfield 85, 3)) (kk : rw_W p l e R s m args below meth c D A nL kc ks Q (rx_w dA h0 ad (rt_u st 11 0 v)) lv (pc + 3) rest) : rw_W p l e R s m args below meth c D A nL kc ks Q (rx_w dA h0 ad st) lv pc (.int v :: .ref h0 :: rest) := fun H locs ls hP hD hS hl => va_put (D := D) (ci := 0) (v := .int v) (ty := .int) (C := RX0) (T := TX0) (N := 14) F.1 F.2.1 F.2.2.2.2.1 in_X0 tyX0 tyX0_ok nmX0 F.2.2.2.1 F.2.2.2.2.2.1 hP hD hS 0 rfl rfl 11 (by decide) (F.2.2.2.2.1 _ q41) (fun _ h9 => h9) rfl (by decide +kernel) rfl rfl (Nat.le_of_ble_eq_true rfl) hd (fun H1 locs1 hP1 hD1 hS1 => kk H1 locs1 ls hP1 hD1 hS1 hl)
theorem rx_g_waitGroup (F : rw_F p s m args meth c D A (rx_t dA) cc nL RX0) (hd : decode cc pc = .ok (.getfield 39, 3)) (kk : rw_W p l e R s m args below meth c D A nL kc ks Q (rx_w dA h0 ad st) lv (pc + 3) (.ref (ad 12) :: rest)) : rw_W p l e R s m args below meth c D A nL kc ks Q (rx_w dA h0 ad st) lv pc (.ref h0 :: rest) := fun H locs ls hP hD hS hl => va_get (D := D) (ci := 0) (v := .ref (ad 12)) (C := RX0) (T := TX0) (N := 14) F.1 F.2.1 F.2.2.2.2.1 in_X0 F.2.2.2.1 F.2.2.2.2.2.1 hP 0 rfl rfl 12 (by decide) (F.2.2.2.2.1 _ q42) (fun _ h9 => h9) rfl hd (kk H locs ls hP hD hS hl)
theorem rx_l_waitGroup {i : Int32} {j : Nat} (F : rw_F p s m args meth c D A (rx_t dA) cc nL RX0) (hi : i = nI j) (hj : j < 18) (hd : decode cc pc = .ok (.baload, 1)) (kk : rw_W p l e R s m args below meth c D A nL kc ks Q (rx_w dA h0 ad st) lv (pc + 1) (.int (st 12 j) :: rest)) : rw_W p l e R s m args below meth c D A nL kc ks Q (rx_w dA h0 ad st) lv pc (.int i :: .ref (ad 12) :: rest) := by
  subst hi
  exact fun H locs ls hP hD hS hl => va_bald F.1 F.2.1 F.2.2.2.2.2.1 hP 10 9 rfl rfl (vp_in_nI hj (by decide)) hd (by rw [nI_clamp (by omega)]; exact kk H locs ls hP hD hS hl)
theorem rx_s_waitGroup {i : Int32} {j : Nat} {x : Int32} {k : Nat} (F : rw_F p s m args meth c D A (rx_t dA) cc nL RX0) (hi : i = nI j) (hj : j < 18) (hx : x = nI k) (hk : k < 128) (hd : decode cc pc = .ok (.bastore, 1)) (kk : rw_W p l e R s m args below meth c D A nL kc ks Q (rx_w dA h0 ad (rt_u st 12 j (nI k))) lv (pc + 1) rest) : rw_W p l e R s m args below meth c D A nL kc ks Q (rx_w dA h0 ad st) lv pc (.int x :: .int i :: .ref (ad 12) :: rest) := by
  subst hi
  subst hx
  exact fun H locs ls hP hD hS hl => va_bast F.1 F.2.1 F.2.2.2.2.2.1 hP hD hS 10 9 rfl rfl (vp_in_nI hj (by decide)) hd (fun H1 locs1 hP1 hD1 hS1 => by rw [nI_clamp (by omega), rt_narB k hk] at hP1 hD1; exact kk H1 locs1 ls hP1 hD1 hS1 hl)
theorem rx_g_compared (F : rw_F p s m args meth c D A (rx_t dA) cc nL RX0) (hd : decode cc pc = .ok (.getfield 42, 3)) (kk : rw_W p l e R s m args below meth c D A nL kc ks Q (rx_w dA h0 ad st) lv (pc + 3) (.ref (ad 13) :: rest)) : rw_W p l e R s m args below meth c D A nL kc ks Q (rx_w dA h0 ad st) lv pc (.ref h0 :: rest) := fun H locs ls hP hD hS hl => va_get (D := D) (ci := 0) (v := .ref (ad 13)) (C := RX0) (T := TX0) (N := 14) F.1 F.2.1 F.2.2.2.2.1 in_X0 F.2.2.2.1 F.2.2.2.2.2.1 hP 0 rfl rfl 13 (by decide) (F.2.2.2.2.1 _ q43) (fun _ h9 => h9) rfl hd (kk H locs ls hP hD hS hl)
theorem rx_l_compared {i : Int32} {j : Nat} (F : rw_F p s m args meth c D A (rx_t dA) cc nL RX0) (hi : i = nI j) (hj : j < 18) (hd : decode cc pc = .ok (.iaload, 1)) (kk : rw_W p l e R s m args below meth c D A nL kc ks Q (rx_w dA h0 ad st) lv (pc + 1) (.int (st 13 j) :: rest)) : rw_W p l e R s m args below meth c D A nL kc ks Q (rx_w dA h0 ad st) lv pc (.int i :: .ref (ad 13) :: rest) := by
  subst hi
  exact fun H locs ls hP hD hS hl => va_iald F.1 F.2.1 F.2.2.2.2.2.1 hP 11 10 rfl rfl (vp_in_nI hj (by decide)) hd (by rw [nI_clamp (by omega)]; exact kk H locs ls hP hD hS hl)
theorem rx_s_compared {i : Int32} {j : Nat} {x : Int32} (F : rw_F p s m args meth c D A (rx_t dA) cc nL RX0) (hi : i = nI j) (hj : j < 18)  (hd : decode cc pc = .ok (.iastore, 1)) (kk : rw_W p l e R s m args below meth c D A nL kc ks Q (rx_w dA h0 ad (rt_u st 13 j (x))) lv (pc + 1) rest) : rw_W p l e R s m args below meth c D A nL kc ks Q (rx_w dA h0 ad st) lv pc (.int x :: .int i :: .ref (ad 13) :: rest) := by
  subst hi
  exact fun H locs ls hP hD hS hl => va_iast F.1 F.2.1 F.2.2.2.2.2.1 hP hD hS 11 10 rfl rfl (vp_in_nI hj (by decide)) hd (fun H1 locs1 hP1 hD1 hS1 => by rw [nI_clamp (by omega)] at hP1 hD1; exact kk H1 locs1 ls hP1 hD1 hS1 hl)
theorem ry_g_latest (F : rw_F p s m args meth c D A (ry_t dA) cc nL RX1) (hd : decode cc pc = .ok (.getfield 7, 3)) (kk : rw_W p l e R s m args below meth c D A nL kc ks Q (ry_w dA h0 ad st) lv (pc + 3) (.int (st 0 0) :: rest)) : rw_W p l e R s m args below meth c D A nL kc ks Q (ry_w dA h0 ad st) lv pc (.ref h0 :: rest) := fun H locs ls hP hD hS hl => va_get (D := D) (ci := 1) (v := .int (st 0 0)) (C := RX1) (T := TX1) (N := 5) F.1 F.2.1 F.2.2.2.2.1 in_X1 F.2.2.2.1 F.2.2.2.2.2.1 hP 0 rfl rfl 0 (by decide) (F.2.2.2.2.1 _ q164) (fun _ h9 => h9) rfl hd (kk H locs ls hP hD hS hl)
theorem ry_p_latest {v : Int32} (F : rw_F p s m args meth c D A (ry_t dA) cc nL RX1) (hd : decode cc pc = .ok (.putfield 7, 3)) (kk : rw_W p l e R s m args below meth c D A nL kc ks Q (ry_w dA h0 ad (rt_u st 0 0 v)) lv (pc + 3) rest) : rw_W p l e R s m args below meth c D A nL kc ks Q (ry_w dA h0 ad st) lv pc (.int v :: .ref h0 :: rest) := fun H locs ls hP hD hS hl => va_put (D := D) (ci := 1) (v := .int v) (ty := .int) (C := RX1) (T := TX1) (N := 5) F.1 F.2.1 F.2.2.2.2.1 in_X1 tyX1 tyX1_ok nmX1 F.2.2.2.1 F.2.2.2.2.2.1 hP hD hS 0 rfl rfl 0 (by decide) (F.2.2.2.2.1 _ q164) (fun _ h9 => h9) rfl (by decide +kernel) rfl rfl (Nat.le_of_ble_eq_true rfl) hd (fun H1 locs1 hP1 hD1 hS1 => kk H1 locs1 ls hP1 hD1 hS1 hl)
theorem ry_g_entered (F : rw_F p s m args meth c D A (ry_t dA) cc nL RX1) (hd : decode cc pc = .ok (.getfield 13, 3)) (kk : rw_W p l e R s m args below meth c D A nL kc ks Q (ry_w dA h0 ad st) lv (pc + 3) (.ref (ad 1) :: rest)) : rw_W p l e R s m args below meth c D A nL kc ks Q (ry_w dA h0 ad st) lv pc (.ref h0 :: rest) := fun H locs ls hP hD hS hl => va_get (D := D) (ci := 1) (v := .ref (ad 1)) (C := RX1) (T := TX1) (N := 5) F.1 F.2.1 F.2.2.2.2.1 in_X1 F.2.2.2.1 F.2.2.2.2.2.1 hP 0 rfl rfl 1 (by decide) (F.2.2.2.2.1 _ q165) (fun _ h9 => h9) rfl hd (kk H locs ls hP hD hS hl)
theorem ry_l_entered {i : Int32} {j : Nat} (F : rw_F p s m args meth c D A (ry_t dA) cc nL RX1) (hi : i = nI j) (hj : j < 144) (hd : decode cc pc = .ok (.iaload, 1)) (kk : rw_W p l e R s m args below meth c D A nL kc ks Q (ry_w dA h0 ad st) lv (pc + 1) (.int (st 1 j) :: rest)) : rw_W p l e R s m args below meth c D A nL kc ks Q (ry_w dA h0 ad st) lv pc (.int i :: .ref (ad 1) :: rest) := by
  subst hi
  exact fun H locs ls hP hD hS hl => va_iald F.1 F.2.1 F.2.2.2.2.2.1 hP 1 0 rfl rfl (vp_in_nI hj (by decide)) hd (by rw [nI_clamp (by omega)]; exact kk H locs ls hP hD hS hl)
theorem ry_s_entered {i : Int32} {j : Nat} {x : Int32} (F : rw_F p s m args meth c D A (ry_t dA) cc nL RX1) (hi : i = nI j) (hj : j < 144)  (hd : decode cc pc = .ok (.iastore, 1)) (kk : rw_W p l e R s m args below meth c D A nL kc ks Q (ry_w dA h0 ad (rt_u st 1 j (x))) lv (pc + 1) rest) : rw_W p l e R s m args below meth c D A nL kc ks Q (ry_w dA h0 ad st) lv pc (.int x :: .int i :: .ref (ad 1) :: rest) := by
  subst hi
  exact fun H locs ls hP hD hS hl => va_iast F.1 F.2.1 F.2.2.2.2.2.1 hP hD hS 1 0 rfl rfl (vp_in_nI hj (by decide)) hd (fun H1 locs1 hP1 hD1 hS1 => by rw [nI_clamp (by omega)] at hP1 hD1; exact kk H1 locs1 ls hP1 hD1 hS1 hl)
theorem ry_g_inner (F : rw_F p s m args meth c D A (ry_t dA) cc nL RX1) (hd : decode cc pc = .ok (.getfield 17, 3)) (kk : rw_W p l e R s m args below meth c D A nL kc ks Q (ry_w dA h0 ad st) lv (pc + 3) (.ref (ad 2) :: rest)) : rw_W p l e R s m args below meth c D A nL kc ks Q (ry_w dA h0 ad st) lv pc (.ref h0 :: rest) := fun H locs ls hP hD hS hl => va_get (D := D) (ci := 1) (v := .ref (ad 2)) (C := RX1) (T := TX1) (N := 5) F.1 F.2.1 F.2.2.2.2.1 in_X1 F.2.2.2.1 F.2.2.2.2.2.1 hP 0 rfl rfl 2 (by decide) (F.2.2.2.2.1 _ q166) (fun _ h9 => h9) rfl hd (kk H locs ls hP hD hS hl)
theorem ry_l_inner {i : Int32} {j : Nat} (F : rw_F p s m args meth c D A (ry_t dA) cc nL RX1) (hi : i = nI j) (hj : j < 144) (hd : decode cc pc = .ok (.iaload, 1)) (kk : rw_W p l e R s m args below meth c D A nL kc ks Q (ry_w dA h0 ad st) lv (pc + 1) (.int (st 2 j) :: rest)) : rw_W p l e R s m args below meth c D A nL kc ks Q (ry_w dA h0 ad st) lv pc (.int i :: .ref (ad 2) :: rest) := by
  subst hi
  exact fun H locs ls hP hD hS hl => va_iald F.1 F.2.1 F.2.2.2.2.2.1 hP 2 1 rfl rfl (vp_in_nI hj (by decide)) hd (by rw [nI_clamp (by omega)]; exact kk H locs ls hP hD hS hl)
theorem ry_s_inner {i : Int32} {j : Nat} {x : Int32} (F : rw_F p s m args meth c D A (ry_t dA) cc nL RX1) (hi : i = nI j) (hj : j < 144)  (hd : decode cc pc = .ok (.iastore, 1)) (kk : rw_W p l e R s m args below meth c D A nL kc ks Q (ry_w dA h0 ad (rt_u st 2 j (x))) lv (pc + 1) rest) : rw_W p l e R s m args below meth c D A nL kc ks Q (ry_w dA h0 ad st) lv pc (.int x :: .int i :: .ref (ad 2) :: rest) := by
  subst hi
  exact fun H locs ls hP hD hS hl => va_iast F.1 F.2.1 F.2.2.2.2.2.1 hP hD hS 2 1 rfl rfl (vp_in_nI hj (by decide)) hd (fun H1 locs1 hP1 hD1 hS1 => by rw [nI_clamp (by omega)] at hP1 hD1; exact kk H1 locs1 ls hP1 hD1 hS1 hl)
theorem ry_g_rules (F : rw_F p s m args meth c D A (ry_t dA) cc nL RX1) (hd : decode cc pc = .ok (.getfield 20, 3)) (kk : rw_W p l e R s m args below meth c D A nL kc ks Q (ry_w dA h0 ad st) lv (pc + 3) (.ref (ad 3) :: rest)) : rw_W p l e R s m args below meth c D A nL kc ks Q (ry_w dA h0 ad st) lv pc (.ref h0 :: rest) := fun H locs ls hP hD hS hl => va_get (D := D) (ci := 1) (v := .ref (ad 3)) (C := RX1) (T := TX1) (N := 5) F.1 F.2.1 F.2.2.2.2.1 in_X1 F.2.2.2.1 F.2.2.2.2.2.1 hP 0 rfl rfl 3 (by decide) (F.2.2.2.2.1 _ q167) (fun _ h9 => h9) rfl hd (kk H locs ls hP hD hS hl)
theorem ry_l_rules {i : Int32} {j : Nat} (F : rw_F p s m args meth c D A (ry_t dA) cc nL RX1) (hi : i = nI j) (hj : j < 8) (hd : decode cc pc = .ok (.iaload, 1)) (kk : rw_W p l e R s m args below meth c D A nL kc ks Q (ry_w dA h0 ad st) lv (pc + 1) (.int (st 3 j) :: rest)) : rw_W p l e R s m args below meth c D A nL kc ks Q (ry_w dA h0 ad st) lv pc (.int i :: .ref (ad 3) :: rest) := by
  subst hi
  exact fun H locs ls hP hD hS hl => va_iald F.1 F.2.1 F.2.2.2.2.2.1 hP 3 2 rfl rfl (vp_in_nI hj (by decide)) hd (by rw [nI_clamp (by omega)]; exact kk H locs ls hP hD hS hl)
theorem ry_s_rules {i : Int32} {j : Nat} {x : Int32} (F : rw_F p s m args meth c D A (ry_t dA) cc nL RX1) (hi : i = nI j) (hj : j < 8)  (hd : decode cc pc = .ok (.iastore, 1)) (kk : rw_W p l e R s m args below meth c D A nL kc ks Q (ry_w dA h0 ad (rt_u st 3 j (x))) lv (pc + 1) rest) : rw_W p l e R s m args below meth c D A nL kc ks Q (ry_w dA h0 ad st) lv pc (.int x :: .int i :: .ref (ad 3) :: rest) := by
  subst hi
  exact fun H locs ls hP hD hS hl => va_iast F.1 F.2.1 F.2.2.2.2.2.1 hP hD hS 3 2 rfl rfl (vp_in_nI hj (by decide)) hd (fun H1 locs1 hP1 hD1 hS1 => by rw [nI_clamp (by omega)] at hP1 hD1; exact kk H1 locs1 ls hP1 hD1 hS1 hl)
theorem ry_g_members (F : rw_F p s m args meth c D A (ry_t dA) cc nL RX1) (hd : decode cc pc = .ok (.getfield 23, 3)) (kk : rw_W p l e R s m args below meth c D A nL kc ks Q (ry_w dA h0 ad st) lv (pc + 3) (.ref (ad 4) :: rest)) : rw_W p l e R s m args below meth c D A nL kc ks Q (ry_w dA h0 ad st) lv pc (.ref h0 :: rest) := fun H locs ls hP hD hS hl => va_get (D := D) (ci := 1) (v := .ref (ad 4)) (C := RX1) (T := TX1) (N := 5) F.1 F.2.1 F.2.2.2.2.1 in_X1 F.2.2.2.1 F.2.2.2.2.2.1 hP 0 rfl rfl 4 (by decide) (F.2.2.2.2.1 _ q168) (fun _ h9 => h9) rfl hd (kk H locs ls hP hD hS hl)
theorem ry_l_members {i : Int32} {j : Nat} (F : rw_F p s m args meth c D A (ry_t dA) cc nL RX1) (hi : i = nI j) (hj : j < 18) (hd : decode cc pc = .ok (.iaload, 1)) (kk : rw_W p l e R s m args below meth c D A nL kc ks Q (ry_w dA h0 ad st) lv (pc + 1) (.int (st 4 j) :: rest)) : rw_W p l e R s m args below meth c D A nL kc ks Q (ry_w dA h0 ad st) lv pc (.int i :: .ref (ad 4) :: rest) := by
  subst hi
  exact fun H locs ls hP hD hS hl => va_iald F.1 F.2.1 F.2.2.2.2.2.1 hP 4 3 rfl rfl (vp_in_nI hj (by decide)) hd (by rw [nI_clamp (by omega)]; exact kk H locs ls hP hD hS hl)
theorem ry_s_members {i : Int32} {j : Nat} {x : Int32} (F : rw_F p s m args meth c D A (ry_t dA) cc nL RX1) (hi : i = nI j) (hj : j < 18)  (hd : decode cc pc = .ok (.iastore, 1)) (kk : rw_W p l e R s m args below meth c D A nL kc ks Q (ry_w dA h0 ad (rt_u st 4 j (x))) lv (pc + 1) rest) : rw_W p l e R s m args below meth c D A nL kc ks Q (ry_w dA h0 ad st) lv pc (.int x :: .int i :: .ref (ad 4) :: rest) := by
  subst hi
  exact fun H locs ls hP hD hS hl => va_iast F.1 F.2.1 F.2.2.2.2.2.1 hP hD hS 4 3 rfl rfl (vp_in_nI hj (by decide)) hd (fun H1 locs1 hP1 hD1 hS1 => by rw [nI_clamp (by omega)] at hP1 hD1; exact kk H1 locs1 ls hP1 hD1 hS1 hl)
end RF
end
section
/-! what the class' cells hold (rx_I), what the reference's hold (ry_I): the states since the start, hist 0 .. hist L, the last eight kept; and what each call must answer (sp_..) -/
def rx_A (S st : rt_S) : Prop := ∀ k g, (k < 2 ∧ g < 18) ∨ (k = 2 ∧ g < 3) → st k g = S k g
def rx_ok (so pa pl : Nat) : Prop := so < 3 ∧ pa < 18 ∧ pl < 18 ∧ (so = 2 → pl < 3 ∧ pa < 3)
def rx_R (S0 S1 st : rt_S) (q : Nat) : Prop := ∃ (so pa pl : Nat) (b a : Bool), rx_ok so pa pl ∧ st 5 q = nI so ∧ st 6 q = nI pa ∧ st 7 q = nI pl ∧ st 8 q = rt_b b ∧ st 9 q = rt_b a ∧ S1 = rt_ap S0 so pl pa a ∧ S0 = rt_ap S1 so pl pa b
def rx_J (hist : Nat → rt_S) (L Ld : Nat) (st : rt_S) : Prop := L < 1000 ∧ Ld ≤ L ∧ L < Ld + 8 ∧ st 4 0 = nI L ∧ rx_A (hist Ld) st ∧ (∀ k, k < L → L < k + 1 + 8 → rx_R (hist k) (hist (k + 1)) st ((k + 1) % 8)) ∧ (∀ k, k ≤ L → rt_wf (hist k)) ∧ ∀ g, g < 18 → rt_ca (hist Ld) g (st 10 g)
def rx_I (hist : Nat → rt_S) (L Ld : Nat) (st : rt_S) : Prop := rx_J hist L Ld st ∧ st 3 0 = nI Ld
def rx_E (hist : Nat → rt_S) (L : Nat) (st : rt_S) : Prop := ∃ Ld, rx_I hist L Ld st
/-- what make does -/
def rx_mk (st : rt_S) (so pa pl : Nat) (b : Bool) (u : rt_S) : Prop := (∀ k, k ≠ 10 → u k = rt_ap st so pl pa b k) ∧ ∀ g, g < 18 → u 10 g = if so = 0 then st 10 g else 0
theorem rx_mk_n {st u : rt_S} {so pa pl : Nat} {b : Bool} (h : rx_mk st so pa pl b u) (hso : so < 3) {k : Nat} (hk : 3 ≤ k) (hk10 : k ≠ 10) : u k = st k := by
  rw [h.1 k hk10]
  exact rt_u_n _ _ _ (by omega)
theorem rx_ok_in {so pa pl : Nat} (h : rx_ok so pa pl) : (so < 2 ∧ pl < 18) ∨ (so = 2 ∧ pl < 3) := by
  obtain ⟨h1, h2, h3, h4⟩ := h
  by_cases e : so = 2
  · exact Or.inr ⟨e, (h4 e).1⟩
  · exact Or.inl ⟨by omega, h3⟩
theorem rx_A_ap {S st u : rt_S} {so pa pl : Nat} {b : Bool} (hA : rx_A S st) (hok : rx_ok so pa pl) (hu : ∀ k, k < 3 → u k = rt_ap st so pl pa b k) : rx_A (rt_ap S so pl pa b) u := by
  intro k g hkg
  rw [hu k (by omega)]
  unfold rt_ap
  rw [rt_u_at, rt_u_at, hA so pl (rx_ok_in hok), hA k g hkg]
theorem rt_ca_ap0 {S : rt_S} {pl pa g : Nat} {b : Bool} {x : Int32} : rt_ca (rt_ap S 0 pl pa b) g x ↔ rt_ca S g x := by
  have e : rt_ed (rt_ap S 0 pl pa b) = rt_ed S := by
    funext a c
    unfold rt_ed rt_ap
    rw [rt_u_n _ _ _ (by decide), rt_u_n _ _ _ (by decide)]
  have e2 : rt_rc (rt_ap S 0 pl pa b) = rt_rc S := by
    funext h g
    unfold rt_rc
    rw [e]
  have e3 : ∀ h g, rt_rb (rt_ap S 0 pl pa b) h g = rt_rb S h g := fun h g => rt_b_eq (fun q => rt_rb_iff.mpr (by rw [← e2]; exact rt_rb_iff.mp q)) (fun q => rt_rb_iff.mpr (by rw [e2]; exact rt_rb_iff.mp q))
  unfold rt_ca
  simp only [e3]
theorem rx_J_mv {hist : Nat → rt_S} {L Ld Ld2 : Nat} {st u : rt_S} {so pa pl : Nat} {b : Bool} (h : rx_J hist L Ld st) (h1 : Ld2 ≤ L) (h2 : L < Ld2 + 8) (hok : rx_ok so pa pl) (hmk : rx_mk st so pa pl b u) (hS : hist Ld2 = rt_ap (hist Ld) so pl pa b) : rx_J hist L Ld2 u := by
  obtain ⟨q1, q2, q3, q4, q5, q6, q7, q8⟩ := h
  have nk := fun k hk hk10 => rx_mk_n hmk hok.1 (k := k) hk hk10
  refine ⟨q1, h1, h2, ?_, ?_, fun k hk hk8 => ?_, q7, fun g hg => ?_⟩
  · rw [nk 4 (by omega) (by omega)]; exact q4
  · rw [hS]; exact rx_A_ap q5 hok (fun k hk => hmk.1 k (by omega))
  · obtain ⟨so', pa', pl', b', a', r⟩ := q6 k hk hk8
    refine ⟨so', pa', pl', b', a', ?_⟩
    rw [nk 5 (by omega) (by omega), nk 6 (by omega) (by omega), nk 7 (by omega) (by omega), nk 8 (by omega) (by omega), nk 9 (by omega) (by omega)]
    exact r
  · rw [hmk.2 g hg]
    by_cases e : so = 0
    · subst e
      rw [if_pos rfl, hS]
      exact rt_ca_ap0.mpr (q8 g hg)
    · rw [if_neg e]
      exact Or.inl rfl
theorem rx_J_of {hist : Nat → rt_S} {L Ld : Nat} {st u : rt_S} (h : rx_J hist L Ld st) (e : ∀ k, k ≠ 3 → k ≠ 11 → k ≠ 12 → k ≠ 13 → u k = st k) : rx_J hist L Ld u := by
  obtain ⟨q1, q2, q3, q4, q5, q6, q7, q8⟩ := h
  refine ⟨q1, q2, q3, ?_, fun k g hkg => ?_, fun k hk hk8 => ?_, q7, fun g hg => ?_⟩
  · rw [e 4 (by omega) (by omega) (by omega) (by omega)]; exact q4
  · rw [e k (by omega) (by omega) (by omega) (by omega)]; exact q5 k g hkg
  · obtain ⟨so', pa', pl', b', a', r⟩ := q6 k hk hk8
    refine ⟨so', pa', pl', b', a', ?_⟩
    rw [e 5 (by omega) (by omega) (by omega) (by omega), e 6 (by omega) (by omega) (by omega) (by omega), e 7 (by omega) (by omega) (by omega) (by omega), e 8 (by omega) (by omega) (by omega) (by omega), e 9 (by omega) (by omega) (by omega) (by omega)]
    exact r
  · rw [e 10 (by omega) (by omega) (by omega) (by omega)]; exact q8 g hg
theorem rx_J_3 {hist : Nat → rt_S} {L Ld : Nat} {st : rt_S} (h : rx_J hist L Ld st) (x : Int32) : rx_J hist L Ld (rt_u st 3 0 x) := rx_J_of h (fun _ h3 _ _ _ => rt_u_n _ _ _ h3)
/-- the state in which noteChange calls make -/
abbrev rx_n (st : rt_S) (L so pa pl : Nat) (b a : Bool) : rt_S := rt_u (rt_u (rt_u (rt_u (rt_u (rt_u st 4 0 (nI (L + 1))) 5 ((L + 1) % 8) (nI so)) 6 ((L + 1) % 8) (nI pa)) 7 ((L + 1) % 8) (nI pl)) 8 ((L + 1) % 8) (rt_b b)) 9 ((L + 1) % 8) (rt_b a)
theorem rx_I_note {hist : Nat → rt_S} {L : Nat} {st u : rt_S} {so pa pl : Nat} {b a : Bool} (h : rx_I hist L L st) (hL : L < 999) (hok : rx_ok so pa pl) (hb : b = bt (st so pl) pa) (hmk : rx_mk (rx_n st L so pa pl b a) so pa pl a u) : rx_I (va_up hist (L + 1) (rt_ap (hist L) so pl pa a)) (L + 1) (L + 1) (rt_u u 3 0 (nI (L + 1))) := by
  obtain ⟨⟨q1, q2, q3, q4, q5, q6, q7, q8⟩, -⟩ := h
  have hin := q5 so pl (rx_ok_in hok)
  have lo : ∀ k, k < 3 → rx_n st L so pa pl b a k = st k := fun k hk => by
    unfold rx_n
    rw [rt_u_n _ _ _ (by omega), rt_u_n _ _ _ (by omega), rt_u_n _ _ _ (by omega), rt_u_n _ _ _ (by omega), rt_u_n _ _ _ (by omega), rt_u_n _ _ _ (by omega)]
  have n10 : rx_n st L so pa pl b a 10 = st 10 := by
    unfold rx_n
    rw [rt_u_n _ _ _ (by omega), rt_u_n _ _ _ (by omega), rt_u_n _ _ _ (by omega), rt_u_n _ _ _ (by omega), rt_u_n _ _ _ (by omega), rt_u_n _ _ _ (by omega)]
  have nk := fun k hk hk10 => rx_mk_n hmk hok.1 (k := k) hk hk10
  have old : ∀ k, k ≤ L → va_up hist (L + 1) (rt_ap (hist L) so pl pa a) k = hist k := fun k hk => va_up_ne _ _ (by omega)
  have new : va_up hist (L + 1) (rt_ap (hist L) so pl pa a) (L + 1) = rt_ap (hist L) so pl pa a := va_up_self _ _ _
  refine ⟨rx_J_3 ⟨by omega, Nat.le_refl _, by omega, ?_, ?_, fun k hk hk8 => ?_, fun k hk => ?_, fun g hg => ?_⟩ _, rt_u_s _ _ _ _⟩
  · rw [nk 4 (by omega) (by omega)]
    simp [rx_n, rt_u_at]
  · rw [new]
    refine rx_A_ap (st := rx_n st L so pa pl b a) (fun k g hkg => ?_) hok (fun k hk => hmk.1 k (by omega))
    rw [lo k (by omega)]
    exact q5 k g hkg
  · rw [old k (by omega)]
    by_cases e : k = L
    · subst e
      rw [new]
      refine ⟨so, pa, pl, b, a, hok, ?_, ?_, ?_, ?_, ?_, rfl, ?_⟩
      · rw [nk 5 (by omega) (by omega)]; simp [rx_n, rt_u_at]
      · rw [nk 6 (by omega) (by omega)]; simp [rx_n, rt_u_at]
      · rw [nk 7 (by omega) (by omega)]; simp [rx_n, rt_u_at]
      · rw [nk 8 (by omega) (by omega)]; simp [rx_n, rt_u_at]
      · rw [nk 9 (by omega) (by omega)]; simp [rx_n, rt_u_at]
      · rw [hb, hin]
        exact (rt_ap_undo _ _ _ _ (by have := hok.2.1; omega)).symm
    · rw [old (k + 1) (by omega)]
      obtain ⟨so', pa', pl', b', a', r⟩ := q6 k (by omega) (by omega)
      have hne : ¬ (k + 1) % 8 = (L + 1) % 8 := by omega
      refine ⟨so', pa', pl', b', a', ?_⟩
      rw [nk 5 (by omega) (by omega), nk 6 (by omega) (by omega), nk 7 (by omega) (by omega), nk 8 (by omega) (by omega), nk 9 (by omega) (by omega)]
      simpa [rx_n, rt_u_at, hne] using r
  · by_cases e : k = L + 1
    · subst e
      rw [new]
      exact rt_wf_ap (q7 L (Nat.le_refl _)) a hok.2.1 (fun h2 => (hok.2.2.2 h2).2)
    · rw [old k (by omega)]
      exact q7 k (by omega)
  · rw [new, hmk.2 g hg]
    by_cases e : so = 0
    · subst e
      rw [if_pos rfl, n10]
      exact rt_ca_ap0.mpr (q8 g hg)
    · rw [if_neg e]
      exact Or.inl rfl
/-! the reference -/
def ry_P (S st : rt_S) (q : Nat) : Prop := (∀ g, g < 18 → st 1 (18 * q + g) = S 0 g ∧ st 2 (18 * q + g) = S 1 g) ∧ ∀ r t, r < 3 → t < 3 → bt (st 3 q) (3 * r + t) = bt (S 2 t) r
def ry_I (hist : Nat → rt_S) (L : Nat) (st : rt_S) : Prop := L < 1000 ∧ st 0 0 = nI L ∧ ∀ k, k ≤ L → L < k + 8 → ry_P (hist k) st (k % 8)
/-! numbers of a kind -/
def rt_lt (x : Int32) (n : Nat) : Bool := decide (0 ≤ x.toInt ∧ x.toInt < (n : Int))
theorem rt_lt_nI {j n : Nat} (hj : j < 2 ^ 31) : rt_lt (nI j) n = decide (j < n) := by
  unfold rt_lt
  rw [nI_toInt hj]
  exact decide_eq_decide.mpr ⟨fun h => by omega, fun h => by omega⟩
theorem rt_lt_of {x : Int32} {n : Nat} (h : rt_lt x n = true) (hn : n < 2 ^ 31) : ∃ j, j < n ∧ x = nI j := vp_in_of (vp_in_iff.mpr (of_decide_eq_true h)) hn
theorem rt_lt_neg {x : Int32} {n : Nat} (h : x < 0) : rt_lt x n = false := by
  refine decide_eq_false (fun q => ?_)
  have h1 := Int32.lt_iff_toInt_lt.mp h
  rw [show (0 : Int32).toInt = 0 from rfl] at h1
  omega
theorem rt_lt_no {x : Int32} {a n : Nat} (h : nI a ≤ x) (ha : a < 2 ^ 31) (hn : n ≤ a) : rt_lt x n = false := by
  refine decide_eq_false (fun q => ?_)
  have h1 := Int32.le_iff_toInt_le.mp h
  rw [nI_toInt ha] at h1
  omega
theorem rt_lt_no2 {x : Int32} {a n : Nat} (h : nI a < x) (ha : a < 2 ^ 31) (hn : n ≤ a + 1) : rt_lt x n = false := by
  refine decide_eq_false (fun q => ?_)
  have h1 := Int32.lt_iff_toInt_lt.mp h
  rw [nI_toInt ha] at h1
  omega
theorem rt_lt_yes {x : Int32} {a : Nat} (h0 : ¬ x < 0) (h : ¬ nI a ≤ x) (ha : a < 2 ^ 31) : rt_lt x a = true := by
  refine decide_eq_true ?_
  have h1 := fun z => h0 (Int32.lt_iff_toInt_lt.mpr z)
  rw [show (0 : Int32).toInt = 0 from rfl] at h1
  have h2 := fun z => h (Int32.le_iff_toInt_le.mpr z)
  rw [nI_toInt ha] at h2
  exact ⟨Int.not_lt.mp h1, Int.not_le.mp h2⟩
theorem rt_lt_yes2 {x : Int32} {a : Nat} (h0 : ¬ x < 0) (h : ¬ nI a < x) (ha : a < 2 ^ 31) : rt_lt x (a + 1) = true := by
  refine decide_eq_true ?_
  have h1 := fun z => h0 (Int32.lt_iff_toInt_lt.mpr z)
  rw [show (0 : Int32).toInt = 0 from rfl] at h1
  have h2 := fun z => h (Int32.lt_iff_toInt_lt.mpr z)
  rw [nI_toInt ha] at h2
  have h3 := Int.not_lt.mp h2
  exact ⟨Int.not_lt.mp h1, by omega⟩
theorem rt_cl0 {j : Nat} (h : j < 1000) : (nI j).toNatClampNeg = j := nI_clamp (by omega)
/-- kept: a state's number, one of the last eight -/
def rt_kp (x : Int32) (L : Nat) : Bool := rt_lt x (L + 1) && decide (L < x.toNatClampNeg + 8)
/-! what is answered -/
def rt_of (f : Nat → Bool) : Nat → Int32
  | 0 => nI 0
  | n + 1 => if f n then rt_of f n ||| (nI 1 <<< (nI n &&& 31)) else rt_of f n
theorem rt_of_s (f : Nat → Bool) (n : Nat) : rt_of f (n + 1) = if f n then rt_of f n ||| (nI 1 <<< (nI n &&& 31)) else rt_of f n := rfl
theorem rt_of_bt (f : Nat → Bool) {i : Nat} (hi : i < 32) : ∀ n, n ≤ 32 → bt (rt_of f n) i = (decide (i < n) && f i)
  | 0, _ => by
    rw [show rt_of f 0 = 0 by rw [← rt_n0]; rfl, b_0, decide_eq_false (by omega)]
    rfl
  | n + 1, hn => by
    have ih := rt_of_bt f hi n (by omega)
    rw [rt_of_s]
    by_cases h : f n = true
    · rw [if_pos h, b_or, ih, rt_shl1 (by omega) hi]
      by_cases e : i = n
      · subst e; simp [h]
      · have e2 : i < n + 1 ↔ i < n := by omega
        simp [e, e2]
    · rw [if_neg h, ih]
      by_cases e : i = n
      · subst e; simp [h]
      · have e2 : i < n + 1 ↔ i < n := by omega
        simp [e2]
theorem rt_of_eq {f : Nat → Bool} {x : Int32} {n : Nat} (hn : n ≤ 32) (h : ∀ i, i < 32 → bt x i = (decide (i < n) && f i)) : x = rt_of f n := b_ext (fun i hi => by rw [h i hi, rt_of_bt f hi n hn])
noncomputable def sp_src (S : rt_S) (g : Nat) : Int32 := rt_of (fun i => rt_rb S i g) 18
noncomputable def sp_mem (S : rt_S) (g : Nat) : Int32 := rt_of (fun i => rt_m S g i) 32
noncomputable def sp_grp (S : rt_S) (q : Nat) : Int32 := rt_of (fun g => rt_m S g q) 18
def sp_x (a b : Bool) : Nat := if a = b then 0 else 1
noncomputable def sp_chg (S T : rt_S) : Int32 := nI (rt_sum (fun g => rt_sum (fun q => sp_x (rt_m S g q) (rt_m T g q)) 6) 18)
def sp_find (f : Nat → Bool) : Nat → Nat → Int32
  | _, 0 => -3
  | a, n + 1 => if f a then nI a else sp_find f (a + 1) n
theorem sp_find_s (f : Nat → Bool) (a n : Nat) : sp_find f a (n + 1) = if f a then nI a else sp_find f (a + 1) n := rfl
/-- BAD, GONE, or the answer v of the state k -/
def sp_q (ok : Bool) (s : Int32) (L : Nat) (v : Nat → Int32) : Int32 := if ok then (if L < s.toNatClampNeg + 8 then v s.toNatClampNeg else -2) else -1
theorem sp_q_bad {ok : Bool} {s : Int32} {L : Nat} {v : Nat → Int32} (h : ok = false) : sp_q ok s L v = -1 := by rw [h]; rfl
theorem sp_q_gone {ok : Bool} {k L : Nat} {v : Nat → Int32} (h : ok = true) (hk : k < 1000) (h8 : ¬ L < k + 8) : sp_q ok (nI k) L v = -2 := by
  unfold sp_q
  rw [if_pos h, rt_cl0 hk, if_neg h8]
theorem sp_q_ok {ok : Bool} {k L : Nat} {v : Nat → Int32} (h : ok = true) (hk : k < 1000) (h8 : L < k + 8) : sp_q ok (nI k) L v = v k := by
  unfold sp_q
  rw [if_pos h, rt_cl0 hk, if_pos h8]
noncomputable def sp_check (hist : Nat → rt_S) (L : Nat) (s q g : Int32) : Int32 := sp_q (rt_lt q 6 && rt_lt g 18 && rt_lt s (L + 1)) s L (fun k => rt_b (rt_m (hist k) g.toNatClampNeg q.toNatClampNeg))
noncomputable def sp_members (hist : Nat → rt_S) (L : Nat) (s g : Int32) : Int32 := sp_q (rt_lt g 18 && rt_lt s (L + 1)) s L (fun k => sp_mem (hist k) g.toNatClampNeg)
noncomputable def sp_groups (hist : Nat → rt_S) (L : Nat) (s q : Int32) : Int32 := sp_q (rt_lt q 6 && rt_lt s (L + 1)) s L (fun k => sp_grp (hist k) q.toNatClampNeg)
noncomputable def sp_sources (hist : Nat → rt_S) (L : Nat) (s g : Int32) : Int32 := sp_q (rt_lt g 18 && rt_lt s (L + 1)) s L (fun k => sp_src (hist k) g.toNatClampNeg)
noncomputable def sp_changed (hist : Nat → rt_S) (L : Nat) (s t : Int32) : Int32 := sp_q (rt_lt s (L + 1) && rt_lt t (L + 1)) s L (fun k => sp_q true t L (fun j => sp_chg (hist k) (hist j)))
noncomputable def sp_since (hist : Nat → rt_S) (L : Nat) (q g f : Int32) : Int32 := if (rt_lt q 6 && rt_lt g 18 && rt_lt f (L + 1)) = true then sp_find (fun k => rt_m (hist k) g.toNatClampNeg q.toNatClampNeg) (max f.toNatClampNeg (L - 7)) (L + 1 - max f.toNatClampNeg (L - 7)) else -1
/-- a change: the answer, the states, the number of the latest -/
def sp_r (ok : Bool) (L : Nat) : Int32 := if ok then nI (L + 1) else -1
def sp_L (ok : Bool) (L : Nat) : Nat := if ok then L + 1 else L
def sp_h (ok : Bool) (hist : Nat → rt_S) (L so : Nat) (pl pa : Int32) (b : Bool) : Nat → rt_S := if ok then va_up hist (L + 1) (rt_ap (hist L) so pl.toNatClampNeg pa.toNatClampNeg b) else hist
end
section
/-! RelationTuples: its small methods: isPerson, isGroup, latest, isState, isKept, byRules -/
set_option maxRecDepth 100000
theorem rt_b_n0 {b : Bool} (h : ¬ rt_b b = 0) : b = true := by
  cases b
  · exact absurd (rt_b_0.mpr rfl) h
  · rfl
theorem rt_le8 {k L : Nat} (hk : k < 1000) (hL : L < 1000) : nI k ≤ nI L - nI 8 ↔ k + 8 ≤ L := by
  rw [Int32.le_iff_toInt_le, pk_sub_toInt (by omega) (by omega), nI_toInt (by omega)]
  omega
theorem rt_kp_nI {k L : Nat} (hL : L < 1000) (hk : k < L + 1) : rt_kp (nI k) L = decide (L < k + 8) := by
  unfold rt_kp
  rw [rt_lt_nI (by omega), decide_eq_true hk, rt_cl0 (by omega), Bool.true_and]
section XS
variable {p : Program} {l : Launch} {e : Env} {R : Room} {s : State} {m : MethodId} {args : Array Value} {below : List Frame} {meth : Method} {c : Code} {D : va_G} {A : Nat → Prop} {dA : Nat → ClassId} {h0 : Nat} {ad : Nat → Nat} {Q : State → Prop}
set_option maxHeartbeats 4000000 in
set_option maxRecDepth 100000 in
theorem cX_isPerson {st : rt_S} (x : Int32) : rw_Mi l D (rx_t dA) (rx_w dA h0 ad) yX0_isPerson cX0_isPerson 2 (some .boolean) rr_X_isPerson h0 [.int x] st (fun r u => r = rt_b (rt_lt x 6) ∧ st = u) := by
  refine rw_Mi.of (own := RX0) (lv := [some (.ref h0), some (.int x)]) (by decide) rfl 0 (Nat.le_of_ble_eq_true rfl) rfl rfl (fun p e s m below meth c A F hr => ?_)
  refine rw_iload_n F dX0_isPerson_0 rfl ?_
  refine rw_if_lt (tgt := 13) F dX0_isPerson_1 (by decide) (fun c1 => ?_) (fun c1 => ?_)
  · refine rw_iconst (v := nI 0) F dX0_isPerson_13 (by decide) ?_
    exact rw_ret F hr (rt_nZ false) ⟨by rw [rt_lt_neg c1]; rfl, rfl⟩ dX0_isPerson_14
  refine rw_iload_n F dX0_isPerson_4 rfl ?_
  refine rw_iconst (v := nI 5) F dX0_isPerson_5 (by decide) ?_
  refine rw_icmp_gt (tgt := 13) F dX0_isPerson_6 (by decide) (fun c6 => ?_) (fun c6 => ?_)
  · refine rw_iconst (v := nI 0) F dX0_isPerson_13 (by decide) ?_
    exact rw_ret F hr (rt_nZ false) ⟨by rw [rt_lt_no2 c6 (by decide) (by decide)]; rfl, rfl⟩ dX0_isPerson_14
  refine rw_iconst (v := nI 1) F dX0_isPerson_9 (by decide) ?_
  refine rw_goto (tgt := 14) F dX0_isPerson_10 (by decide) ?_
  exact rw_ret F hr (rt_nZ true) ⟨by rw [rt_lt_yes2 c1 c6 (by decide)]; rfl, rfl⟩ dX0_isPerson_14
set_option maxHeartbeats 4000000 in
set_option maxRecDepth 100000 in
theorem cX_isGroup {st : rt_S} (x : Int32) : rw_Mi l D (rx_t dA) (rx_w dA h0 ad) yX0_isGroup cX0_isGroup 2 (some .boolean) rr_X_isGroup h0 [.int x] st (fun r u => r = rt_b (rt_lt x 18) ∧ st = u) := by
  refine rw_Mi.of (own := RX0) (lv := [some (.ref h0), some (.int x)]) (by decide) rfl 0 (Nat.le_of_ble_eq_true rfl) rfl rfl (fun p e s m below meth c A F hr => ?_)
  refine rw_iload_n F dX0_isGroup_0 rfl ?_
  refine rw_if_lt (tgt := 14) F dX0_isGroup_1 (by decide) (fun c1 => ?_) (fun c1 => ?_)
  · refine rw_iconst (v := nI 0) F dX0_isGroup_14 (by decide) ?_
    exact rw_ret F hr (rt_nZ false) ⟨by rw [rt_lt_neg c1]; rfl, rfl⟩ dX0_isGroup_15
  refine rw_iload_n F dX0_isGroup_4 rfl ?_
  refine rw_bipush (v := nI 18) F dX0_isGroup_5 (by decide) ?_
  refine rw_icmp_ge (tgt := 14) F dX0_isGroup_7 (by decide) (fun c7 => ?_) (fun c7 => ?_)
  · refine rw_iconst (v := nI 0) F dX0_isGroup_14 (by decide) ?_
    exact rw_ret F hr (rt_nZ false) ⟨by rw [rt_lt_no c7 (by decide) (by decide)]; rfl, rfl⟩ dX0_isGroup_15
  refine rw_iconst (v := nI 1) F dX0_isGroup_10 (by decide) ?_
  refine rw_goto (tgt := 15) F dX0_isGroup_11 (by decide) ?_
  exact rw_ret F hr (rt_nZ true) ⟨by rw [rt_lt_yes c1 c7 (by decide)]; rfl, rfl⟩ dX0_isGroup_15
set_option maxHeartbeats 4000000 in
set_option maxRecDepth 100000 in
theorem cX_latest {st : rt_S} : rw_Mi l D (rx_t dA) (rx_w dA h0 ad) yX0_latest cX0_latest 1 (some .int) rr_X_latest h0 [] st (fun r u => r = st 4 0 ∧ st = u) := by
  refine rw_Mi.of (own := RX0) (lv := [some (.ref h0)]) (by decide) rfl 0 (Nat.le_of_ble_eq_true rfl) rfl rfl (fun p e s m below meth c A F hr => ?_)
  refine rw_aload_n F dX0_latest_0 rfl ?_
  refine rx_g_latestState F dX0_latest_1 ?_
  exact rw_ret F hr rfl ⟨rfl, rfl⟩ dX0_latest_4
set_option maxHeartbeats 4000000 in
set_option maxRecDepth 100000 in
theorem cX_isState {st : rt_S} {L : Nat} (hL : L < 1000) (h4 : st 4 0 = nI L) (x : Int32) : rw_Mi l D (rx_t dA) (rx_w dA h0 ad) yX0_isState cX0_isState 2 (some .boolean) rr_X_isState h0 [.int x] st (fun r u => r = rt_b (rt_lt x (L + 1)) ∧ st = u) := by
  refine rw_Mi.of (own := RX0) (lv := [some (.ref h0), some (.int x)]) (by decide) rfl 0 (Nat.le_of_ble_eq_true rfl) rfl rfl (fun p e s m below meth c A F hr => ?_)
  refine rw_iload_n F dX0_isState_0 rfl ?_
  refine rw_if_lt (tgt := 16) F dX0_isState_1 (by decide) (fun c1 => ?_) (fun c1 => ?_)
  · refine rw_iconst (v := nI 0) F dX0_isState_16 (by decide) ?_
    exact rw_ret F hr (rt_nZ false) ⟨by rw [rt_lt_neg c1]; rfl, rfl⟩ dX0_isState_17
  refine rw_iload_n F dX0_isState_4 rfl ?_
  refine rw_aload_n F dX0_isState_5 rfl ?_
  refine rx_g_latestState F dX0_isState_6 ?_
  refine rw_as h4 ?_
  refine rw_icmp_gt (tgt := 16) F dX0_isState_9 (by decide) (fun c9 => ?_) (fun c9 => ?_)
  · refine rw_iconst (v := nI 0) F dX0_isState_16 (by decide) ?_
    exact rw_ret F hr (rt_nZ false) ⟨by rw [rt_lt_no2 c9 (by omega) (by omega)]; rfl, rfl⟩ dX0_isState_17
  refine rw_iconst (v := nI 1) F dX0_isState_12 (by decide) ?_
  refine rw_goto (tgt := 17) F dX0_isState_13 (by decide) ?_
  exact rw_ret F hr (rt_nZ true) ⟨by rw [rt_lt_yes2 c1 c9 (by omega)]; rfl, rfl⟩ dX0_isState_17
set_option maxHeartbeats 4000000 in
set_option maxRecDepth 100000 in
theorem cX_isKept {st : rt_S} {L : Nat} (hL : L < 1000) (h4 : st 4 0 = nI L) (x : Int32) : rw_Mi l D (rx_t dA) (rx_w dA h0 ad) yX0_isKept cX0_isKept 2 (some .boolean) rr_X_isKept h0 [.int x] st (fun r u => r = rt_b (rt_kp x L) ∧ st = u) := by
  refine rw_Mi.of (own := RX0) (lv := [some (.ref h0), some (.int x)]) (by decide) rfl 0 (Nat.le_of_ble_eq_true rfl) rfl rfl (fun p e s m below meth c A F hr => ?_)
  refine rw_aload_n F dX0_isKept_0 rfl ?_
  refine rw_iload_n F dX0_isKept_1 rfl ?_
  refine rw_calli F (cX_isState hL h4 x) (cwV 1 F.2.2.2.2.1 (lw_V q116 q118 qs5 q20 q119) rfl rfl rfl dd_X_isState ⟨Nat.le_of_ble_eq_true rfl, Nat.le_of_ble_eq_true rfl⟩) rfl rfl rfl rfl rfl (Nat.le_of_ble_eq_true rfl) dX0_isKept_2 ⟨Nat.zero_le _, Nat.zero_le _⟩ (fun r2 u2 h2 => ?_)
  obtain ⟨rfl, rfl⟩ := h2
  refine rw_if_eq (tgt := 23) F dX0_isKept_5 (by decide) (fun c5 => ?_) (fun c5 => ?_)
  · refine rw_iconst (v := nI 0) F dX0_isKept_23 (by decide) ?_
    exact rw_ret F hr (rt_nZ false) ⟨by unfold rt_kp; rw [rt_b_0.mp c5]; rfl, rfl⟩ dX0_isKept_24
  obtain ⟨k, hk, rfl⟩ := rt_lt_of (rt_b_n0 c5) (by omega)
  refine rw_iload_n F dX0_isKept_8 rfl ?_
  refine rw_aload_n F dX0_isKept_9 rfl ?_
  refine rx_g_latestState F dX0_isKept_10 ?_
  refine rw_as h4 ?_
  refine rw_bipush (v := nI 8) F dX0_isKept_13 (by decide) ?_
  refine rw_isub F dX0_isKept_15 ?_
  refine rw_icmp_le (tgt := 23) F dX0_isKept_16 (by decide) (fun c16 => ?_) (fun c16 => ?_)
  · refine rw_iconst (v := nI 0) F dX0_isKept_23 (by decide) ?_
    exact rw_ret F hr (rt_nZ false) ⟨by rw [rt_kp_nI hL hk, decide_eq_false (by have := (rt_le8 (by omega) hL).mp c16; omega)]; rfl, rfl⟩ dX0_isKept_24
  refine rw_iconst (v := nI 1) F dX0_isKept_19 (by decide) ?_
  refine rw_goto (tgt := 24) F dX0_isKept_20 (by decide) ?_
  exact rw_ret F hr (rt_nZ true) ⟨by rw [rt_kp_nI hL hk, decide_eq_true (Nat.lt_of_not_le (fun z => c16 ((rt_le8 (by omega) hL).mpr z)))]; rfl, rfl⟩ dX0_isKept_24
set_option maxHeartbeats 4000000 in
set_option maxRecDepth 100000 in
theorem cX_byRules {st : rt_S} {g : Nat} (hg : g < 18) : rw_Mi l D (rx_t dA) (rx_w dA h0 ad) yX0_byRules cX0_byRules 2 (some .int) rr_X_byRules h0 [.int (nI g)] st (fun r u => r = st 2 (g % 3) <<< (nI (g / 3 * 3) &&& 31) ∧ st = u) := by
  refine rw_Mi.of (own := RX0) (lv := [some (.ref h0), some (.int (nI g))]) (by decide) rfl 0 (Nat.le_of_ble_eq_true rfl) rfl rfl (fun p e s m below meth c A F hr => ?_)
  refine rw_aload_n F dX0_byRules_0 rfl ?_
  refine rx_g_ruledBy F dX0_byRules_1 ?_
  refine rw_iload_n F dX0_byRules_4 rfl ?_
  refine rw_iconst (v := nI 3) F dX0_byRules_5 (by decide) ?_
  refine rw_iremN F dX0_byRules_6 (by omega) (by omega) (by omega) ?_
  refine rx_l_ruledBy F rfl (by omega) dX0_byRules_7 ?_
  refine rw_iload_n F dX0_byRules_8 rfl ?_
  refine rw_iconst (v := nI 3) F dX0_byRules_9 (by decide) ?_
  refine rw_idivN F dX0_byRules_10 (by omega) (by omega) (by omega) ?_
  refine rw_iconst (v := nI 3) F dX0_byRules_11 (by decide) ?_
  refine rw_imul F dX0_byRules_12 ?_
  refine rw_as (pk_mul _ _) ?_
  refine rw_ishl F dX0_byRules_13 ?_
  exact rw_ret F hr rfl ⟨rfl, rfl⟩ dX0_byRules_14
end XS
end
section
/-! RelationTuples: make, load, noteChange -/
set_option maxRecDepth 100000
section XM
variable {p : Program} {l : Launch} {e : Env} {R : Room} {s : State} {m : MethodId} {args : Array Value} {below : List Frame} {meth : Method} {c : Code} {D : va_G} {A : Nat → Prop} {dA : Nat → ClassId} {h0 : Nat} {ad : Nat → Nat} {Q : State → Prop}
set_option maxHeartbeats 4000000 in
set_option maxRecDepth 100000 in
theorem kX_make_loop (F : rw_F p s m args meth c D A (rx_t dA) cX0_make 7 RX0) {v1 v2 v3 v4 v5 : Option Value} {w : rt_S}
    (hk : ∀ u : rt_S, (∀ k, k ≠ 10 → u k = w k) → (∀ g, g < 18 → u 10 g = 0) → rw_W p l e R s m args below meth c D A 7 0 0 Q (rx_w dA h0 ad (u)) [some (.ref h0), v1, v2, v3, v4, v5, some (.int (nI 18))] 170 []) :
    ∀ (n g : Nat) (u : rt_S), g + n = 18 → (∀ k, k ≠ 10 → u k = w k) → (∀ i, i < g → u 10 i = 0) → rw_W p l e R s m args below meth c D A 7 0 0 Q (rx_w dA h0 ad (u)) [some (.ref h0), v1, v2, v3, v4, v5, some (.int (nI g))] 149 [] := by
  intro n
  induction n with
  | zero =>
    intro g u hg h1 h2
    obtain rfl : g = 18 := by omega
    refine rw_iload F dX0_make_149 rfl ?_
    refine rw_bipush (v := nI 18) F dX0_make_151 (by decide) ?_
    refine rw_icmp_ge_N (tgt := 170) F dX0_make_153 (by decide) (by omega) (by omega) (fun c153 => ?_) (fun c153 => ?_)
    · exact hk u h1 h2
    · exact absurd c153 (by omega)
  | succ n ih =>
    intro g u hg h1 h2
    refine rw_iload F dX0_make_149 rfl ?_
    refine rw_bipush (v := nI 18) F dX0_make_151 (by decide) ?_
    refine rw_icmp_ge_N (tgt := 170) F dX0_make_153 (by decide) (by omega) (by omega) (fun c153 => ?_) (fun c153 => ?_)
    · exact absurd c153 (by omega)
    refine rw_aload_n F dX0_make_156 rfl ?_
    refine rx_g_sourcesOf F dX0_make_157 ?_
    refine rw_iload F dX0_make_160 rfl ?_
    refine rw_iconst (v := nI 0) F dX0_make_162 (by decide) ?_
    refine rx_s_sourcesOf F rfl (by omega) dX0_make_163 ?_
    refine rw_iinc1 F dX0_make_164 rfl (by decide) ?_
    refine rw_goto (tgt := 149) F dX0_make_167 (by decide) ?_
    refine ih (g + 1) (rt_u u 10 g (nI 0)) (by omega) (fun k hk => by rw [rt_u_n _ _ _ hk]; exact h1 k hk) (fun i hi => ?_)
    by_cases e : i = g
    · subst e
      rw [rt_u_s]; exact rt_n0
    · rw [rt_u_o _ _ _ e]
      exact h2 i (by omega)
set_option maxHeartbeats 4000000 in
set_option maxRecDepth 100000 in
theorem cX_make {st : rt_S} {q so pa pl : Nat} (b : Bool) (hq : q < 8) (hok : rx_ok so pa pl) (h5 : st 5 q = nI so) (h6 : st 6 q = nI pa) (h7 : st 7 q = nI pl) : rw_Mv l D (rx_t dA) (rx_w dA h0 ad) yX0_make cX0_make 7 none rr_X_make h0 [.int (nI q), .int (rt_b b)] st (fun u => rx_mk st so pa pl b u) := by
  refine rw_Mv.of (own := RX0) (lv := [some (.ref h0), some (.int (nI q)), some (.int (rt_b b)), none, none, none, none]) (by decide) rfl 4 (Nat.le_of_ble_eq_true rfl) rfl rfl (fun p e s m below meth c A F hr => ?_)
  have hok2 := hok
  obtain ⟨k1, k2, k3, k4⟩ := hok2
  refine rw_aload_n F dX0_make_0 rfl ?_
  refine rx_g_sortOf F dX0_make_1 ?_
  refine rw_iload_n F dX0_make_4 rfl ?_
  refine rx_l_sortOf F rfl hq dX0_make_5 ?_
  refine rw_as h5 ?_
  refine rw_istore_n F dX0_make_6 (by decide) ?_
  refine rw_iconst (v := nI 1) F dX0_make_7 (by decide) ?_
  refine rw_aload_n F dX0_make_8 rfl ?_
  refine rx_g_partOf F dX0_make_9 ?_
  refine rw_iload_n F dX0_make_12 rfl ?_
  refine rx_l_partOf F rfl hq dX0_make_13 ?_
  refine rw_as h6 ?_
  refine rw_ishl F dX0_make_14 ?_
  refine rw_istore F dX0_make_15 (by decide) ?_
  refine rw_aload_n F dX0_make_17 rfl ?_
  refine rx_g_placeOf F dX0_make_18 ?_
  refine rw_iload_n F dX0_make_21 rfl ?_
  refine rx_l_placeOf F rfl hq dX0_make_22 ?_
  refine rw_as h7 ?_
  refine rw_istore F dX0_make_23 (by decide) ?_
  refine rw_iload_n F dX0_make_25 rfl ?_
  refine rw_if_ne (tgt := 66) F dX0_make_26 (by decide) (fun c26 => ?_) (fun c26 => ?_)
  · refine rw_iload_n F dX0_make_66 rfl ?_
    refine rw_iconst (v := nI 1) F dX0_make_67 (by decide) ?_
    refine rw_icmp_ne_N (tgt := 110) F dX0_make_68 (by decide) (by omega) (by omega) (fun c68 => ?_) (fun c68 => ?_)
    · obtain rfl : so = 2 := by
        have : ¬ so = 0 := fun z => c26 (by rw [z]; exact rt_n0)
        omega
      have k5 := (k4 rfl).1
      have hlast := kX_make_loop (l := l) (e := e) (R := rr_X_make) (below := below) (h0 := h0) (ad := ad) (Q := MQ below (va_Qv (fun u => rx_mk st 2 pa pl b u) (rw_B D (rx_t dA) (rx_w dA h0 ad) A) A) (Value.ref h0 :: [Value.int (nI q), Value.int (rt_b b)]).toArray s 0 0 A) F (v1 := some (.int (nI q))) (v2 := some (.int (rt_b b))) (v3 := some (.int (nI 2))) (v4 := some (.int (nI 1 <<< (nI pa &&& 31)))) (v5 := some (.int (nI pl))) (w := rt_ap st 2 pl pa b) (fun u hu1 hu2 => by
        exact rw_vret F hr ⟨hu1, fun g hg => by rw [if_neg (by omega)]; exact hu2 g hg⟩ dX0_make_170
        ) 18 0 (rt_ap st 2 pl pa b) (by omega) (fun _ _ => rfl) (fun i hi => by omega)
      refine rw_aload_n F dX0_make_110 rfl ?_
      refine rx_g_ruledBy F dX0_make_111 ?_
      refine rw_iload F dX0_make_114 rfl ?_
      refine rw_iload_n F dX0_make_116 rfl ?_
      refine rw_if_eq (tgt := 133) F dX0_make_117 (by decide) (fun c117 => ?_) (fun c117 => ?_)
      · refine rw_aload_n F dX0_make_133 rfl ?_
        refine rx_g_ruledBy F dX0_make_134 ?_
        refine rw_iload F dX0_make_137 rfl ?_
        refine rx_l_ruledBy F rfl k5 dX0_make_139 ?_
        refine rw_iload F dX0_make_140 rfl ?_
        refine rw_iconst (v := (-1)) F dX0_make_142 (by decide) ?_
        refine rw_ixor F dX0_make_143 ?_
        refine rw_iand F dX0_make_144 ?_
        refine rw_as (show _ = rt_set (st 2 pl) pa b by rw [rt_b_0.mp c117]; rfl) ?_
        refine rx_s_ruledBy F rfl k5 dX0_make_145 ?_
        refine rw_iconst (v := nI 0) F dX0_make_146 (by decide) ?_
        refine rw_istore F dX0_make_147 (by decide) ?_
        exact hlast
      · refine rw_aload_n F dX0_make_120 rfl ?_
        refine rx_g_ruledBy F dX0_make_121 ?_
        refine rw_iload F dX0_make_124 rfl ?_
        refine rx_l_ruledBy F rfl k5 dX0_make_126 ?_
        refine rw_iload F dX0_make_127 rfl ?_
        refine rw_ior F dX0_make_129 ?_
        refine rw_goto (tgt := 145) F dX0_make_130 (by decide) ?_
        refine rw_as (show _ = rt_set (st 2 pl) pa b by rw [rt_b_n0 c117]; rfl) ?_
        refine rx_s_ruledBy F rfl k5 dX0_make_145 ?_
        refine rw_iconst (v := nI 0) F dX0_make_146 (by decide) ?_
        refine rw_istore F dX0_make_147 (by decide) ?_
        exact hlast
    · subst c68
      have hlast := kX_make_loop (l := l) (e := e) (R := rr_X_make) (below := below) (h0 := h0) (ad := ad) (Q := MQ below (va_Qv (fun u => rx_mk st 1 pa pl b u) (rw_B D (rx_t dA) (rx_w dA h0 ad) A) A) (Value.ref h0 :: [Value.int (nI q), Value.int (rt_b b)]).toArray s 0 0 A) F (v1 := some (.int (nI q))) (v2 := some (.int (rt_b b))) (v3 := some (.int (nI 1))) (v4 := some (.int (nI 1 <<< (nI pa &&& 31)))) (v5 := some (.int (nI pl))) (w := rt_ap st 1 pl pa b) (fun u hu1 hu2 => by
        exact rw_vret F hr ⟨hu1, fun g hg => by rw [if_neg (by omega)]; exact hu2 g hg⟩ dX0_make_170
        ) 18 0 (rt_ap st 1 pl pa b) (by omega) (fun _ _ => rfl) (fun i hi => by omega)
      refine rw_aload_n F dX0_make_71 rfl ?_
      refine rx_g_nested F dX0_make_72 ?_
      refine rw_iload F dX0_make_75 rfl ?_
      refine rw_iload_n F dX0_make_77 rfl ?_
      refine rw_if_eq (tgt := 94) F dX0_make_78 (by decide) (fun c78 => ?_) (fun c78 => ?_)
      · refine rw_aload_n F dX0_make_94 rfl ?_
        refine rx_g_nested F dX0_make_95 ?_
        refine rw_iload F dX0_make_98 rfl ?_
        refine rx_l_nested F rfl k3 dX0_make_100 ?_
        refine rw_iload F dX0_make_101 rfl ?_
        refine rw_iconst (v := (-1)) F dX0_make_103 (by decide) ?_
        refine rw_ixor F dX0_make_104 ?_
        refine rw_iand F dX0_make_105 ?_
        refine rw_as (show _ = rt_set (st 1 pl) pa b by rw [rt_b_0.mp c78]; rfl) ?_
        refine rx_s_nested F rfl k3 dX0_make_106 ?_
        refine rw_goto (tgt := 146) F dX0_make_107 (by decide) ?_
        refine rw_iconst (v := nI 0) F dX0_make_146 (by decide) ?_
        refine rw_istore F dX0_make_147 (by decide) ?_
        exact hlast
      · refine rw_aload_n F dX0_make_81 rfl ?_
        refine rx_g_nested F dX0_make_82 ?_
        refine rw_iload F dX0_make_85 rfl ?_
        refine rx_l_nested F rfl k3 dX0_make_87 ?_
        refine rw_iload F dX0_make_88 rfl ?_
        refine rw_ior F dX0_make_90 ?_
        refine rw_goto (tgt := 106) F dX0_make_91 (by decide) ?_
        refine rw_as (show _ = rt_set (st 1 pl) pa b by rw [rt_b_n0 c78]; rfl) ?_
        refine rx_s_nested F rfl k3 dX0_make_106 ?_
        refine rw_goto (tgt := 146) F dX0_make_107 (by decide) ?_
        refine rw_iconst (v := nI 0) F dX0_make_146 (by decide) ?_
        refine rw_istore F dX0_make_147 (by decide) ?_
        exact hlast
  · obtain rfl : so = 0 := (nI_eq (by omega) (by omega)).mp (c26.trans rt_n0.symm)
    have hend : rx_mk st 0 pa pl b (rt_ap st 0 pl pa b) := ⟨fun k _ => rfl, fun g _ => by rw [if_pos rfl]; exact congrFun (rt_u_n st pl _ (by decide)) g⟩
    refine rw_aload_n F dX0_make_29 rfl ?_
    refine rx_g_entered F dX0_make_30 ?_
    refine rw_iload F dX0_make_33 rfl ?_
    refine rw_iload_n F dX0_make_35 rfl ?_
    refine rw_if_eq (tgt := 52) F dX0_make_36 (by decide) (fun c36 => ?_) (fun c36 => ?_)
    · refine rw_aload_n F dX0_make_52 rfl ?_
      refine rx_g_entered F dX0_make_53 ?_
      refine rw_iload F dX0_make_56 rfl ?_
      refine rx_l_entered F rfl k3 dX0_make_58 ?_
      refine rw_iload F dX0_make_59 rfl ?_
      refine rw_iconst (v := (-1)) F dX0_make_61 (by decide) ?_
      refine rw_ixor F dX0_make_62 ?_
      refine rw_iand F dX0_make_63 ?_
      refine rw_as (show _ = rt_set (st 0 pl) pa b by rw [rt_b_0.mp c36]; rfl) ?_
      refine rx_s_entered F rfl k3 dX0_make_64 ?_
      exact rw_vret F hr hend dX0_make_65
    · refine rw_aload_n F dX0_make_39 rfl ?_
      refine rx_g_entered F dX0_make_40 ?_
      refine rw_iload F dX0_make_43 rfl ?_
      refine rx_l_entered F rfl k3 dX0_make_45 ?_
      refine rw_iload F dX0_make_46 rfl ?_
      refine rw_ior F dX0_make_48 ?_
      refine rw_goto (tgt := 64) F dX0_make_49 (by decide) ?_
      refine rw_as (show _ = rt_set (st 0 pl) pa b by rw [rt_b_n0 c36]; rfl) ?_
      refine rx_s_entered F rfl k3 dX0_make_64 ?_
      exact rw_vret F hr hend dX0_make_65
set_option maxHeartbeats 4000000 in
set_option maxRecDepth 100000 in
/-- load, undoing: from Ld down to k -/
theorem kX_load_down (F : rw_F p s m args meth c D A (rx_t dA) cX0_load 2 RX0) {hist : Nat → rt_S} {L k : Nat} {st : rt_S} (hk : k ≤ L) (hk8 : L < k + 8)
    (hx : ∀ (d : Nat) (u : rt_S), d ≤ k → rx_I hist L d u → u 13 = st 13 → rw_W p l e rr_X_load s m args below meth c D A 2 0 0 Q (rx_w dA h0 ad u) [some (.ref h0), some (.int (nI k))] 44 []) :
    ∀ (n d : Nat) (u : rt_S), d ≤ k + n → rx_I hist L d u → u 13 = st 13 → rw_W p l e rr_X_load s m args below meth c D A 2 0 0 Q (rx_w dA h0 ad u) [some (.ref h0), some (.int (nI k))] 0 [] := by
  intro n
  induction n with
  | zero =>
    intro d u hd hI h13
    have hL := hI.1.1
    have hLd := hI.1.2.1
    refine rw_aload_n F dX0_load_0 rfl ?_
    refine rx_g_loaded F dX0_load_1 ?_
    refine rw_as hI.2 ?_
    refine rw_iload_n F dX0_load_4 rfl ?_
    refine rw_icmp_le_N (tgt := 44) F dX0_load_5 (by decide) (by omega) (by omega) (fun c5 => ?_) (fun c5 => ?_)
    · exact hx d u hd hI h13
    · exact absurd c5 (by omega)
  | succ n ih =>
    intro d u hd hI h13
    have hL := hI.1.1
    have hLd := hI.1.2.1
    refine rw_aload_n F dX0_load_0 rfl ?_
    refine rx_g_loaded F dX0_load_1 ?_
    refine rw_as hI.2 ?_
    refine rw_iload_n F dX0_load_4 rfl ?_
    refine rw_icmp_le_N (tgt := 44) F dX0_load_5 (by decide) (by omega) (by omega) (fun c5 => ?_) (fun c5 => ?_)
    · exact hx d u c5 hI h13
    obtain ⟨d, rfl⟩ : ∃ d', d = d' + 1 := ⟨d - 1, by omega⟩
    obtain ⟨so, pa, pl, b, a, hok, r5, r6, r7, r8, r9, e1, e2⟩ := hI.1.2.2.2.2.2.1 d (by omega) (by have := hI.1.2.2.1; omega)
    refine rw_aload_n F dX0_load_8 rfl ?_
    refine rw_aload_n F dX0_load_9 rfl ?_
    refine rx_g_loaded F dX0_load_10 ?_
    refine rw_as hI.2 ?_
    refine rw_bipush (v := nI 8) F dX0_load_13 (by decide) ?_
    refine rw_iremN F dX0_load_15 (by omega) (by omega) (by omega) ?_
    refine rw_aload_n F dX0_load_16 rfl ?_
    refine rx_g_beforeOf F dX0_load_17 ?_
    refine rw_aload_n F dX0_load_20 rfl ?_
    refine rx_g_loaded F dX0_load_21 ?_
    refine rw_as hI.2 ?_
    refine rw_bipush (v := nI 8) F dX0_load_24 (by decide) ?_
    refine rw_iremN F dX0_load_26 (by omega) (by omega) (by omega) ?_
    refine rx_l_beforeOf F rfl (by omega) dX0_load_27 ?_
    refine rw_as r8 ?_
    refine rw_callv F (cX_make b (by omega) hok r5 r6 r7) (cwV 2 F.2.2.2.2.1 (lw_V q92 q94 qs3 q20 q95) rfl rfl rfl dd_X_make ⟨Nat.le_of_ble_eq_true rfl, Nat.le_of_ble_eq_true rfl⟩) rfl rfl rfl rfl rfl (Nat.le_of_ble_eq_true rfl) dX0_load_28 ⟨Nat.zero_le _, Nat.zero_le _⟩ (fun u28 h28 => ?_)
    have hu13 : u28 13 = st 13 := (rx_mk_n h28 hok.1 (by omega) (by omega)).trans h13
    have hu3 : u28 3 0 = nI (d + 1) := (congrFun (rx_mk_n h28 hok.1 (k := 3) (by omega) (by omega)) 0).trans hI.2
    refine rw_aload_n F dX0_load_31 rfl ?_
    refine rw_dup F dX0_load_32 rfl ?_
    refine rx_g_loaded F dX0_load_33 ?_
    refine rw_as hu3 ?_
    refine rw_iconst (v := nI 1) F dX0_load_36 (by decide) ?_
    refine rw_isub F dX0_load_37 ?_
    refine rw_as (show _ = nI d from pk_sub (by omega : 1 ≤ d + 1)) ?_
    refine rx_p_loaded F dX0_load_38 ?_
    refine rw_goto (tgt := 0) F dX0_load_41 (by decide) ?_
    exact ih d (rt_u u28 3 0 (nI d)) (by omega) ⟨rx_J_3 (rx_J_mv hI.1 (by omega) (by omega) hok h28 e2) _, rt_u_s _ _ _ _⟩ ((rt_u_n _ _ _ (by decide)).trans hu13)
set_option maxHeartbeats 4000000 in
set_option maxRecDepth 100000 in
/-- load, making again: from d up to k -/
theorem kX_load_up (F : rw_F p s m args meth c D A (rx_t dA) cX0_load 2 RX0) {hist : Nat → rt_S} {L k : Nat} {st : rt_S} (hk : k ≤ L)
    (hx : ∀ u : rt_S, rx_I hist L k u → u 13 = st 13 → rw_W p l e rr_X_load s m args below meth c D A 2 0 0 Q (rx_w dA h0 ad u) [some (.ref h0), some (.int (nI k))] 88 []) :
    ∀ (n d : Nat) (u : rt_S), d + n = k → rx_I hist L d u → u 13 = st 13 → rw_W p l e rr_X_load s m args below meth c D A 2 0 0 Q (rx_w dA h0 ad u) [some (.ref h0), some (.int (nI k))] 44 [] := by
  intro n
  induction n with
  | zero =>
    intro d u hd hI h13
    obtain rfl : d = k := by omega
    have hL := hI.1.1
    refine rw_aload_n F dX0_load_44 rfl ?_
    refine rx_g_loaded F dX0_load_45 ?_
    refine rw_as hI.2 ?_
    refine rw_iload_n F dX0_load_48 rfl ?_
    refine rw_icmp_ge_N (tgt := 88) F dX0_load_49 (by decide) (by omega) (by omega) (fun c49 => ?_) (fun c49 => ?_)
    · exact hx u hI h13
    · exact absurd c49 (by omega)
  | succ n ih =>
    intro d u hd hI h13
    have hL := hI.1.1
    refine rw_aload_n F dX0_load_44 rfl ?_
    refine rx_g_loaded F dX0_load_45 ?_
    refine rw_as hI.2 ?_
    refine rw_iload_n F dX0_load_48 rfl ?_
    refine rw_icmp_ge_N (tgt := 88) F dX0_load_49 (by decide) (by omega) (by omega) (fun c49 => ?_) (fun c49 => ?_)
    · exact absurd c49 (by omega)
    obtain ⟨so, pa, pl, b, a, hok, r5, r6, r7, r8, r9, e1, e2⟩ := hI.1.2.2.2.2.2.1 d (by omega) (by have := hI.1.2.2.1; omega)
    refine rw_aload_n F dX0_load_52 rfl ?_
    refine rw_dup F dX0_load_53 rfl ?_
    refine rx_g_loaded F dX0_load_54 ?_
    refine rw_as hI.2 ?_
    refine rw_iconst (v := nI 1) F dX0_load_57 (by decide) ?_
    refine rw_iadd F dX0_load_58 ?_
    refine rw_as (show _ = nI (d + 1) from nI_add d 1) ?_
    refine rx_p_loaded F dX0_load_59 ?_
    have hu3 : rt_u u 3 0 (nI (d + 1)) 3 0 = nI (d + 1) := rt_u_s _ _ _ _
    have hn : ∀ k, k ≠ 3 → rt_u u 3 0 (nI (d + 1)) k = u k := fun k hk => rt_u_n _ _ _ hk
    refine rw_aload_n F dX0_load_62 rfl ?_
    refine rw_aload_n F dX0_load_63 rfl ?_
    refine rx_g_loaded F dX0_load_64 ?_
    refine rw_as hu3 ?_
    refine rw_bipush (v := nI 8) F dX0_load_67 (by decide) ?_
    refine rw_iremN F dX0_load_69 (by omega) (by omega) (by omega) ?_
    refine rw_aload_n F dX0_load_70 rfl ?_
    refine rx_g_afterOf F dX0_load_71 ?_
    refine rw_aload_n F dX0_load_74 rfl ?_
    refine rx_g_loaded F dX0_load_75 ?_
    refine rw_as hu3 ?_
    refine rw_bipush (v := nI 8) F dX0_load_78 (by decide) ?_
    refine rw_iremN F dX0_load_80 (by omega) (by omega) (by omega) ?_
    refine rx_l_afterOf F rfl (by omega) dX0_load_81 ?_
    refine rw_as ((congrFun (hn 9 (by decide)) _).trans r9) ?_
    refine rw_callv F (cX_make a (by omega) hok ((congrFun (hn 5 (by decide)) _).trans r5) ((congrFun (hn 6 (by decide)) _).trans r6) ((congrFun (hn 7 (by decide)) _).trans r7)) (cwV 2 F.2.2.2.2.1 (lw_V q92 q94 qs3 q20 q95) rfl rfl rfl dd_X_make ⟨Nat.le_of_ble_eq_true rfl, Nat.le_of_ble_eq_true rfl⟩) rfl rfl rfl rfl rfl (Nat.le_of_ble_eq_true rfl) dX0_load_82 ⟨Nat.zero_le _, Nat.zero_le _⟩ (fun u82 h82 => ?_)
    refine rw_goto (tgt := 44) F dX0_load_85 (by decide) ?_
    refine ih (d + 1) u82 (by omega) ⟨rx_J_mv (rx_J_3 hI.1 _) (by omega) (by have := hI.1.2.2.1; omega) hok h82 e1, ?_⟩ ?_
    · exact (congrFun (rx_mk_n h82 hok.1 (k := 3) (by omega) (by omega)) 0).trans hu3
    · exact (rx_mk_n h82 hok.1 (by omega) (by omega)).trans ((hn 13 (by decide)).trans h13)
set_option maxHeartbeats 4000000 in
set_option maxRecDepth 100000 in
theorem cX_load {hist : Nat → rt_S} {L Ld k : Nat} {st : rt_S} (hI : rx_I hist L Ld st) (hk : k ≤ L) (hk8 : L < k + 8) : rw_Mv l D (rx_t dA) (rx_w dA h0 ad) yX0_load cX0_load 2 none rr_X_load h0 [.int (nI k)] st (fun u => rx_I hist L k u ∧ u 13 = st 13) := by
  refine rw_Mv.of (own := RX0) (lv := [some (.ref h0), some (.int (nI k))]) (by decide) rfl 0 (Nat.le_of_ble_eq_true rfl) rfl rfl (fun p e s m below meth c A F hr => ?_)
  refine kX_load_down F hk hk8 (st := st) (fun d u hd hI2 h13 => ?_) Ld Ld st (by omega) hI rfl
  refine kX_load_up F hk (st := st) (fun u hI3 h13 => ?_) (k - d) d u (by omega) hI2 h13
  exact rw_vret F hr ⟨hI3, h13⟩ dX0_load_88
set_option maxHeartbeats 4000000 in
set_option maxRecDepth 100000 in
theorem cX_noteChange {hist : Nat → rt_S} {L : Nat} {st : rt_S} {so pa pl : Nat} {b : Bool} (a : Bool) (hI : rx_I hist L L st) (hL : L < 999) (hok : rx_ok so pa pl) (hb : b = bt (st so pl) pa) : rw_Mv l D (rx_t dA) (rx_w dA h0 ad) yX0_noteChange cX0_noteChange 7 none rr_X_noteChange h0 [.int (nI so), .int (nI pa), .int (nI pl), .int (rt_b b), .int (rt_b a)] st (fun u => rx_I (va_up hist (L + 1) (rt_ap (hist L) so pl pa a)) (L + 1) (L + 1) u) := by
  refine rw_Mv.of (own := RX0) (lv := [some (.ref h0), some (.int (nI so)), some (.int (nI pa)), some (.int (nI pl)), some (.int (rt_b b)), some (.int (rt_b a)), none]) (by decide) rfl 1 (Nat.le_of_ble_eq_true rfl) rfl rfl (fun p e s m below meth c A F hr => ?_)
  have hok2 := hok
  obtain ⟨k1, k2, k3, k4⟩ := hok2
  refine rw_aload_n F dX0_noteChange_0 rfl ?_
  refine rw_dup F dX0_noteChange_1 rfl ?_
  refine rx_g_latestState F dX0_noteChange_2 ?_
  refine rw_as hI.1.2.2.2.1 ?_
  refine rw_iconst (v := nI 1) F dX0_noteChange_5 (by decide) ?_
  refine rw_iadd F dX0_noteChange_6 ?_
  refine rw_as (show _ = nI (L + 1) from nI_add L 1) ?_
  refine rx_p_latestState F dX0_noteChange_7 ?_
  refine rw_aload_n F dX0_noteChange_10 rfl ?_
  refine rx_g_latestState F dX0_noteChange_11 ?_
  refine rw_as (show _ = nI (L + 1) from rt_u_s _ _ _ _) ?_
  refine rw_bipush (v := nI 8) F dX0_noteChange_14 (by decide) ?_
  refine rw_iremN F dX0_noteChange_16 (by omega) (by omega) (by omega) ?_
  refine rw_istore F dX0_noteChange_17 (by decide) ?_
  refine rw_aload_n F dX0_noteChange_19 rfl ?_
  refine rx_g_sortOf F dX0_noteChange_20 ?_
  refine rw_iload F dX0_noteChange_23 rfl ?_
  refine rw_iload_n F dX0_noteChange_25 rfl ?_
  refine rw_i2b F dX0_noteChange_26 (rt_i2b _ (by omega)) ?_
  refine rx_s_sortOf F rfl (by omega) rfl (by omega) dX0_noteChange_27 ?_
  refine rw_aload_n F dX0_noteChange_28 rfl ?_
  refine rx_g_partOf F dX0_noteChange_29 ?_
  refine rw_iload F dX0_noteChange_32 rfl ?_
  refine rw_iload_n F dX0_noteChange_34 rfl ?_
  refine rw_i2b F dX0_noteChange_35 (rt_i2b _ (by omega)) ?_
  refine rx_s_partOf F rfl (by omega) rfl (by omega) dX0_noteChange_36 ?_
  refine rw_aload_n F dX0_noteChange_37 rfl ?_
  refine rx_g_placeOf F dX0_noteChange_38 ?_
  refine rw_iload F dX0_noteChange_41 rfl ?_
  refine rw_iload_n F dX0_noteChange_43 rfl ?_
  refine rw_i2b F dX0_noteChange_44 (rt_i2b _ (by omega)) ?_
  refine rx_s_placeOf F rfl (by omega) rfl (by omega) dX0_noteChange_45 ?_
  refine rw_aload_n F dX0_noteChange_46 rfl ?_
  refine rx_g_beforeOf F dX0_noteChange_47 ?_
  refine rw_iload F dX0_noteChange_50 rfl ?_
  refine rw_iload F dX0_noteChange_52 rfl ?_
  refine rx_s_beforeOf F rfl (by omega) rfl dX0_noteChange_54 ?_
  refine rw_aload_n F dX0_noteChange_55 rfl ?_
  refine rx_g_afterOf F dX0_noteChange_56 ?_
  refine rw_iload F dX0_noteChange_59 rfl ?_
  refine rw_iload F dX0_noteChange_61 rfl ?_
  refine rx_s_afterOf F rfl (by omega) rfl dX0_noteChange_63 ?_
  refine rw_aload_n F dX0_noteChange_64 rfl ?_
  refine rw_iload F dX0_noteChange_65 rfl ?_
  refine rw_iload F dX0_noteChange_67 rfl ?_
  refine rw_callv F (cX_make (st := rx_n st L so pa pl b a) (so := so) (pa := pa) (pl := pl) a (by omega) hok (by simp [rx_n, rt_u_at]) (by simp [rx_n, rt_u_at]) (by simp [rx_n, rt_u_at])) (cwV 2 F.2.2.2.2.1 (lw_V q92 q94 qs3 q20 q95) rfl rfl rfl dd_X_make ⟨Nat.le_of_ble_eq_true rfl, Nat.le_of_ble_eq_true rfl⟩) rfl rfl rfl rfl rfl (Nat.le_of_ble_eq_true rfl) dX0_noteChange_69 ⟨Nat.zero_le _, Nat.zero_le _⟩ (fun u69 h69 => ?_)
  refine rw_aload_n F dX0_noteChange_72 rfl ?_
  refine rw_aload_n F dX0_noteChange_73 rfl ?_
  refine rx_g_latestState F dX0_noteChange_74 ?_
  refine rw_as (show _ = nI (L + 1) from (congrFun (rx_mk_n h69 hok.1 (k := 4) (by omega) (by omega)) 0).trans (by simp [rx_n, rt_u_at])) ?_
  refine rx_p_loaded F dX0_noteChange_77 ?_
  exact rw_vret F hr (rx_I_note hI hL hok hb h69) dX0_noteChange_80
end XM
end
section
/-! RelationTuples: sourcesTo, membersOf -/
set_option maxRecDepth 100000
theorem rx_J_10 {hist : Nat → rt_S} {L Ld : Nat} {st : rt_S} (h : rx_J hist L Ld st) {g0 : Nat} {x : Int32} (hx : rt_ca (hist Ld) g0 x) : rx_J hist L Ld (rt_u st 10 g0 x) := by
  obtain ⟨q1, q2, q3, q4, q5, q6, q7, q8⟩ := h
  have e : ∀ k, k ≠ 10 → rt_u st 10 g0 x k = st k := fun k hk => rt_u_n _ _ _ hk
  refine ⟨q1, q2, q3, ?_, fun k g hkg => ?_, fun k hk hk8 => ?_, q7, fun g hg => ?_⟩
  · rw [e 4 (by omega)]; exact q4
  · rw [e k (by omega)]; exact q5 k g hkg
  · obtain ⟨so', pa', pl', b', a', r⟩ := q6 k hk hk8
    refine ⟨so', pa', pl', b', a', ?_⟩
    rw [e 5 (by omega), e 6 (by omega), e 7 (by omega), e 8 (by omega), e 9 (by omega)]
    exact r
  · by_cases z : g = g0
    · subst z
      rw [rt_u_s]; exact hx
    · rw [rt_u_o _ _ _ z]; exact q8 g hg
theorem rt_shl1a {p i : Nat} (hp : p < 32) : bt (nI 1 <<< (nI p &&& 31)) i = decide (i = p) := by
  rcases Nat.lt_or_ge i 32 with h | h
  · exact rt_shl1 hp h
  · rw [b_big h, decide_eq_false (by omega)]
theorem rt_fr_of {S w : rt_S} {b : Nat} {x : Int32} (hw : rt_wf S) (hA : rx_A S w) (hb : b < 18) : rt_fr S b (bt x) (bt ((w 1 b ||| (w 2 (b % 3) <<< (nI (b / 3 * 3) &&& 31))) &&& (x ^^^ (-1)))) := by
  intro i
  rcases Nat.lt_or_ge i 32 with h | h
  · rw [b_and, b_xor, b_m1 i h, hA 1 b (Or.inl ⟨by omega, hb⟩), hA 2 (b % 3) (Or.inr ⟨rfl, by omega⟩), rt_pred S hw hb h]
    cases bt x i <;> simp
  · rw [b_big h, decide_eq_false (by omega)]; rfl
section XT
variable {p : Program} {l : Launch} {e : Env} {R : Room} {s : State} {m : MethodId} {args : Array Value} {below : List Frame} {meth : Method} {c : Code} {D : va_G} {A : Nat → Prop} {dA : Nat → ClassId} {h0 : Nat} {ad : Nat → Nat} {Q : State → Prop}
set_option maxHeartbeats 4000000 in
set_option maxRecDepth 100000 in
/-- the new groups are put on the list -/
theorem kX_src_push (F : rw_F p s m args meth c D A (rx_t dA) cX0_sourcesTo 7 RX0) {S st : rt_S} {g0 b n0 : Nat} {w0 : Nat → Int32} {x fr : Int32} {v1 v2 v3 v4 : Option Value}
    (hl : rt_wl S g0 (bt x) w0 (n0 + 1)) (hfr : rt_fr S b (bt x) (bt fr))
    (hx : ∀ (n : Nat) (u : rt_S), (∀ k, k ≠ 11 → k ≠ 12 → u k = st k) → u 11 0 = nI n → rt_wg S b (bt x) (bt fr) (u 12) n0 n 18 → rw_W p l e R s m args below meth c D A 7 0 0 Q (rx_w dA h0 ad (u)) [some (.ref h0), v1, v2, v3, v4, some (.int fr), some (.int (nI 18))] 171 []) :
    ∀ (N h n : Nat) (u : rt_S), h + N = 18 → (∀ k, k ≠ 11 → k ≠ 12 → u k = st k) → u 11 0 = nI n → rt_wg S b (bt x) (bt fr) (u 12) n0 n h → rw_W p l e R s m args below meth c D A 7 0 0 Q (rx_w dA h0 ad (u)) [some (.ref h0), v1, v2, v3, v4, some (.int fr), some (.int (nI h))] 123 [] := by
  intro N
  induction N with
  | zero =>
    intro h n u hN hf h11 hg
    obtain rfl : h = 18 := by omega
    refine rw_iload F dX0_sourcesTo_123 rfl ?_
    refine rw_bipush (v := nI 18) F dX0_sourcesTo_125 (by decide) ?_
    refine rw_icmp_ge_N (tgt := 171) F dX0_sourcesTo_127 (by decide) (by omega) (by omega) (fun c127 => ?_) (fun c127 => ?_)
    · exact hx n u hf h11 hg
    · exact absurd c127 (by omega)
  | succ N ih =>
    intro h n u hN hf h11 hg
    refine rw_iload F dX0_sourcesTo_123 rfl ?_
    refine rw_bipush (v := nI 18) F dX0_sourcesTo_125 (by decide) ?_
    refine rw_icmp_ge_N (tgt := 171) F dX0_sourcesTo_127 (by decide) (by omega) (by omega) (fun c127 => ?_) (fun c127 => ?_)
    · exact absurd c127 (by omega)
    refine rw_iload F dX0_sourcesTo_130 rfl ?_
    refine rw_iload F dX0_sourcesTo_132 rfl ?_
    refine rw_ishr F dX0_sourcesTo_134 ?_
    refine rw_iconst (v := nI 1) F dX0_sourcesTo_135 (by decide) ?_
    refine rw_iand F dX0_sourcesTo_136 ?_
    refine rw_as (rt_get fr (by omega)) ?_
    refine rw_if_ne (tgt := 143) F dX0_sourcesTo_137 (by decide) (fun c137 => ?_) (fun c137 => ?_)
    · have hb := rt_b_n0 c137
      have hn := rt_wg_room hl hfr hg c127 hb
      refine rw_aload_n F dX0_sourcesTo_143 rfl ?_
      refine rx_g_waitGroup F dX0_sourcesTo_144 ?_
      refine rw_aload_n F dX0_sourcesTo_147 rfl ?_
      refine rx_g_waiting F dX0_sourcesTo_148 ?_
      refine rw_as h11 ?_
      refine rw_iload F dX0_sourcesTo_151 rfl ?_
      refine rw_i2b F dX0_sourcesTo_153 (rt_i2b _ (by omega)) ?_
      refine rx_s_waitGroup F rfl hn rfl (by omega) dX0_sourcesTo_154 ?_
      refine rw_aload_n F dX0_sourcesTo_155 rfl ?_
      refine rw_dup F dX0_sourcesTo_156 rfl ?_
      refine rx_g_waiting F dX0_sourcesTo_157 ?_
      refine rw_as (show _ = nI n from (congrFun (rt_u_n _ _ _ (by decide)) 0).trans h11) ?_
      refine rw_iconst (v := nI 1) F dX0_sourcesTo_160 (by decide) ?_
      refine rw_iadd F dX0_sourcesTo_161 ?_
      refine rw_as (show _ = nI (n + 1) from nI_add n 1) ?_
      refine rx_p_waiting F dX0_sourcesTo_162 ?_
      refine rw_iinc1 F dX0_sourcesTo_165 rfl (by decide) ?_
      refine rw_goto (tgt := 123) F dX0_sourcesTo_168 (by decide) ?_
      refine ih (h + 1) (n + 1) _ (by omega) (fun k k1 k2 => ?_) (rt_u_s _ _ _ _) ?_
      · rw [rt_u_n _ _ _ k1, rt_u_n _ _ _ k2]; exact hf k k1 k2
      · refine rt_wg_push hg c127 hb (fun j => ?_)
        rw [rt_u_n _ _ _ (by decide), rt_u_k]
        rfl
    · refine rw_goto (tgt := 165) F dX0_sourcesTo_140 (by decide) ?_
      refine rw_iinc1 F dX0_sourcesTo_165 rfl (by decide) ?_
      refine rw_goto (tgt := 123) F dX0_sourcesTo_168 (by decide) ?_
      exact ih (h + 1) n u (by omega) hf h11 (rt_wg_skip hg (rt_b_0.mp c137))
set_option maxHeartbeats 4000000 in
set_option maxRecDepth 100000 in
/-- while groups wait -/
theorem kX_src_loop (F : rw_F p s m args meth c D A (rx_t dA) cX0_sourcesTo 7 RX0) {hist : Nat → rt_S} {L Ld g0 : Nat} {st : rt_S} (hI : rx_J hist L Ld st) (hg0 : g0 < 18)
    (hx : ∀ (u : rt_S) (x : Int32) (v3 v4 v5 v6 : Option Value), (∀ k, k ≠ 11 → k ≠ 12 → u k = st k) → rt_wl (hist Ld) g0 (bt x) (u 12) 0 → rw_W p l e rr_X_sourcesTo s m args below meth c D A 7 0 0 Q (rx_w dA h0 ad u) [some (.ref h0), some (.int (nI g0)), some (.int x), v3, v4, v5, v6] 174 []) :
    ∀ (N n : Nat) (u : rt_S) (x : Int32) (v3 v4 v5 v6 : Option Value), n + 18 ≤ N + rt_c (bt x) 18 → (∀ k, k ≠ 11 → k ≠ 12 → u k = st k) → u 11 0 = nI n → rt_wl (hist Ld) g0 (bt x) (u 12) n → rw_W p l e rr_X_sourcesTo s m args below meth c D A 7 0 0 Q (rx_w dA h0 ad u) [some (.ref h0), some (.int (nI g0)), some (.int x), v3, v4, v5, v6] 41 [] := by
  intro N
  induction N with
  | zero =>
    intro n u x v3 v4 v5 v6 hN hf h11 hl
    have h18 := rt_c_le (bt x) 18
    obtain rfl : n = 0 := by omega
    refine rw_aload_n F dX0_sourcesTo_41 rfl ?_
    refine rx_g_waiting F dX0_sourcesTo_42 ?_
    refine rw_as h11 ?_
    refine rw_if_le (tgt := 174) F dX0_sourcesTo_45 (by decide) (fun c45 => ?_) (fun c45 => ?_)
    · exact hx u x v3 v4 v5 v6 hf hl
    · exact absurd (by decide) c45
  | succ N ih =>
    intro n u x v3 v4 v5 v6 hN hf h11 hl
    have h18 := rt_c_le (bt x) 18
    have hn5 := hl.2.2.2.2
    refine rw_aload_n F dX0_sourcesTo_41 rfl ?_
    refine rx_g_waiting F dX0_sourcesTo_42 ?_
    refine rw_as h11 ?_
    cases n with
    | zero =>
      refine rw_if_le (tgt := 174) F dX0_sourcesTo_45 (by decide) (fun c45 => ?_) (fun c45 => ?_)
      · exact hx u x v3 v4 v5 v6 hf hl
      · exact absurd (by decide) c45
    | succ n =>
      refine rw_if_le (tgt := 174) F dX0_sourcesTo_45 (by decide) (fun c45 => ?_) (fun c45 => ?_)
      · exact absurd c45 (nI_nle (by omega) (by omega))
      obtain ⟨b, hb18, hwb, hfb⟩ := rt_wl_top hl
      refine rw_aload_n F dX0_sourcesTo_48 rfl ?_
      refine rw_dup F dX0_sourcesTo_49 rfl ?_
      refine rx_g_waiting F dX0_sourcesTo_50 ?_
      refine rw_as h11 ?_
      refine rw_iconst (v := nI 1) F dX0_sourcesTo_53 (by decide) ?_
      refine rw_isub F dX0_sourcesTo_54 ?_
      refine rw_as (show _ = nI n from pk_sub (by omega : 1 ≤ n + 1)) ?_
      refine rx_p_waiting F dX0_sourcesTo_55 ?_
      have hf1 : ∀ k, k ≠ 11 → rt_u u 11 0 (nI n) k = u k := fun k hk => rt_u_n _ _ _ hk
      refine rw_aload_n F dX0_sourcesTo_58 rfl ?_
      refine rx_g_waitGroup F dX0_sourcesTo_59 ?_
      refine rw_aload_n F dX0_sourcesTo_62 rfl ?_
      refine rx_g_waiting F dX0_sourcesTo_63 ?_
      refine rw_as (show _ = nI n from rt_u_s _ _ _ _) ?_
      refine rx_l_waitGroup F rfl (by omega) dX0_sourcesTo_66 ?_
      refine rw_as (show _ = nI b from (congrFun (hf1 12 (by decide)) n).trans hwb) ?_
      refine rw_istore_n F dX0_sourcesTo_67 (by decide) ?_
      refine rw_aload_n F dX0_sourcesTo_68 rfl ?_
      refine rx_g_sourcesOf F dX0_sourcesTo_69 ?_
      refine rw_iload_n F dX0_sourcesTo_72 rfl ?_
      refine rx_l_sourcesOf F rfl hb18 dX0_sourcesTo_73 ?_
      refine rw_as (show _ = st 10 b from congrFun ((hf1 10 (by decide)).trans (hf 10 (by decide) (by decide))) b) ?_
      refine rw_istore F dX0_sourcesTo_74 (by decide) ?_
      refine rw_iload F dX0_sourcesTo_76 rfl ?_
      refine rw_bipush (v := nI 18) F dX0_sourcesTo_78 (by decide) ?_
      refine rw_ishr F dX0_sourcesTo_80 ?_
      refine rw_iconst (v := nI 1) F dX0_sourcesTo_81 (by decide) ?_
      refine rw_iand F dX0_sourcesTo_82 ?_
      refine rw_as (rt_get (st 10 b) (by omega)) ?_
      refine rw_if_eq (tgt := 97) F dX0_sourcesTo_83 (by decide) (fun c83 => ?_) (fun c83 => ?_)
      · refine rw_aload_n F dX0_sourcesTo_97 rfl ?_
        refine rx_g_nested F dX0_sourcesTo_98 ?_
        refine rw_iload_n F dX0_sourcesTo_101 rfl ?_
        refine rx_l_nested F rfl hb18 dX0_sourcesTo_102 ?_
        refine rw_as (show _ = st 1 b from congrFun ((hf1 1 (by decide)).trans (hf 1 (by decide) (by decide))) b) ?_
        refine rw_aload_n F dX0_sourcesTo_103 rfl ?_
        refine rw_iload_n F dX0_sourcesTo_104 rfl ?_
        refine rw_calli F (cX_byRules hb18) (cwV 1 F.2.2.2.2.1 (lw_V q133 q135 qs9 q20 q136) rfl rfl rfl dd_X_byRules ⟨Nat.le_of_ble_eq_true rfl, Nat.le_of_ble_eq_true rfl⟩) rfl rfl rfl rfl rfl (Nat.le_of_ble_eq_true rfl) dX0_sourcesTo_105 ⟨Nat.zero_le _, Nat.zero_le _⟩ (fun r105 u105 h105 => ?_)
        obtain ⟨rfl, rfl⟩ := h105
        refine rw_as (show _ = st 2 (b % 3) <<< (nI (b / 3 * 3) &&& 31) by rw [hf1 2 (by decide), hf 2 (by decide) (by decide)]) ?_
        refine rw_ior F dX0_sourcesTo_108 ?_
        refine rw_iload_n F dX0_sourcesTo_109 rfl ?_
        refine rw_iconst (v := (-1)) F dX0_sourcesTo_110 (by decide) ?_
        refine rw_ixor F dX0_sourcesTo_111 ?_
        refine rw_iand F dX0_sourcesTo_112 ?_
        refine rw_nm (fun fr efr => ?_)
        have hfr : rt_fr (hist Ld) b (bt x) (bt fr) := by
          rw [efr]
          exact rt_fr_of (hI.2.2.2.2.2.2.1 Ld hI.2.1) hI.2.2.2.2.1 hb18
        refine rw_istore F dX0_sourcesTo_113 (by decide) ?_
        refine rw_iload_n F dX0_sourcesTo_115 rfl ?_
        refine rw_iload F dX0_sourcesTo_116 rfl ?_
        refine rw_ior F dX0_sourcesTo_118 ?_
        refine rw_istore_n F dX0_sourcesTo_119 (by decide) ?_
        refine rw_iconst (v := nI 0) F dX0_sourcesTo_120 (by decide) ?_
        refine rw_istore F dX0_sourcesTo_121 (by decide) ?_
        refine kX_src_push F (st := st) hl hfr (fun n2 u2 hf2 h11b hg => ?_) 18 0 n (rt_u u 11 0 (nI n)) (by omega) (fun k k1 k2 => (hf1 k k1).trans (hf k k1 k2)) (rt_u_s _ _ _ _) (by rw [hf1 12 (by decide)]; exact rt_wg_0 hl hb18 hwb)
        refine rw_goto (tgt := 41) F dX0_sourcesTo_171 (by decide) ?_
        obtain ⟨hl2, hc2⟩ := rt_wg_end hl hb18 hfb hfr hg (f' := bt (x ||| fr)) (fun i => b_or x fr i)
        exact ih n2 u2 (x ||| fr) _ _ _ _ (by omega) hf2 h11b hl2
      · have hca := hI.2.2.2.2.2.2.2 b hb18
        have hk := rt_ca_yes hca (rt_b_n0 c83)
        refine rw_iload_n F dX0_sourcesTo_86 rfl ?_
        refine rw_iload F dX0_sourcesTo_87 rfl ?_
        refine rw_ldc (v := 262143) F q132 dX0_sourcesTo_89 ?_
        refine rw_iand F dX0_sourcesTo_91 ?_
        refine rw_ior F dX0_sourcesTo_92 ?_
        refine rw_istore_n F dX0_sourcesTo_93 (by decide) ?_
        refine rw_goto (tgt := 41) F dX0_sourcesTo_94 (by decide) ?_
        refine ih n (rt_u u 11 0 (nI n)) (x ||| (st 10 b &&& 262143)) _ _ _ _ ?_ (fun k k1 k2 => (hf1 k k1).trans (hf k k1 k2)) (rt_u_s _ _ _ _) ?_
        · have h1 : rt_c (bt x) 18 ≤ rt_c (bt (x ||| (st 10 b &&& 262143))) 18 := rt_c_mono 18 (fun i _ h => by rw [b_or, h, Bool.true_or])
          omega
        · rw [hf1 12 (by decide)]
          refine rt_wl_known hl hb18 hwb hfb (fun i => ?_)
          rw [b_or]
          rcases Nat.lt_or_ge i 32 with h | h
          · rw [hk i h]
          · rw [b_big h, b_big h, decide_eq_false (by omega)]; rfl
set_option maxHeartbeats 4000000 in
set_option maxRecDepth 100000 in
theorem cX_sourcesTo {hist : Nat → rt_S} {L Ld g : Nat} {st : rt_S} (hI : rx_I hist L Ld st) (hg : g < 18) : rw_Mi l D (rx_t dA) (rx_w dA h0 ad) yX0_sourcesTo cX0_sourcesTo 7 (some .int) rr_X_sourcesTo h0 [.int (nI g)] st (fun r u => r = sp_src (hist Ld) g ∧ rx_I hist L Ld u ∧ u 13 = st 13) := by
  refine rw_Mi.of (own := RX0) (lv := [some (.ref h0), some (.int (nI g)), none, none, none, none, none]) (by decide) rfl 5 (Nat.le_of_ble_eq_true rfl) rfl rfl (fun p e s m below meth c A F hr => ?_)
  have hca := hI.1.2.2.2.2.2.2.2 g hg
  refine rw_aload_n F dX0_sourcesTo_0 rfl ?_
  refine rx_g_sourcesOf F dX0_sourcesTo_1 ?_
  refine rw_iload_n F dX0_sourcesTo_4 rfl ?_
  refine rx_l_sourcesOf F rfl hg dX0_sourcesTo_5 ?_
  refine rw_bipush (v := nI 18) F dX0_sourcesTo_6 (by decide) ?_
  refine rw_ishr F dX0_sourcesTo_8 ?_
  refine rw_iconst (v := nI 1) F dX0_sourcesTo_9 (by decide) ?_
  refine rw_iand F dX0_sourcesTo_10 ?_
  refine rw_as (rt_get (st 10 g) (by omega)) ?_
  refine rw_if_eq (tgt := 24) F dX0_sourcesTo_11 (by decide) (fun c11 => ?_) (fun c11 => ?_)
  · refine rw_iconst (v := nI 1) F dX0_sourcesTo_24 (by decide) ?_
    refine rw_iload_n F dX0_sourcesTo_25 rfl ?_
    refine rw_ishl F dX0_sourcesTo_26 ?_
    refine rw_istore_n F dX0_sourcesTo_27 (by decide) ?_
    refine rw_aload_n F dX0_sourcesTo_28 rfl ?_
    refine rw_iconst (v := nI 1) F dX0_sourcesTo_29 (by decide) ?_
    refine rx_p_waiting F dX0_sourcesTo_30 ?_
    refine rw_aload_n F dX0_sourcesTo_33 rfl ?_
    refine rx_g_waitGroup F dX0_sourcesTo_34 ?_
    refine rw_iconst (v := nI 0) F dX0_sourcesTo_37 (by decide) ?_
    refine rw_iload_n F dX0_sourcesTo_38 rfl ?_
    refine rw_i2b F dX0_sourcesTo_39 (rt_i2b _ (by omega)) ?_
    refine rx_s_waitGroup F rfl (by omega) rfl (by omega) dX0_sourcesTo_40 ?_
    have hf : ∀ k, k ≠ 11 → k ≠ 12 → rt_u (rt_u st 11 0 (nI 1)) 12 0 (nI g) k = st k := fun k k1 k2 => by rw [rt_u_n _ _ _ k2, rt_u_n _ _ _ k1]
    refine kX_src_loop F hI.1 hg (fun u x v3 v4 v5 v6 hu hl => ?_) 100 1 (rt_u (rt_u st 11 0 (nI 1)) 12 0 (nI g)) (nI 1 <<< (nI g &&& 31)) none none none none (by omega) hf (by rw [rt_u_n _ _ _ (by decide)]; exact rt_u_s _ _ _ _) (rt_wl_0 hg (fun i => rt_shl1a (by omega)) (rt_u_s _ _ _ _))
    have hbits : ∀ i, i < 32 → bt x i = (decide (i < 18) && rt_rb (hist Ld) i g) := fun i _ => rt_wl_end hl i
    refine rw_aload_n F dX0_sourcesTo_174 rfl ?_
    refine rx_g_sourcesOf F dX0_sourcesTo_175 ?_
    refine rw_iload_n F dX0_sourcesTo_178 rfl ?_
    refine rw_iload_n F dX0_sourcesTo_179 rfl ?_
    refine rw_ldc (v := 262144) F q137 dX0_sourcesTo_180 ?_
    refine rw_ior F dX0_sourcesTo_182 ?_
    refine rx_s_sourcesOf F rfl hg dX0_sourcesTo_183 ?_
    refine rw_iload_n F dX0_sourcesTo_184 rfl ?_
    refine rw_ret F hr rfl ⟨rt_of_eq (by decide) hbits, ⟨rx_J_10 (rx_J_of hI.1 (fun k _ k1 k2 _ => hu k k1 k2)) (rt_ca_mk hbits), ?_⟩, ?_⟩ dX0_sourcesTo_185
    · rw [rt_u_n _ _ _ (by decide), hu 3 (by decide) (by decide)]; exact hI.2
    · rw [rt_u_n _ _ _ (by decide)]; exact hu 13 (by decide) (by decide)
  · refine rw_aload_n F dX0_sourcesTo_14 rfl ?_
    refine rx_g_sourcesOf F dX0_sourcesTo_15 ?_
    refine rw_iload_n F dX0_sourcesTo_18 rfl ?_
    refine rx_l_sourcesOf F rfl hg dX0_sourcesTo_19 ?_
    refine rw_ldc (v := 262143) F q132 dX0_sourcesTo_20 ?_
    refine rw_iand F dX0_sourcesTo_22 ?_
    exact rw_ret F hr rfl ⟨rt_of_eq (by decide) (rt_ca_yes hca (rt_b_n0 c11)), hI, rfl⟩ dX0_sourcesTo_23
set_option maxHeartbeats 4000000 in
set_option maxRecDepth 100000 in
theorem kX_mem_loop (F : rw_F p s m args meth c D A (rx_t dA) cX0_membersOf 5 RX0) {S st : rt_S} {g0 : Nat} {v1 : Option Value} (hA : rx_A S st)
    (hx : ∀ x : Int32, (∀ i, i < 32 → (bt x i = true ↔ ∃ h, h < 18 ∧ rt_rb S h g0 = true ∧ bt (S 0 h) i = true)) → rw_W p l e R s m args below meth c D A 5 0 0 Q (rx_w dA h0 ad (st)) [some (.ref h0), v1, some (.int (sp_src S g0)), some (.int x), some (.int (nI 18))] 43 []) :
    ∀ (n j : Nat) (x : Int32), j + n = 18 → (∀ i, i < 32 → (bt x i = true ↔ ∃ h, h < j ∧ rt_rb S h g0 = true ∧ bt (S 0 h) i = true)) → rw_W p l e R s m args below meth c D A 5 0 0 Q (rx_w dA h0 ad (st)) [some (.ref h0), v1, some (.int (sp_src S g0)), some (.int x), some (.int (nI j))] 11 [] := by
  intro n
  induction n with
  | zero =>
    intro j x hj hb
    obtain rfl : j = 18 := by omega
    refine rw_iload F dX0_membersOf_11 rfl ?_
    refine rw_bipush (v := nI 18) F dX0_membersOf_13 (by decide) ?_
    refine rw_icmp_ge_N (tgt := 43) F dX0_membersOf_15 (by decide) (by omega) (by omega) (fun c15 => ?_) (fun c15 => ?_)
    · exact hx x hb
    · exact absurd c15 (by omega)
  | succ n ih =>
    intro j x hj hb
    have hsb : bt (sp_src S g0) j = rt_rb S j g0 := by
      unfold sp_src
      rw [rt_of_bt _ (by omega) 18 (by decide), decide_eq_true (by omega), Bool.true_and]
    refine rw_iload F dX0_membersOf_11 rfl ?_
    refine rw_bipush (v := nI 18) F dX0_membersOf_13 (by decide) ?_
    refine rw_icmp_ge_N (tgt := 43) F dX0_membersOf_15 (by decide) (by omega) (by omega) (fun c15 => ?_) (fun c15 => ?_)
    · exact absurd c15 (by omega)
    refine rw_iload_n F dX0_membersOf_18 rfl ?_
    refine rw_iload F dX0_membersOf_19 rfl ?_
    refine rw_ishr F dX0_membersOf_21 ?_
    refine rw_iconst (v := nI 1) F dX0_membersOf_22 (by decide) ?_
    refine rw_iand F dX0_membersOf_23 ?_
    refine rw_as (rt_get _ (by omega)) ?_
    refine rw_if_eq (tgt := 37) F dX0_membersOf_24 (by decide) (fun c24 => ?_) (fun c24 => ?_)
    · have h0 : rt_rb S j g0 = false := hsb.symm.trans (rt_b_0.mp c24)
      refine rw_iinc1 F dX0_membersOf_37 rfl (by decide) ?_
      refine rw_goto (tgt := 11) F dX0_membersOf_40 (by decide) ?_
      refine ih (j + 1) x (by omega) (fun i hi => (hb i hi).trans ⟨fun ⟨h, h1, h2⟩ => ⟨h, by omega, h2⟩, fun ⟨h, h1, h2, h3⟩ => ?_⟩)
      by_cases e : h = j
      · subst e; rw [h0] at h2; cases h2
      · exact ⟨h, by omega, h2, h3⟩
    · have h1 : rt_rb S j g0 = true := hsb.symm.trans (rt_b_n0 c24)
      refine rw_iload_n F dX0_membersOf_27 rfl ?_
      refine rw_aload_n F dX0_membersOf_28 rfl ?_
      refine rx_g_entered F dX0_membersOf_29 ?_
      refine rw_iload F dX0_membersOf_32 rfl ?_
      refine rx_l_entered F rfl c15 dX0_membersOf_34 ?_
      refine rw_as (hA 0 j (Or.inl ⟨by omega, c15⟩)) ?_
      refine rw_ior F dX0_membersOf_35 ?_
      refine rw_istore_n F dX0_membersOf_36 (by decide) ?_
      refine rw_iinc1 F dX0_membersOf_37 rfl (by decide) ?_
      refine rw_goto (tgt := 11) F dX0_membersOf_40 (by decide) ?_
      refine ih (j + 1) (x ||| S 0 j) (by omega) (fun i hi => ?_)
      rw [b_or, Bool.or_eq_true, hb i hi]
      constructor
      · rintro (⟨h, q1, q2⟩ | q)
        · exact ⟨h, by omega, q2⟩
        · exact ⟨j, by omega, h1, q⟩
      · rintro ⟨h, q1, q2, q3⟩
        by_cases e : h = j
        · subst e; exact Or.inr q3
        · exact Or.inl ⟨h, by omega, q2, q3⟩
set_option maxHeartbeats 4000000 in
set_option maxRecDepth 100000 in
theorem cX_membersOf {hist : Nat → rt_S} {L Ld g : Nat} {st : rt_S} (hI : rx_I hist L Ld st) (hg : g < 18) : rw_Mi l D (rx_t dA) (rx_w dA h0 ad) yX0_membersOf cX0_membersOf 5 (some .int) rr_X_membersOf h0 [.int (nI g)] st (fun r u => r = sp_mem (hist Ld) g ∧ rx_I hist L Ld u ∧ u 13 = st 13) := by
  refine rw_Mi.of (own := RX0) (lv := [some (.ref h0), some (.int (nI g)), none, none, none]) (by decide) rfl 3 (Nat.le_of_ble_eq_true rfl) rfl rfl (fun p e s m below meth c A F hr => ?_)
  refine rw_aload_n F dX0_membersOf_0 rfl ?_
  refine rw_iload_n F dX0_membersOf_1 rfl ?_
  refine rw_calli F (cX_sourcesTo hI hg) (cwV 1 F.2.2.2.2.1 (lw_V q128 q130 qs8 q20 q131) rfl rfl rfl dd_X_sourcesTo ⟨Nat.le_of_ble_eq_true rfl, Nat.le_of_ble_eq_true rfl⟩) rfl rfl rfl rfl rfl (Nat.le_of_ble_eq_true rfl) dX0_membersOf_2 ⟨Nat.zero_le _, Nat.zero_le _⟩ (fun r2 u2 h2 => ?_)
  obtain ⟨rfl, hI2, h13⟩ := h2
  refine rw_istore_n F dX0_membersOf_5 (by decide) ?_
  refine rw_iconst (v := nI 0) F dX0_membersOf_6 (by decide) ?_
  refine rw_istore_n F dX0_membersOf_7 (by decide) ?_
  refine rw_iconst (v := nI 0) F dX0_membersOf_8 (by decide) ?_
  refine rw_istore F dX0_membersOf_9 (by decide) ?_
  refine kX_mem_loop F hI2.1.2.2.2.2.1 (fun x hb => ?_) 18 0 (nI 0) (by omega) (fun i hi => ⟨fun h => ?_, fun ⟨h, h1, _⟩ => by omega⟩)
  · refine rw_iload_n F dX0_membersOf_43 rfl ?_
    refine rw_ret F hr rfl ⟨rt_of_eq (by decide) (fun i hi => ?_), hI2, h13⟩ dX0_membersOf_44
    rw [decide_eq_true hi, Bool.true_and]
    exact rt_b_eq (fun h => rt_m_iff.mpr (by obtain ⟨h, q1, q2, q3⟩ := (hb i hi).mp h; exact ⟨h, q1, rt_rb_iff.mp q2, q3⟩)) (fun h => (hb i hi).mpr (by obtain ⟨h, q1, q2, q3⟩ := rt_m_iff.mp h; exact ⟨h, q1, rt_rb_iff.mpr q2, q3⟩))
  · rw [rt_n0, b_0] at h; cases h
end XT
end
section
/-! RelationTuples: its public methods -/
set_option maxRecDepth 100000
theorem rt_b_iff {b : Bool} : b = true ↔ ¬ rt_b b = 0 := by cases b <;> decide
theorem sp_mem_bt (S : rt_S) (g : Nat) {i : Nat} (hi : i < 32) : bt (sp_mem S g) i = rt_m S g i := by
  unfold sp_mem
  rw [rt_of_bt _ hi 32 (by decide), decide_eq_true hi, Bool.true_and]
theorem rt_bx (a b : Bool) : rt_b (a ^^ b) = nI (sp_x b a) := by cases a <;> cases b <;> rfl
theorem rt_old1 (L : Nat) : nI L - nI 8 + nI 1 = nI (L + 1) - nI 8 := by
  rw [← nI_add L 1]
  grind
theorem rt_old2 {L f : Nat} (hL : L < 1000) (hf : f < 1000) : nI L - nI 8 + nI 1 ≤ nI f ↔ L ≤ f + 7 := by
  rw [rt_old1, Int32.le_iff_toInt_le, pk_sub_toInt (by omega) (by omega), nI_toInt (by omega)]
  omega
theorem rt_old3 {L : Nat} (h7 : 7 ≤ L) : nI L - nI 8 + nI 1 = nI (L - 7) := by
  rw [rt_old1, pk_sub (by omega : 8 ≤ L + 1)]
  rfl
theorem rx_I4 {hist : Nat → rt_S} {L Ld : Nat} {st : rt_S} (h : rx_I hist L Ld st) : st 4 0 = nI L := h.1.2.2.2.1
theorem rx_IE {hist : Nat → rt_S} {L Ld : Nat} {st : rt_S} (h : rx_I hist L Ld st) : rx_E hist L st := ⟨Ld, h⟩
theorem sp_h_f {ok : Bool} {hist : Nat → rt_S} {L so : Nat} {pl pa : Int32} {b : Bool} (h : ok = false) : sp_h ok hist L so pl pa b = hist := by rw [h]; rfl
theorem sp_h_t {ok : Bool} {hist : Nat → rt_S} {L so pl pa : Nat} {b : Bool} (h : ok = true) (h1 : pl < 1000) (h2 : pa < 1000) : sp_h ok hist L so (nI pl) (nI pa) b = va_up hist (L + 1) (rt_ap (hist L) so pl pa b) := by
  rw [h, show sp_h true hist L so (nI pl) (nI pa) b = va_up hist (L + 1) (rt_ap (hist L) so (nI pl).toNatClampNeg (nI pa).toNatClampNeg b) from rfl, rt_cl0 h1, rt_cl0 h2]
theorem sp_bad {ok : Bool} {hist : Nat → rt_S} {L so : Nat} {pl pa : Int32} {b : Bool} {u : rt_S} (h : ok = false) (hE : rx_E hist L u) : (-1 : Int32) = sp_r ok L ∧ rx_E (sp_h ok hist L so pl pa b) (sp_L ok L) u := by
  subst h
  exact ⟨rfl, hE⟩
theorem sp_good {ok : Bool} {hist : Nat → rt_S} {L so pl pa : Nat} {b : Bool} {u : rt_S} (h : ok = true) (h1 : pl < 1000) (h2 : pa < 1000) (hI : rx_I (va_up hist (L + 1) (rt_ap (hist L) so pl pa b)) (L + 1) (L + 1) u) : nI (L + 1) = sp_r ok L ∧ rx_E (sp_h ok hist L so (nI pl) (nI pa) b) (sp_L ok L) u := by
  rw [sp_h_t h h1 h2]
  subst h
  exact ⟨rfl, L + 1, hI⟩
section XP
variable {p : Program} {l : Launch} {e : Env} {R : Room} {s : State} {m : MethodId} {args : Array Value} {below : List Frame} {meth : Method} {c : Code} {D : va_G} {A : Nat → Prop} {dA : Nat → ClassId} {h0 : Nat} {ad : Nat → Nat} {Q : State → Prop}
set_option maxHeartbeats 4000000 in
set_option maxRecDepth 100000 in
theorem cX_enter {hist : Nat → rt_S} {L : Nat} {st : rt_S} (hE : rx_E hist L st) (hL : L < 999) (q g : Int32) (b : Bool) : rw_Mi l D (rx_t dA) (rx_w dA h0 ad) yX0_enter cX0_enter 4 (some .int) rr_X_enter h0 [.int q, .int g, .int (rt_b b)] st (fun r u => r = sp_r (rt_lt q 6 && rt_lt g 18) L ∧ rx_E (sp_h (rt_lt q 6 && rt_lt g 18) hist L 0 g q b) (sp_L (rt_lt q 6 && rt_lt g 18) L) u) := by
  refine rw_Mi.of (own := RX0) (lv := [some (.ref h0), some (.int q), some (.int g), some (.int (rt_b b))]) (by decide) rfl 0 (Nat.le_of_ble_eq_true rfl) rfl rfl (fun p e s m below meth c A F hr => ?_)
  obtain ⟨Ld, hI⟩ := hE
  refine rw_aload_n F dX0_enter_0 rfl ?_
  refine rw_iload_n F dX0_enter_1 rfl ?_
  refine rw_calli F (cX_isPerson q) (cwV 1 F.2.2.2.2.1 (lw_V q80 q82 qs0 q20 q83) rfl rfl rfl dd_X_isPerson ⟨Nat.le_of_ble_eq_true rfl, Nat.le_of_ble_eq_true rfl⟩) rfl rfl rfl rfl rfl (Nat.le_of_ble_eq_true rfl) dX0_enter_2 ⟨Nat.zero_le _, Nat.zero_le _⟩ (fun r2 u2 h2 => ?_)
  obtain ⟨rfl, rfl⟩ := h2
  refine rw_if_eq (tgt := 16) F dX0_enter_5 (by decide) (fun c5 => ?_) (fun c5 => ?_)
  · refine rw_iconst (v := (-1)) F dX0_enter_16 (by decide) ?_
    exact rw_ret F hr rfl (sp_bad (by rw [rt_b_0.mp c5]; rfl) (rx_IE hI)) dX0_enter_17
  refine rw_aload_n F dX0_enter_8 rfl ?_
  refine rw_iload_n F dX0_enter_9 rfl ?_
  refine rw_calli F (cX_isGroup g) (cwV 1 F.2.2.2.2.1 (lw_V q84 q86 qs1 q20 q87) rfl rfl rfl dd_X_isGroup ⟨Nat.le_of_ble_eq_true rfl, Nat.le_of_ble_eq_true rfl⟩) rfl rfl rfl rfl rfl (Nat.le_of_ble_eq_true rfl) dX0_enter_10 ⟨Nat.zero_le _, Nat.zero_le _⟩ (fun r10 u10 h10 => ?_)
  obtain ⟨rfl, rfl⟩ := h10
  refine rw_if_ne (tgt := 18) F dX0_enter_13 (by decide) (fun c13 => ?_) (fun c13 => ?_)
  · have v1 := rt_b_n0 c5
    have v2 := rt_b_n0 c13
    obtain ⟨q, hq, rfl⟩ := rt_lt_of v1 (by omega)
    obtain ⟨g, hg, rfl⟩ := rt_lt_of v2 (by omega)
    refine rw_aload_n F dX0_enter_18 rfl ?_
    refine rw_aload_n F dX0_enter_19 rfl ?_
    refine rx_g_latestState F dX0_enter_20 ?_
    refine rw_as (rx_I4 hI) ?_
    refine rw_callv F (cX_load hI (Nat.le_refl L) (by omega)) (cwV 1 F.2.2.2.2.1 (lw_V q88 q90 qs2 q20 q91) rfl rfl rfl dd_X_load ⟨Nat.le_of_ble_eq_true rfl, Nat.le_of_ble_eq_true rfl⟩) rfl rfl rfl rfl rfl (Nat.le_of_ble_eq_true rfl) dX0_enter_23 ⟨Nat.zero_le _, Nat.zero_le _⟩ (fun u23 h23 => ?_)
    refine rw_aload_n F dX0_enter_26 rfl ?_
    refine rw_iconst (v := nI 0) F dX0_enter_27 (by decide) ?_
    refine rw_iload_n F dX0_enter_28 rfl ?_
    refine rw_iload_n F dX0_enter_29 rfl ?_
    refine rw_aload_n F dX0_enter_30 rfl ?_
    refine rx_g_entered F dX0_enter_31 ?_
    refine rw_iload_n F dX0_enter_34 rfl ?_
    refine rx_l_entered F rfl hg dX0_enter_35 ?_
    refine rw_iload_n F dX0_enter_36 rfl ?_
    refine rw_ishr F dX0_enter_37 ?_
    refine rw_iconst (v := nI 1) F dX0_enter_38 (by decide) ?_
    refine rw_iand F dX0_enter_39 ?_
    refine rw_as (rt_get _ (by omega)) ?_
    refine rw_bool F dX0_enter_40 dX0_enter_43 dX0_enter_44 dX0_enter_47 rfl rfl (by decide) (by decide) rfl (bt (u23 0 g) q) rt_b_iff ?_
    refine rw_iload_n F dX0_enter_48 rfl ?_
    refine rw_callv F (cX_noteChange b h23.1 hL (so := 0) (pa := q) (pl := g) ⟨by omega, by omega, hg, fun z => by omega⟩ rfl) (cwV 5 F.2.2.2.2.1 (lw_V q96 q98 qs4 q20 q99) rfl rfl rfl dd_X_noteChange ⟨Nat.le_of_ble_eq_true rfl, Nat.le_of_ble_eq_true rfl⟩) rfl rfl rfl rfl rfl (Nat.le_of_ble_eq_true rfl) dX0_enter_49 ⟨Nat.zero_le _, Nat.zero_le _⟩ (fun u49 h49 => ?_)
    refine rw_aload_n F dX0_enter_52 rfl ?_
    refine rx_g_latestState F dX0_enter_53 ?_
    refine rw_as (rx_I4 h49) ?_
    exact rw_ret F hr rfl (sp_good (by rw [v1, v2]; rfl) (by omega) (by omega) h49) dX0_enter_56
  · refine rw_iconst (v := (-1)) F dX0_enter_16 (by decide) ?_
    exact rw_ret F hr rfl (sp_bad (by rw [rt_b_0.mp c13, Bool.and_false]) (rx_IE hI)) dX0_enter_17
set_option maxHeartbeats 4000000 in
set_option maxRecDepth 100000 in
theorem cX_nest {hist : Nat → rt_S} {L : Nat} {st : rt_S} (hE : rx_E hist L st) (hL : L < 999) (q g : Int32) (b : Bool) : rw_Mi l D (rx_t dA) (rx_w dA h0 ad) yX0_nest cX0_nest 4 (some .int) rr_X_nest h0 [.int q, .int g, .int (rt_b b)] st (fun r u => r = sp_r (rt_lt q 18 && rt_lt g 18) L ∧ rx_E (sp_h (rt_lt q 18 && rt_lt g 18) hist L 1 g q b) (sp_L (rt_lt q 18 && rt_lt g 18) L) u) := by
  refine rw_Mi.of (own := RX0) (lv := [some (.ref h0), some (.int q), some (.int g), some (.int (rt_b b))]) (by decide) rfl 0 (Nat.le_of_ble_eq_true rfl) rfl rfl (fun p e s m below meth c A F hr => ?_)
  obtain ⟨Ld, hI⟩ := hE
  refine rw_aload_n F dX0_nest_0 rfl ?_
  refine rw_iload_n F dX0_nest_1 rfl ?_
  refine rw_calli F (cX_isGroup q) (cwV 1 F.2.2.2.2.1 (lw_V q84 q86 qs1 q20 q87) rfl rfl rfl dd_X_isGroup ⟨Nat.le_of_ble_eq_true rfl, Nat.le_of_ble_eq_true rfl⟩) rfl rfl rfl rfl rfl (Nat.le_of_ble_eq_true rfl) dX0_nest_2 ⟨Nat.zero_le _, Nat.zero_le _⟩ (fun r2 u2 h2 => ?_)
  obtain ⟨rfl, rfl⟩ := h2
  refine rw_if_eq (tgt := 16) F dX0_nest_5 (by decide) (fun c5 => ?_) (fun c5 => ?_)
  · refine rw_iconst (v := (-1)) F dX0_nest_16 (by decide) ?_
    exact rw_ret F hr rfl (sp_bad (by rw [rt_b_0.mp c5]; rfl) (rx_IE hI)) dX0_nest_17
  refine rw_aload_n F dX0_nest_8 rfl ?_
  refine rw_iload_n F dX0_nest_9 rfl ?_
  refine rw_calli F (cX_isGroup g) (cwV 1 F.2.2.2.2.1 (lw_V q84 q86 qs1 q20 q87) rfl rfl rfl dd_X_isGroup ⟨Nat.le_of_ble_eq_true rfl, Nat.le_of_ble_eq_true rfl⟩) rfl rfl rfl rfl rfl (Nat.le_of_ble_eq_true rfl) dX0_nest_10 ⟨Nat.zero_le _, Nat.zero_le _⟩ (fun r10 u10 h10 => ?_)
  obtain ⟨rfl, rfl⟩ := h10
  refine rw_if_ne (tgt := 18) F dX0_nest_13 (by decide) (fun c13 => ?_) (fun c13 => ?_)
  · have v1 := rt_b_n0 c5
    have v2 := rt_b_n0 c13
    obtain ⟨q, hq, rfl⟩ := rt_lt_of v1 (by omega)
    obtain ⟨g, hg, rfl⟩ := rt_lt_of v2 (by omega)
    refine rw_aload_n F dX0_nest_18 rfl ?_
    refine rw_aload_n F dX0_nest_19 rfl ?_
    refine rx_g_latestState F dX0_nest_20 ?_
    refine rw_as (rx_I4 hI) ?_
    refine rw_callv F (cX_load hI (Nat.le_refl L) (by omega)) (cwV 1 F.2.2.2.2.1 (lw_V q88 q90 qs2 q20 q91) rfl rfl rfl dd_X_load ⟨Nat.le_of_ble_eq_true rfl, Nat.le_of_ble_eq_true rfl⟩) rfl rfl rfl rfl rfl (Nat.le_of_ble_eq_true rfl) dX0_nest_23 ⟨Nat.zero_le _, Nat.zero_le _⟩ (fun u23 h23 => ?_)
    refine rw_aload_n F dX0_nest_26 rfl ?_
    refine rw_iconst (v := nI 1) F dX0_nest_27 (by decide) ?_
    refine rw_iload_n F dX0_nest_28 rfl ?_
    refine rw_iload_n F dX0_nest_29 rfl ?_
    refine rw_aload_n F dX0_nest_30 rfl ?_
    refine rx_g_nested F dX0_nest_31 ?_
    refine rw_iload_n F dX0_nest_34 rfl ?_
    refine rx_l_nested F rfl hg dX0_nest_35 ?_
    refine rw_iload_n F dX0_nest_36 rfl ?_
    refine rw_ishr F dX0_nest_37 ?_
    refine rw_iconst (v := nI 1) F dX0_nest_38 (by decide) ?_
    refine rw_iand F dX0_nest_39 ?_
    refine rw_as (rt_get _ (by omega)) ?_
    refine rw_bool F dX0_nest_40 dX0_nest_43 dX0_nest_44 dX0_nest_47 rfl rfl (by decide) (by decide) rfl (bt (u23 1 g) q) rt_b_iff ?_
    refine rw_iload_n F dX0_nest_48 rfl ?_
    refine rw_callv F (cX_noteChange b h23.1 hL (so := 1) (pa := q) (pl := g) ⟨by omega, by omega, hg, fun z => by omega⟩ rfl) (cwV 5 F.2.2.2.2.1 (lw_V q96 q98 qs4 q20 q99) rfl rfl rfl dd_X_noteChange ⟨Nat.le_of_ble_eq_true rfl, Nat.le_of_ble_eq_true rfl⟩) rfl rfl rfl rfl rfl (Nat.le_of_ble_eq_true rfl) dX0_nest_49 ⟨Nat.zero_le _, Nat.zero_le _⟩ (fun u49 h49 => ?_)
    refine rw_aload_n F dX0_nest_52 rfl ?_
    refine rx_g_latestState F dX0_nest_53 ?_
    refine rw_as (rx_I4 h49) ?_
    exact rw_ret F hr rfl (sp_good (by rw [v1, v2]; rfl) (by omega) (by omega) h49) dX0_nest_56
  · refine rw_iconst (v := (-1)) F dX0_nest_16 (by decide) ?_
    exact rw_ret F hr rfl (sp_bad (by rw [rt_b_0.mp c13, Bool.and_false]) (rx_IE hI)) dX0_nest_17
set_option maxHeartbeats 4000000 in
set_option maxRecDepth 100000 in
theorem cX_rule {hist : Nat → rt_S} {L : Nat} {st : rt_S} (hE : rx_E hist L st) (hL : L < 999) (q g : Int32) (b : Bool) : rw_Mi l D (rx_t dA) (rx_w dA h0 ad) yX0_rule cX0_rule 4 (some .int) rr_X_rule h0 [.int q, .int g, .int (rt_b b)] st (fun r u => r = sp_r (rt_lt q 3 && rt_lt g 3 && !decide (q = g)) L ∧ rx_E (sp_h (rt_lt q 3 && rt_lt g 3 && !decide (q = g)) hist L 2 g q b) (sp_L (rt_lt q 3 && rt_lt g 3 && !decide (q = g)) L) u) := by
  refine rw_Mi.of (own := RX0) (lv := [some (.ref h0), some (.int q), some (.int g), some (.int (rt_b b))]) (by decide) rfl 0 (Nat.le_of_ble_eq_true rfl) rfl rfl (fun p e s m below meth c A F hr => ?_)
  obtain ⟨Ld, hI⟩ := hE
  refine rw_iload_n F dX0_rule_0 rfl ?_
  refine rw_if_lt (tgt := 23) F dX0_rule_1 (by decide) (fun c1 => ?_) (fun c1 => ?_)
  · refine rw_iconst (v := (-1)) F dX0_rule_23 (by decide) ?_
    exact rw_ret F hr rfl (sp_bad (by rw [rt_lt_neg c1]; rfl) (rx_IE hI)) dX0_rule_24
  refine rw_iload_n F dX0_rule_4 rfl ?_
  refine rw_iconst (v := nI 2) F dX0_rule_5 (by decide) ?_
  refine rw_icmp_gt (tgt := 23) F dX0_rule_6 (by decide) (fun c6 => ?_) (fun c6 => ?_)
  · refine rw_iconst (v := (-1)) F dX0_rule_23 (by decide) ?_
    exact rw_ret F hr rfl (sp_bad (by rw [rt_lt_no2 c6 (by decide) (by decide)]; rfl) (rx_IE hI)) dX0_rule_24
  refine rw_iload_n F dX0_rule_9 rfl ?_
  refine rw_if_lt (tgt := 23) F dX0_rule_10 (by decide) (fun c10 => ?_) (fun c10 => ?_)
  · refine rw_iconst (v := (-1)) F dX0_rule_23 (by decide) ?_
    exact rw_ret F hr rfl (sp_bad (by rw [rt_lt_neg c10, Bool.and_false]; rfl) (rx_IE hI)) dX0_rule_24
  refine rw_iload_n F dX0_rule_13 rfl ?_
  refine rw_iconst (v := nI 2) F dX0_rule_14 (by decide) ?_
  refine rw_icmp_gt (tgt := 23) F dX0_rule_15 (by decide) (fun c15 => ?_) (fun c15 => ?_)
  · refine rw_iconst (v := (-1)) F dX0_rule_23 (by decide) ?_
    exact rw_ret F hr rfl (sp_bad (by rw [rt_lt_no2 (x := g) c15 (by decide) (by decide), Bool.and_false]; rfl) (rx_IE hI)) dX0_rule_24
  refine rw_iload_n F dX0_rule_18 rfl ?_
  refine rw_iload_n F dX0_rule_19 rfl ?_
  refine rw_icmp_ne (tgt := 25) F dX0_rule_20 (by decide) (fun c20 => ?_) (fun c20 => ?_)
  · have v1 : rt_lt q 3 = true := rt_lt_yes2 c1 c6 (by decide)
    have v2 : rt_lt g 3 = true := rt_lt_yes2 c10 c15 (by decide)
    have v3 : (!decide (q = g)) = true := by rw [decide_eq_false c20]; rfl
    obtain ⟨q, hq, rfl⟩ := rt_lt_of v1 (by omega)
    obtain ⟨g, hg, rfl⟩ := rt_lt_of v2 (by omega)
    refine rw_aload_n F dX0_rule_25 rfl ?_
    refine rw_aload_n F dX0_rule_26 rfl ?_
    refine rx_g_latestState F dX0_rule_27 ?_
    refine rw_as (rx_I4 hI) ?_
    refine rw_callv F (cX_load hI (Nat.le_refl L) (by omega)) (cwV 1 F.2.2.2.2.1 (lw_V q88 q90 qs2 q20 q91) rfl rfl rfl dd_X_load ⟨Nat.le_of_ble_eq_true rfl, Nat.le_of_ble_eq_true rfl⟩) rfl rfl rfl rfl rfl (Nat.le_of_ble_eq_true rfl) dX0_rule_30 ⟨Nat.zero_le _, Nat.zero_le _⟩ (fun u30 h30 => ?_)
    refine rw_aload_n F dX0_rule_33 rfl ?_
    refine rw_iconst (v := nI 2) F dX0_rule_34 (by decide) ?_
    refine rw_iload_n F dX0_rule_35 rfl ?_
    refine rw_iload_n F dX0_rule_36 rfl ?_
    refine rw_aload_n F dX0_rule_37 rfl ?_
    refine rx_g_ruledBy F dX0_rule_38 ?_
    refine rw_iload_n F dX0_rule_41 rfl ?_
    refine rx_l_ruledBy F rfl hg dX0_rule_42 ?_
    refine rw_iload_n F dX0_rule_43 rfl ?_
    refine rw_ishr F dX0_rule_44 ?_
    refine rw_iconst (v := nI 1) F dX0_rule_45 (by decide) ?_
    refine rw_iand F dX0_rule_46 ?_
    refine rw_as (rt_get _ (by omega)) ?_
    refine rw_bool F dX0_rule_47 dX0_rule_50 dX0_rule_51 dX0_rule_54 rfl rfl (by decide) (by decide) rfl (bt (u30 2 g) q) rt_b_iff ?_
    refine rw_iload_n F dX0_rule_55 rfl ?_
    refine rw_callv F (cX_noteChange b h30.1 hL (so := 2) (pa := q) (pl := g) ⟨by omega, by omega, by omega, fun z => ⟨hg, hq⟩⟩ rfl) (cwV 5 F.2.2.2.2.1 (lw_V q96 q98 qs4 q20 q99) rfl rfl rfl dd_X_noteChange ⟨Nat.le_of_ble_eq_true rfl, Nat.le_of_ble_eq_true rfl⟩) rfl rfl rfl rfl rfl (Nat.le_of_ble_eq_true rfl) dX0_rule_56 ⟨Nat.zero_le _, Nat.zero_le _⟩ (fun u56 h56 => ?_)
    refine rw_aload_n F dX0_rule_59 rfl ?_
    refine rx_g_latestState F dX0_rule_60 ?_
    refine rw_as (rx_I4 h56) ?_
    exact rw_ret F hr rfl (sp_good (by rw [v1, v2, v3]; rfl) (by omega) (by omega) h56) dX0_rule_63
  · refine rw_iconst (v := (-1)) F dX0_rule_23 (by decide) ?_
    exact rw_ret F hr rfl (sp_bad (by rw [decide_eq_true c20]; simp) (rx_IE hI)) dX0_rule_24
set_option maxHeartbeats 4000000 in
set_option maxRecDepth 100000 in
theorem cX_check {hist : Nat → rt_S} {L : Nat} {st : rt_S} (hE : rx_E hist L st) (t q g : Int32) : rw_Mi l D (rx_t dA) (rx_w dA h0 ad) yX0_check cX0_check 4 (some .int) rr_X_check h0 [.int t, .int q, .int g] st (fun r u => r = sp_check hist L t q g ∧ rx_E hist L u) := by
  refine rw_Mi.of (own := RX0) (lv := [some (.ref h0), some (.int t), some (.int q), some (.int g)]) (by decide) rfl 0 (Nat.le_of_ble_eq_true rfl) rfl rfl (fun p e s m below meth c A F hr => ?_)
  obtain ⟨Ld, hI⟩ := hE
  have hL := hI.1.1
  refine rw_aload_n F dX0_check_0 rfl ?_
  refine rw_iload_n F dX0_check_1 rfl ?_
  refine rw_calli F (cX_isPerson q) (cwV 1 F.2.2.2.2.1 (lw_V q80 q82 qs0 q20 q83) rfl rfl rfl dd_X_isPerson ⟨Nat.le_of_ble_eq_true rfl, Nat.le_of_ble_eq_true rfl⟩) rfl rfl rfl rfl rfl (Nat.le_of_ble_eq_true rfl) dX0_check_2 ⟨Nat.zero_le _, Nat.zero_le _⟩ (fun r2 u2 h2 => ?_)
  obtain ⟨rfl, rfl⟩ := h2
  refine rw_if_eq (tgt := 24) F dX0_check_5 (by decide) (fun c5 => ?_) (fun c5 => ?_)
  · refine rw_iconst (v := (-1)) F dX0_check_24 (by decide) ?_
    exact rw_ret F hr rfl ⟨(sp_q_bad (by rw [rt_b_0.mp c5]; rfl)).symm, rx_IE hI⟩ dX0_check_25
  refine rw_aload_n F dX0_check_8 rfl ?_
  refine rw_iload_n F dX0_check_9 rfl ?_
  refine rw_calli F (cX_isGroup g) (cwV 1 F.2.2.2.2.1 (lw_V q84 q86 qs1 q20 q87) rfl rfl rfl dd_X_isGroup ⟨Nat.le_of_ble_eq_true rfl, Nat.le_of_ble_eq_true rfl⟩) rfl rfl rfl rfl rfl (Nat.le_of_ble_eq_true rfl) dX0_check_10 ⟨Nat.zero_le _, Nat.zero_le _⟩ (fun r10 u10 h10 => ?_)
  obtain ⟨rfl, rfl⟩ := h10
  refine rw_if_eq (tgt := 24) F dX0_check_13 (by decide) (fun c13 => ?_) (fun c13 => ?_)
  · refine rw_iconst (v := (-1)) F dX0_check_24 (by decide) ?_
    exact rw_ret F hr rfl ⟨(sp_q_bad (by rw [rt_b_0.mp c13, Bool.and_false]; rfl)).symm, rx_IE hI⟩ dX0_check_25
  refine rw_aload_n F dX0_check_16 rfl ?_
  refine rw_iload_n F dX0_check_17 rfl ?_
  refine rw_calli F (cX_isState hL (rx_I4 hI) t) (cwV 1 F.2.2.2.2.1 (lw_V q116 q118 qs5 q20 q119) rfl rfl rfl dd_X_isState ⟨Nat.le_of_ble_eq_true rfl, Nat.le_of_ble_eq_true rfl⟩) rfl rfl rfl rfl rfl (Nat.le_of_ble_eq_true rfl) dX0_check_18 ⟨Nat.zero_le _, Nat.zero_le _⟩ (fun r18 u18 h18 => ?_)
  obtain ⟨rfl, rfl⟩ := h18
  refine rw_if_ne (tgt := 26) F dX0_check_21 (by decide) (fun c21 => ?_) (fun c21 => ?_)
  · have v1 := rt_b_n0 c5
    have v2 := rt_b_n0 c13
    have v3 := rt_b_n0 c21
    have hok : (rt_lt q 6 && rt_lt g 18 && rt_lt t (L + 1)) = true := by rw [v1, v2, v3]; rfl
    obtain ⟨q, hq, rfl⟩ := rt_lt_of v1 (by omega)
    obtain ⟨g, hg, rfl⟩ := rt_lt_of v2 (by omega)
    obtain ⟨t, ht, rfl⟩ := rt_lt_of v3 (by omega)
    refine rw_aload_n F dX0_check_26 rfl ?_
    refine rw_iload_n F dX0_check_27 rfl ?_
    refine rw_calli F (cX_isKept hL (rx_I4 hI) (nI t)) (cwV 1 F.2.2.2.2.1 (lw_V q120 q122 qs6 q20 q123) rfl rfl rfl dd_X_isKept ⟨Nat.le_of_ble_eq_true rfl, Nat.le_of_ble_eq_true rfl⟩) rfl rfl rfl rfl rfl (Nat.le_of_ble_eq_true rfl) dX0_check_28 ⟨Nat.zero_le _, Nat.zero_le _⟩ (fun r28 u28 h28 => ?_)
    obtain ⟨rfl, rfl⟩ := h28
    refine rw_as (congrArg rt_b (rt_kp_nI hL ht)) ?_
    refine rw_if_ne (tgt := 37) F dX0_check_31 (by decide) (fun c31 => ?_) (fun c31 => ?_)
    · have hk := of_decide_eq_true (rt_b_n0 c31)
      refine rw_aload_n F dX0_check_37 rfl ?_
      refine rw_iload_n F dX0_check_38 rfl ?_
      refine rw_callv F (cX_load hI (by omega) hk) (cwV 1 F.2.2.2.2.1 (lw_V q88 q90 qs2 q20 q91) rfl rfl rfl dd_X_load ⟨Nat.le_of_ble_eq_true rfl, Nat.le_of_ble_eq_true rfl⟩) rfl rfl rfl rfl rfl (Nat.le_of_ble_eq_true rfl) dX0_check_39 ⟨Nat.zero_le _, Nat.zero_le _⟩ (fun u39 h39 => ?_)
      refine rw_aload_n F dX0_check_42 rfl ?_
      refine rw_iload_n F dX0_check_43 rfl ?_
      refine rw_calli F (cX_membersOf h39.1 hg) (cwV 1 F.2.2.2.2.1 (lw_V q124 q126 qs7 q20 q127) rfl rfl rfl dd_X_membersOf ⟨Nat.le_of_ble_eq_true rfl, Nat.le_of_ble_eq_true rfl⟩) rfl rfl rfl rfl rfl (Nat.le_of_ble_eq_true rfl) dX0_check_44 ⟨Nat.zero_le _, Nat.zero_le _⟩ (fun r44 u44 h44 => ?_)
      obtain ⟨rfl, hI2, -⟩ := h44
      refine rw_iload_n F dX0_check_47 rfl ?_
      refine rw_ishr F dX0_check_48 ?_
      refine rw_iconst (v := nI 1) F dX0_check_49 (by decide) ?_
      refine rw_iand F dX0_check_50 ?_
      refine rw_as (rt_get _ (by omega)) ?_
      refine rw_ret F hr rfl ⟨?_, rx_IE hI2⟩ dX0_check_51
      rw [sp_mem_bt _ _ (by omega)]
      unfold sp_check
      rw [sp_q_ok hok (by omega) hk, rt_cl0 (by omega), rt_cl0 (by omega)]
    · have hk := of_decide_eq_false (rt_b_0.mp c31)
      refine rw_bipush (v := (-2)) F dX0_check_34 (by decide) ?_
      exact rw_ret F hr rfl ⟨(sp_q_gone hok (by omega) hk).symm, rx_IE hI⟩ dX0_check_36
  · refine rw_iconst (v := (-1)) F dX0_check_24 (by decide) ?_
    exact rw_ret F hr rfl ⟨(sp_q_bad (by rw [rt_b_0.mp c21, Bool.and_false])).symm, rx_IE hI⟩ dX0_check_25
set_option maxHeartbeats 4000000 in
set_option maxRecDepth 100000 in
theorem cX_members {hist : Nat → rt_S} {L : Nat} {st : rt_S} (hE : rx_E hist L st) (t g : Int32) : rw_Mi l D (rx_t dA) (rx_w dA h0 ad) yX0_members cX0_members 3 (some .int) rr_X_members h0 [.int t, .int g] st (fun r u => r = sp_members hist L t g ∧ rx_E hist L u) := by
  refine rw_Mi.of (own := RX0) (lv := [some (.ref h0), some (.int t), some (.int g)]) (by decide) rfl 0 (Nat.le_of_ble_eq_true rfl) rfl rfl (fun p e s m below meth c A F hr => ?_)
  obtain ⟨Ld, hI⟩ := hE
  have hL := hI.1.1
  refine rw_aload_n F dX0_members_0 rfl ?_
  refine rw_iload_n F dX0_members_1 rfl ?_
  refine rw_calli F (cX_isGroup g) (cwV 1 F.2.2.2.2.1 (lw_V q84 q86 qs1 q20 q87) rfl rfl rfl dd_X_isGroup ⟨Nat.le_of_ble_eq_true rfl, Nat.le_of_ble_eq_true rfl⟩) rfl rfl rfl rfl rfl (Nat.le_of_ble_eq_true rfl) dX0_members_2 ⟨Nat.zero_le _, Nat.zero_le _⟩ (fun r2 u2 h2 => ?_)
  obtain ⟨rfl, rfl⟩ := h2
  refine rw_if_eq (tgt := 16) F dX0_members_5 (by decide) (fun c5 => ?_) (fun c5 => ?_)
  · refine rw_iconst (v := (-1)) F dX0_members_16 (by decide) ?_
    exact rw_ret F hr rfl ⟨(sp_q_bad (by rw [rt_b_0.mp c5]; rfl)).symm, rx_IE hI⟩ dX0_members_17
  refine rw_aload_n F dX0_members_8 rfl ?_
  refine rw_iload_n F dX0_members_9 rfl ?_
  refine rw_calli F (cX_isState hL (rx_I4 hI) t) (cwV 1 F.2.2.2.2.1 (lw_V q116 q118 qs5 q20 q119) rfl rfl rfl dd_X_isState ⟨Nat.le_of_ble_eq_true rfl, Nat.le_of_ble_eq_true rfl⟩) rfl rfl rfl rfl rfl (Nat.le_of_ble_eq_true rfl) dX0_members_10 ⟨Nat.zero_le _, Nat.zero_le _⟩ (fun r10 u10 h10 => ?_)
  obtain ⟨rfl, rfl⟩ := h10
  refine rw_if_ne (tgt := 18) F dX0_members_13 (by decide) (fun c13 => ?_) (fun c13 => ?_)
  · have v2 := rt_b_n0 c5
    have v3 := rt_b_n0 c13
    have hok : (rt_lt g 18 && rt_lt t (L + 1)) = true := by rw [v2, v3]; rfl
    obtain ⟨g, hg, rfl⟩ := rt_lt_of v2 (by omega)
    obtain ⟨t, ht, rfl⟩ := rt_lt_of v3 (by omega)
    refine rw_aload_n F dX0_members_18 rfl ?_
    refine rw_iload_n F dX0_members_19 rfl ?_
    refine rw_calli F (cX_isKept hL (rx_I4 hI) (nI t)) (cwV 1 F.2.2.2.2.1 (lw_V q120 q122 qs6 q20 q123) rfl rfl rfl dd_X_isKept ⟨Nat.le_of_ble_eq_true rfl, Nat.le_of_ble_eq_true rfl⟩) rfl rfl rfl rfl rfl (Nat.le_of_ble_eq_true rfl) dX0_members_20 ⟨Nat.zero_le _, Nat.zero_le _⟩ (fun r20 u20 h20 => ?_)
    obtain ⟨rfl, rfl⟩ := h20
    refine rw_as (congrArg rt_b (rt_kp_nI hL ht)) ?_
    refine rw_if_ne (tgt := 29) F dX0_members_23 (by decide) (fun c23 => ?_) (fun c23 => ?_)
    · have hk := of_decide_eq_true (rt_b_n0 c23)
      refine rw_aload_n F dX0_members_29 rfl ?_
      refine rw_iload_n F dX0_members_30 rfl ?_
      refine rw_callv F (cX_load hI (by omega) hk) (cwV 1 F.2.2.2.2.1 (lw_V q88 q90 qs2 q20 q91) rfl rfl rfl dd_X_load ⟨Nat.le_of_ble_eq_true rfl, Nat.le_of_ble_eq_true rfl⟩) rfl rfl rfl rfl rfl (Nat.le_of_ble_eq_true rfl) dX0_members_31 ⟨Nat.zero_le _, Nat.zero_le _⟩ (fun u31 h31 => ?_)
      refine rw_aload_n F dX0_members_34 rfl ?_
      refine rw_iload_n F dX0_members_35 rfl ?_
      refine rw_calli F (cX_membersOf h31.1 hg) (cwV 1 F.2.2.2.2.1 (lw_V q124 q126 qs7 q20 q127) rfl rfl rfl dd_X_membersOf ⟨Nat.le_of_ble_eq_true rfl, Nat.le_of_ble_eq_true rfl⟩) rfl rfl rfl rfl rfl (Nat.le_of_ble_eq_true rfl) dX0_members_36 ⟨Nat.zero_le _, Nat.zero_le _⟩ (fun r36 u36 h36 => ?_)
      obtain ⟨rfl, hI2, -⟩ := h36
      refine rw_ret F hr rfl ⟨?_, rx_IE hI2⟩ dX0_members_39
      unfold sp_members
      rw [sp_q_ok hok (by omega) hk, rt_cl0 (by omega)]
    · have hk := of_decide_eq_false (rt_b_0.mp c23)
      refine rw_bipush (v := (-2)) F dX0_members_26 (by decide) ?_
      exact rw_ret F hr rfl ⟨(sp_q_gone hok (by omega) hk).symm, rx_IE hI⟩ dX0_members_28
  · refine rw_iconst (v := (-1)) F dX0_members_16 (by decide) ?_
    exact rw_ret F hr rfl ⟨(sp_q_bad (by rw [rt_b_0.mp c13, Bool.and_false])).symm, rx_IE hI⟩ dX0_members_17
set_option maxHeartbeats 4000000 in
set_option maxRecDepth 100000 in
theorem cX_sources {hist : Nat → rt_S} {L : Nat} {st : rt_S} (hE : rx_E hist L st) (t g : Int32) : rw_Mi l D (rx_t dA) (rx_w dA h0 ad) yX0_sources cX0_sources 3 (some .int) rr_X_sources h0 [.int t, .int g] st (fun r u => r = sp_sources hist L t g ∧ rx_E hist L u) := by
  refine rw_Mi.of (own := RX0) (lv := [some (.ref h0), some (.int t), some (.int g)]) (by decide) rfl 0 (Nat.le_of_ble_eq_true rfl) rfl rfl (fun p e s m below meth c A F hr => ?_)
  obtain ⟨Ld, hI⟩ := hE
  have hL := hI.1.1
  refine rw_aload_n F dX0_sources_0 rfl ?_
  refine rw_iload_n F dX0_sources_1 rfl ?_
  refine rw_calli F (cX_isGroup g) (cwV 1 F.2.2.2.2.1 (lw_V q84 q86 qs1 q20 q87) rfl rfl rfl dd_X_isGroup ⟨Nat.le_of_ble_eq_true rfl, Nat.le_of_ble_eq_true rfl⟩) rfl rfl rfl rfl rfl (Nat.le_of_ble_eq_true rfl) dX0_sources_2 ⟨Nat.zero_le _, Nat.zero_le _⟩ (fun r2 u2 h2 => ?_)
  obtain ⟨rfl, rfl⟩ := h2
  refine rw_if_eq (tgt := 16) F dX0_sources_5 (by decide) (fun c5 => ?_) (fun c5 => ?_)
  · refine rw_iconst (v := (-1)) F dX0_sources_16 (by decide) ?_
    exact rw_ret F hr rfl ⟨(sp_q_bad (by rw [rt_b_0.mp c5]; rfl)).symm, rx_IE hI⟩ dX0_sources_17
  refine rw_aload_n F dX0_sources_8 rfl ?_
  refine rw_iload_n F dX0_sources_9 rfl ?_
  refine rw_calli F (cX_isState hL (rx_I4 hI) t) (cwV 1 F.2.2.2.2.1 (lw_V q116 q118 qs5 q20 q119) rfl rfl rfl dd_X_isState ⟨Nat.le_of_ble_eq_true rfl, Nat.le_of_ble_eq_true rfl⟩) rfl rfl rfl rfl rfl (Nat.le_of_ble_eq_true rfl) dX0_sources_10 ⟨Nat.zero_le _, Nat.zero_le _⟩ (fun r10 u10 h10 => ?_)
  obtain ⟨rfl, rfl⟩ := h10
  refine rw_if_ne (tgt := 18) F dX0_sources_13 (by decide) (fun c13 => ?_) (fun c13 => ?_)
  · have v2 := rt_b_n0 c5
    have v3 := rt_b_n0 c13
    have hok : (rt_lt g 18 && rt_lt t (L + 1)) = true := by rw [v2, v3]; rfl
    obtain ⟨g, hg, rfl⟩ := rt_lt_of v2 (by omega)
    obtain ⟨t, ht, rfl⟩ := rt_lt_of v3 (by omega)
    refine rw_aload_n F dX0_sources_18 rfl ?_
    refine rw_iload_n F dX0_sources_19 rfl ?_
    refine rw_calli F (cX_isKept hL (rx_I4 hI) (nI t)) (cwV 1 F.2.2.2.2.1 (lw_V q120 q122 qs6 q20 q123) rfl rfl rfl dd_X_isKept ⟨Nat.le_of_ble_eq_true rfl, Nat.le_of_ble_eq_true rfl⟩) rfl rfl rfl rfl rfl (Nat.le_of_ble_eq_true rfl) dX0_sources_20 ⟨Nat.zero_le _, Nat.zero_le _⟩ (fun r20 u20 h20 => ?_)
    obtain ⟨rfl, rfl⟩ := h20
    refine rw_as (congrArg rt_b (rt_kp_nI hL ht)) ?_
    refine rw_if_ne (tgt := 29) F dX0_sources_23 (by decide) (fun c23 => ?_) (fun c23 => ?_)
    · have hk := of_decide_eq_true (rt_b_n0 c23)
      refine rw_aload_n F dX0_sources_29 rfl ?_
      refine rw_iload_n F dX0_sources_30 rfl ?_
      refine rw_callv F (cX_load hI (by omega) hk) (cwV 1 F.2.2.2.2.1 (lw_V q88 q90 qs2 q20 q91) rfl rfl rfl dd_X_load ⟨Nat.le_of_ble_eq_true rfl, Nat.le_of_ble_eq_true rfl⟩) rfl rfl rfl rfl rfl (Nat.le_of_ble_eq_true rfl) dX0_sources_31 ⟨Nat.zero_le _, Nat.zero_le _⟩ (fun u31 h31 => ?_)
      refine rw_aload_n F dX0_sources_34 rfl ?_
      refine rw_iload_n F dX0_sources_35 rfl ?_
      refine rw_calli F (cX_sourcesTo h31.1 hg) (cwV 1 F.2.2.2.2.1 (lw_V q128 q130 qs8 q20 q131) rfl rfl rfl dd_X_sourcesTo ⟨Nat.le_of_ble_eq_true rfl, Nat.le_of_ble_eq_true rfl⟩) rfl rfl rfl rfl rfl (Nat.le_of_ble_eq_true rfl) dX0_sources_36 ⟨Nat.zero_le _, Nat.zero_le _⟩ (fun r36 u36 h36 => ?_)
      obtain ⟨rfl, hI2, -⟩ := h36
      refine rw_ret F hr rfl ⟨?_, rx_IE hI2⟩ dX0_sources_39
      unfold sp_sources
      rw [sp_q_ok hok (by omega) hk, rt_cl0 (by omega)]
    · have hk := of_decide_eq_false (rt_b_0.mp c23)
      refine rw_bipush (v := (-2)) F dX0_sources_26 (by decide) ?_
      exact rw_ret F hr rfl ⟨(sp_q_gone hok (by omega) hk).symm, rx_IE hI⟩ dX0_sources_28
  · refine rw_iconst (v := (-1)) F dX0_sources_16 (by decide) ?_
    exact rw_ret F hr rfl ⟨(sp_q_bad (by rw [rt_b_0.mp c13, Bool.and_false])).symm, rx_IE hI⟩ dX0_sources_17
end XP
end
section
/-! RelationTuples: groups, changed, since -/
set_option maxRecDepth 100000
section XL
variable {p : Program} {l : Launch} {e : Env} {R : Room} {s : State} {m : MethodId} {args : Array Value} {below : List Frame} {meth : Method} {c : Code} {D : va_G} {A : Nat → Prop} {dA : Nat → ClassId} {h0 : Nat} {ad : Nat → Nat} {Q : State → Prop}
set_option maxHeartbeats 4000000 in
set_option maxRecDepth 100000 in
theorem kX_grp_loop (F : rw_F p s m args meth c D A (rx_t dA) cX0_groups 5 RX0) {hist : Nat → rt_S} {L k q : Nat} {v1 : Option Value} (hq : q < 6)
    (hx : ∀ u : rt_S, rx_I hist L k u → rw_W p l e rr_X_groups s m args below meth c D A 5 0 0 Q (rx_w dA h0 ad u) [some (.ref h0), v1, some (.int (nI q)), some (.int (sp_grp (hist k) q)), some (.int (nI 18))] 72 []) :
    ∀ (n j : Nat) (u : rt_S), j + n = 18 → rx_I hist L k u → rw_W p l e rr_X_groups s m args below meth c D A 5 0 0 Q (rx_w dA h0 ad u) [some (.ref h0), v1, some (.int (nI q)), some (.int (rt_of (fun g => rt_m (hist k) g q) j)), some (.int (nI j))] 39 [] := by
  intro n
  induction n with
  | zero =>
    intro j u hj hI
    obtain rfl : j = 18 := by omega
    refine rw_iload F dX0_groups_39 rfl ?_
    refine rw_bipush (v := nI 18) F dX0_groups_41 (by decide) ?_
    refine rw_icmp_ge_N (tgt := 72) F dX0_groups_43 (by decide) (by omega) (by omega) (fun c43 => ?_) (fun c43 => ?_)
    · exact hx u hI
    · exact absurd c43 (by omega)
  | succ n ih =>
    intro j u hj hI
    refine rw_iload F dX0_groups_39 rfl ?_
    refine rw_bipush (v := nI 18) F dX0_groups_41 (by decide) ?_
    refine rw_icmp_ge_N (tgt := 72) F dX0_groups_43 (by decide) (by omega) (by omega) (fun c43 => ?_) (fun c43 => ?_)
    · exact absurd c43 (by omega)
    refine rw_aload_n F dX0_groups_46 rfl ?_
    refine rw_iload F dX0_groups_47 rfl ?_
    refine rw_calli F (cX_membersOf hI c43) (cwV 1 F.2.2.2.2.1 (lw_V q124 q126 qs7 q20 q127) rfl rfl rfl dd_X_membersOf ⟨Nat.le_of_ble_eq_true rfl, Nat.le_of_ble_eq_true rfl⟩) rfl rfl rfl rfl rfl (Nat.le_of_ble_eq_true rfl) dX0_groups_49 ⟨Nat.zero_le _, Nat.zero_le _⟩ (fun r49 u49 h49 => ?_)
    obtain ⟨rfl, hI2, -⟩ := h49
    refine rw_iload_n F dX0_groups_52 rfl ?_
    refine rw_ishr F dX0_groups_53 ?_
    refine rw_iconst (v := nI 1) F dX0_groups_54 (by decide) ?_
    refine rw_iand F dX0_groups_55 ?_
    refine rw_as (rt_get _ (by omega)) ?_
    refine rw_as (congrArg rt_b (sp_mem_bt _ _ (by omega))) ?_
    refine rw_if_eq (tgt := 66) F dX0_groups_56 (by decide) (fun c56 => ?_) (fun c56 => ?_)
    · refine rw_iinc1 F dX0_groups_66 rfl (by decide) ?_
      refine rw_goto (tgt := 39) F dX0_groups_69 (by decide) ?_
      have h := ih (j + 1) u49 (by omega) hI2
      rw [rt_of_s, if_neg (by rw [rt_b_0.mp c56]; decide)] at h
      exact h
    · refine rw_iload_n F dX0_groups_59 rfl ?_
      refine rw_iconst (v := nI 1) F dX0_groups_60 (by decide) ?_
      refine rw_iload F dX0_groups_61 rfl ?_
      refine rw_ishl F dX0_groups_63 ?_
      refine rw_ior F dX0_groups_64 ?_
      refine rw_istore_n F dX0_groups_65 (by decide) ?_
      refine rw_iinc1 F dX0_groups_66 rfl (by decide) ?_
      refine rw_goto (tgt := 39) F dX0_groups_69 (by decide) ?_
      have h := ih (j + 1) u49 (by omega) hI2
      rw [rt_of_s, if_pos (rt_b_n0 c56)] at h
      exact h
set_option maxHeartbeats 4000000 in
set_option maxRecDepth 100000 in
theorem cX_groups {hist : Nat → rt_S} {L : Nat} {st : rt_S} (hE : rx_E hist L st) (t q : Int32) : rw_Mi l D (rx_t dA) (rx_w dA h0 ad) yX0_groups cX0_groups 5 (some .int) rr_X_groups h0 [.int t, .int q] st (fun r u => r = sp_groups hist L t q ∧ rx_E hist L u) := by
  refine rw_Mi.of (own := RX0) (lv := [some (.ref h0), some (.int t), some (.int q), none, none]) (by decide) rfl 2 (Nat.le_of_ble_eq_true rfl) rfl rfl (fun p e s m below meth c A F hr => ?_)
  obtain ⟨Ld, hI⟩ := hE
  have hL := hI.1.1
  refine rw_aload_n F dX0_groups_0 rfl ?_
  refine rw_iload_n F dX0_groups_1 rfl ?_
  refine rw_calli F (cX_isPerson q) (cwV 1 F.2.2.2.2.1 (lw_V q80 q82 qs0 q20 q83) rfl rfl rfl dd_X_isPerson ⟨Nat.le_of_ble_eq_true rfl, Nat.le_of_ble_eq_true rfl⟩) rfl rfl rfl rfl rfl (Nat.le_of_ble_eq_true rfl) dX0_groups_2 ⟨Nat.zero_le _, Nat.zero_le _⟩ (fun r2 u2 h2 => ?_)
  obtain ⟨rfl, rfl⟩ := h2
  refine rw_if_eq (tgt := 16) F dX0_groups_5 (by decide) (fun c5 => ?_) (fun c5 => ?_)
  · refine rw_iconst (v := (-1)) F dX0_groups_16 (by decide) ?_
    exact rw_ret F hr rfl ⟨(sp_q_bad (by rw [rt_b_0.mp c5]; rfl)).symm, rx_IE hI⟩ dX0_groups_17
  refine rw_aload_n F dX0_groups_8 rfl ?_
  refine rw_iload_n F dX0_groups_9 rfl ?_
  refine rw_calli F (cX_isState hL (rx_I4 hI) t) (cwV 1 F.2.2.2.2.1 (lw_V q116 q118 qs5 q20 q119) rfl rfl rfl dd_X_isState ⟨Nat.le_of_ble_eq_true rfl, Nat.le_of_ble_eq_true rfl⟩) rfl rfl rfl rfl rfl (Nat.le_of_ble_eq_true rfl) dX0_groups_10 ⟨Nat.zero_le _, Nat.zero_le _⟩ (fun r10 u10 h10 => ?_)
  obtain ⟨rfl, rfl⟩ := h10
  refine rw_if_ne (tgt := 18) F dX0_groups_13 (by decide) (fun c13 => ?_) (fun c13 => ?_)
  · have v2 := rt_b_n0 c5
    have v3 := rt_b_n0 c13
    have hok : (rt_lt q 6 && rt_lt t (L + 1)) = true := by rw [v2, v3]; rfl
    obtain ⟨q, hq, rfl⟩ := rt_lt_of v2 (by omega)
    obtain ⟨t, ht, rfl⟩ := rt_lt_of v3 (by omega)
    refine rw_aload_n F dX0_groups_18 rfl ?_
    refine rw_iload_n F dX0_groups_19 rfl ?_
    refine rw_calli F (cX_isKept hL (rx_I4 hI) (nI t)) (cwV 1 F.2.2.2.2.1 (lw_V q120 q122 qs6 q20 q123) rfl rfl rfl dd_X_isKept ⟨Nat.le_of_ble_eq_true rfl, Nat.le_of_ble_eq_true rfl⟩) rfl rfl rfl rfl rfl (Nat.le_of_ble_eq_true rfl) dX0_groups_20 ⟨Nat.zero_le _, Nat.zero_le _⟩ (fun r20 u20 h20 => ?_)
    obtain ⟨rfl, rfl⟩ := h20
    refine rw_as (congrArg rt_b (rt_kp_nI hL ht)) ?_
    refine rw_if_ne (tgt := 29) F dX0_groups_23 (by decide) (fun c23 => ?_) (fun c23 => ?_)
    · have hk := of_decide_eq_true (rt_b_n0 c23)
      refine rw_aload_n F dX0_groups_29 rfl ?_
      refine rw_iload_n F dX0_groups_30 rfl ?_
      refine rw_callv F (cX_load hI (by omega) hk) (cwV 1 F.2.2.2.2.1 (lw_V q88 q90 qs2 q20 q91) rfl rfl rfl dd_X_load ⟨Nat.le_of_ble_eq_true rfl, Nat.le_of_ble_eq_true rfl⟩) rfl rfl rfl rfl rfl (Nat.le_of_ble_eq_true rfl) dX0_groups_31 ⟨Nat.zero_le _, Nat.zero_le _⟩ (fun u31 h31 => ?_)
      refine rw_iconst (v := nI 0) F dX0_groups_34 (by decide) ?_
      refine rw_istore_n F dX0_groups_35 (by decide) ?_
      refine rw_iconst (v := nI 0) F dX0_groups_36 (by decide) ?_
      refine rw_istore F dX0_groups_37 (by decide) ?_
      refine kX_grp_loop F hq (fun u hI2 => ?_) 18 0 u31 (by omega) h31.1
      refine rw_iload_n F dX0_groups_72 rfl ?_
      refine rw_ret F hr rfl ⟨?_, rx_IE hI2⟩ dX0_groups_73
      unfold sp_groups
      rw [sp_q_ok hok (by omega) hk, rt_cl0 (by omega)]
    · have hk := of_decide_eq_false (rt_b_0.mp c23)
      refine rw_bipush (v := (-2)) F dX0_groups_26 (by decide) ?_
      exact rw_ret F hr rfl ⟨(sp_q_gone hok (by omega) hk).symm, rx_IE hI⟩ dX0_groups_28
  · refine rw_iconst (v := (-1)) F dX0_groups_16 (by decide) ?_
    exact rw_ret F hr rfl ⟨(sp_q_bad (by rw [rt_b_0.mp c13, Bool.and_false])).symm, rx_IE hI⟩ dX0_groups_17
set_option maxHeartbeats 4000000 in
set_option maxRecDepth 100000 in
theorem kX_chg_keep (F : rw_F p s m args meth c D A (rx_t dA) cX0_changed 7 RX0) {hist : Nat → rt_S} {L k : Nat} {v1 v2 v4 v5 v6 : Option Value}
    (hx : ∀ u : rt_S, rx_I hist L k u → (∀ i, i < 18 → u 13 i = sp_mem (hist k) i) → rw_W p l e rr_X_changed s m args below meth c D A 7 0 0 Q (rx_w dA h0 ad u) [some (.ref h0), v1, v2, some (.int (nI 18)), v4, v5, v6] 67 []) :
    ∀ (n j : Nat) (u : rt_S), j + n = 18 → rx_I hist L k u → (∀ i, i < j → u 13 i = sp_mem (hist k) i) → rw_W p l e rr_X_changed s m args below meth c D A 7 0 0 Q (rx_w dA h0 ad u) [some (.ref h0), v1, v2, some (.int (nI j)), v4, v5, v6] 44 [] := by
  intro n
  induction n with
  | zero =>
    intro j u hj hI hc
    obtain rfl : j = 18 := by omega
    refine rw_iload_n F dX0_changed_44 rfl ?_
    refine rw_bipush (v := nI 18) F dX0_changed_45 (by decide) ?_
    refine rw_icmp_ge_N (tgt := 67) F dX0_changed_47 (by decide) (by omega) (by omega) (fun c47 => ?_) (fun c47 => ?_)
    · exact hx u hI hc
    · exact absurd c47 (by omega)
  | succ n ih =>
    intro j u hj hI hc
    refine rw_iload_n F dX0_changed_44 rfl ?_
    refine rw_bipush (v := nI 18) F dX0_changed_45 (by decide) ?_
    refine rw_icmp_ge_N (tgt := 67) F dX0_changed_47 (by decide) (by omega) (by omega) (fun c47 => ?_) (fun c47 => ?_)
    · exact absurd c47 (by omega)
    refine rw_aload_n F dX0_changed_50 rfl ?_
    refine rx_g_compared F dX0_changed_51 ?_
    refine rw_iload_n F dX0_changed_54 rfl ?_
    refine rw_aload_n F dX0_changed_55 rfl ?_
    refine rw_iload_n F dX0_changed_56 rfl ?_
    refine rw_calli F (cX_membersOf hI c47) (cwV 1 F.2.2.2.2.1 (lw_V q124 q126 qs7 q20 q127) rfl rfl rfl dd_X_membersOf ⟨Nat.le_of_ble_eq_true rfl, Nat.le_of_ble_eq_true rfl⟩) rfl rfl rfl rfl rfl (Nat.le_of_ble_eq_true rfl) dX0_changed_57 ⟨Nat.zero_le _, Nat.zero_le _⟩ (fun r57 u57 h57 => ?_)
    obtain ⟨rfl, hI2, h13⟩ := h57
    refine rx_s_compared F rfl c47 dX0_changed_60 ?_
    refine rw_iinc1 F dX0_changed_61 rfl (by decide) ?_
    refine rw_goto (tgt := 44) F dX0_changed_64 (by decide) ?_
    refine ih (j + 1) _ (by omega) ⟨rx_J_of hI2.1 (fun k _ _ _ k13 => rt_u_n _ _ _ k13), ?_⟩ (fun i hi => ?_)
    · rw [rt_u_n _ _ _ (by decide)]; exact hI2.2
    · by_cases e : i = j
      · subst e; exact rt_u_s _ _ _ _
      · rw [rt_u_o _ _ _ e, h13]; exact hc i (by omega)
set_option maxHeartbeats 4000000 in
set_option maxRecDepth 100000 in
theorem kX_chg_in (F : rw_F p s m args meth c D A (rx_t dA) cX0_changed 7 RX0) {u S T : rt_S} {g z : Nat} {v1 v2 : Option Value} (hg : g < 18) (hc : u 13 g = sp_mem S g)
    (hx : rw_W p l e rr_X_changed s m args below meth c D A 7 0 0 Q (rx_w dA h0 ad u) [some (.ref h0), v1, v2, some (.int (nI (z + rt_sum (fun q => sp_x (rt_m S g q) (rt_m T g q)) 6))), some (.int (nI g)), some (.int (sp_mem T g)), some (.int (nI 6))] 126 []) :
    ∀ n j : Nat, j + n = 6 → rw_W p l e rr_X_changed s m args below meth c D A 7 0 0 Q (rx_w dA h0 ad u) [some (.ref h0), v1, v2, some (.int (nI (z + rt_sum (fun q => sp_x (rt_m S g q) (rt_m T g q)) j))), some (.int (nI g)), some (.int (sp_mem T g)), some (.int (nI j))] 95 [] := by
  intro n
  induction n with
  | zero =>
    intro j hj
    obtain rfl : j = 6 := by omega
    refine rw_iload F dX0_changed_95 rfl ?_
    refine rw_bipush (v := nI 6) F dX0_changed_97 (by decide) ?_
    refine rw_icmp_ge_N (tgt := 126) F dX0_changed_99 (by decide) (by omega) (by omega) (fun c99 => ?_) (fun c99 => ?_)
    · exact hx
    · exact absurd c99 (by omega)
  | succ n ih =>
    intro j hj
    refine rw_iload F dX0_changed_95 rfl ?_
    refine rw_bipush (v := nI 6) F dX0_changed_97 (by decide) ?_
    refine rw_icmp_ge_N (tgt := 126) F dX0_changed_99 (by decide) (by omega) (by omega) (fun c99 => ?_) (fun c99 => ?_)
    · exact absurd c99 (by omega)
    refine rw_iload_n F dX0_changed_102 rfl ?_
    refine rw_iload F dX0_changed_103 rfl ?_
    refine rw_aload_n F dX0_changed_105 rfl ?_
    refine rx_g_compared F dX0_changed_106 ?_
    refine rw_iload F dX0_changed_109 rfl ?_
    refine rx_l_compared F rfl hg dX0_changed_111 ?_
    refine rw_as hc ?_
    refine rw_ixor F dX0_changed_112 ?_
    refine rw_iload F dX0_changed_113 rfl ?_
    refine rw_ishr F dX0_changed_115 ?_
    refine rw_iconst (v := nI 1) F dX0_changed_116 (by decide) ?_
    refine rw_iand F dX0_changed_117 ?_
    refine rw_as (rt_get _ (by omega)) ?_
    refine rw_as (show _ = nI (sp_x (rt_m S g j) (rt_m T g j)) by rw [b_xor, rt_bx, sp_mem_bt _ _ (by omega), sp_mem_bt _ _ (by omega)]) ?_
    refine rw_iadd F dX0_changed_118 ?_
    refine rw_as (show _ = nI (z + rt_sum (fun q => sp_x (rt_m S g q) (rt_m T g q)) (j + 1)) by rw [nI_add, rt_sum_s, Nat.add_assoc]) ?_
    refine rw_istore_n F dX0_changed_119 (by decide) ?_
    refine rw_iinc1 F dX0_changed_120 rfl (by decide) ?_
    refine rw_goto (tgt := 95) F dX0_changed_123 (by decide) ?_
    exact ih (j + 1) (by omega)
set_option maxHeartbeats 4000000 in
set_option maxRecDepth 100000 in
theorem kX_chg_out (F : rw_F p s m args meth c D A (rx_t dA) cX0_changed 7 RX0) {hist : Nat → rt_S} {L k : Nat} {S : rt_S} {v1 v2 : Option Value}
    (hx : ∀ (u : rt_S) (v5 v6 : Option Value), rx_I hist L k u → rw_W p l e rr_X_changed s m args below meth c D A 7 0 0 Q (rx_w dA h0 ad u) [some (.ref h0), v1, v2, some (.int (sp_chg S (hist k))), some (.int (nI 18)), v5, v6] 132 []) :
    ∀ (n j : Nat) (u : rt_S) (v5 v6 : Option Value), j + n = 18 → rx_I hist L k u → (∀ i, i < 18 → u 13 i = sp_mem S i) → rw_W p l e rr_X_changed s m args below meth c D A 7 0 0 Q (rx_w dA h0 ad u) [some (.ref h0), v1, v2, some (.int (nI (rt_sum (fun g => rt_sum (fun q => sp_x (rt_m S g q) (rt_m (hist k) g q)) 6) j))), some (.int (nI j)), v5, v6] 77 [] := by
  intro n
  induction n with
  | zero =>
    intro j u v5 v6 hj hI hc
    obtain rfl : j = 18 := by omega
    refine rw_iload F dX0_changed_77 rfl ?_
    refine rw_bipush (v := nI 18) F dX0_changed_79 (by decide) ?_
    refine rw_icmp_ge_N (tgt := 132) F dX0_changed_81 (by decide) (by omega) (by omega) (fun c81 => ?_) (fun c81 => ?_)
    · exact hx u v5 v6 hI
    · exact absurd c81 (by omega)
  | succ n ih =>
    intro j u v5 v6 hj hI hc
    refine rw_iload F dX0_changed_77 rfl ?_
    refine rw_bipush (v := nI 18) F dX0_changed_79 (by decide) ?_
    refine rw_icmp_ge_N (tgt := 132) F dX0_changed_81 (by decide) (by omega) (by omega) (fun c81 => ?_) (fun c81 => ?_)
    · exact absurd c81 (by omega)
    refine rw_aload_n F dX0_changed_84 rfl ?_
    refine rw_iload F dX0_changed_85 rfl ?_
    refine rw_calli F (cX_membersOf hI c81) (cwV 1 F.2.2.2.2.1 (lw_V q124 q126 qs7 q20 q127) rfl rfl rfl dd_X_membersOf ⟨Nat.le_of_ble_eq_true rfl, Nat.le_of_ble_eq_true rfl⟩) rfl rfl rfl rfl rfl (Nat.le_of_ble_eq_true rfl) dX0_changed_87 ⟨Nat.zero_le _, Nat.zero_le _⟩ (fun r87 u87 h87 => ?_)
    obtain ⟨rfl, hI2, h13⟩ := h87
    refine rw_istore F dX0_changed_90 (by decide) ?_
    refine rw_iconst (v := nI 0) F dX0_changed_92 (by decide) ?_
    refine rw_istore F dX0_changed_93 (by decide) ?_
    refine kX_chg_in F (S := S) (T := hist k) (z := rt_sum (fun g => rt_sum (fun q => sp_x (rt_m S g q) (rt_m (hist k) g q)) 6) j) c81 (by rw [h13]; exact hc j c81) ?_ 6 0 (by omega)
    refine rw_iinc1 F dX0_changed_126 rfl (by decide) ?_
    refine rw_goto (tgt := 77) F dX0_changed_129 (by decide) ?_
    exact ih (j + 1) u87 _ _ (by omega) hI2 (fun i hi => by rw [h13]; exact hc i hi)
set_option maxHeartbeats 4000000 in
set_option maxRecDepth 100000 in
theorem cX_changed {hist : Nat → rt_S} {L : Nat} {st : rt_S} (hE : rx_E hist L st) (a b : Int32) : rw_Mi l D (rx_t dA) (rx_w dA h0 ad) yX0_changed cX0_changed 7 (some .int) rr_X_changed h0 [.int a, .int b] st (fun r u => r = sp_changed hist L a b ∧ rx_E hist L u) := by
  refine rw_Mi.of (own := RX0) (lv := [some (.ref h0), some (.int a), some (.int b), none, none, none, none]) (by decide) rfl 4 (Nat.le_of_ble_eq_true rfl) rfl rfl (fun p e s m below meth c A F hr => ?_)
  obtain ⟨Ld, hI⟩ := hE
  have hL := hI.1.1
  refine rw_aload_n F dX0_changed_0 rfl ?_
  refine rw_iload_n F dX0_changed_1 rfl ?_
  refine rw_calli F (cX_isState hL (rx_I4 hI) a) (cwV 1 F.2.2.2.2.1 (lw_V q116 q118 qs5 q20 q119) rfl rfl rfl dd_X_isState ⟨Nat.le_of_ble_eq_true rfl, Nat.le_of_ble_eq_true rfl⟩) rfl rfl rfl rfl rfl (Nat.le_of_ble_eq_true rfl) dX0_changed_2 ⟨Nat.zero_le _, Nat.zero_le _⟩ (fun r2 u2 h2 => ?_)
  obtain ⟨rfl, rfl⟩ := h2
  refine rw_if_eq (tgt := 16) F dX0_changed_5 (by decide) (fun c5 => ?_) (fun c5 => ?_)
  · refine rw_iconst (v := (-1)) F dX0_changed_16 (by decide) ?_
    exact rw_ret F hr rfl ⟨(sp_q_bad (by rw [rt_b_0.mp c5]; rfl)).symm, rx_IE hI⟩ dX0_changed_17
  refine rw_aload_n F dX0_changed_8 rfl ?_
  refine rw_iload_n F dX0_changed_9 rfl ?_
  refine rw_calli F (cX_isState hL (rx_I4 hI) b) (cwV 1 F.2.2.2.2.1 (lw_V q116 q118 qs5 q20 q119) rfl rfl rfl dd_X_isState ⟨Nat.le_of_ble_eq_true rfl, Nat.le_of_ble_eq_true rfl⟩) rfl rfl rfl rfl rfl (Nat.le_of_ble_eq_true rfl) dX0_changed_10 ⟨Nat.zero_le _, Nat.zero_le _⟩ (fun r10 u10 h10 => ?_)
  obtain ⟨rfl, rfl⟩ := h10
  refine rw_if_ne (tgt := 18) F dX0_changed_13 (by decide) (fun c13 => ?_) (fun c13 => ?_)
  · have v2 := rt_b_n0 c5
    have v3 := rt_b_n0 c13
    have hok : (rt_lt a (L + 1) && rt_lt b (L + 1)) = true := by rw [v2, v3]; rfl
    obtain ⟨a, ha, rfl⟩ := rt_lt_of v2 (by omega)
    obtain ⟨b, hb, rfl⟩ := rt_lt_of v3 (by omega)
    refine rw_aload_n F dX0_changed_18 rfl ?_
    refine rw_iload_n F dX0_changed_19 rfl ?_
    refine rw_calli F (cX_isKept hL (rx_I4 hI) (nI a)) (cwV 1 F.2.2.2.2.1 (lw_V q120 q122 qs6 q20 q123) rfl rfl rfl dd_X_isKept ⟨Nat.le_of_ble_eq_true rfl, Nat.le_of_ble_eq_true rfl⟩) rfl rfl rfl rfl rfl (Nat.le_of_ble_eq_true rfl) dX0_changed_20 ⟨Nat.zero_le _, Nat.zero_le _⟩ (fun r20 u20 h20 => ?_)
    obtain ⟨rfl, rfl⟩ := h20
    refine rw_as (congrArg rt_b (rt_kp_nI hL ha)) ?_
    refine rw_if_eq (tgt := 34) F dX0_changed_23 (by decide) (fun c23 => ?_) (fun c23 => ?_)
    · have hka := of_decide_eq_false (rt_b_0.mp c23)
      refine rw_bipush (v := (-2)) F dX0_changed_34 (by decide) ?_
      exact rw_ret F hr rfl ⟨(sp_q_gone hok (by omega) hka).symm, rx_IE hI⟩ dX0_changed_36
    have hka := of_decide_eq_true (rt_b_n0 c23)
    refine rw_aload_n F dX0_changed_26 rfl ?_
    refine rw_iload_n F dX0_changed_27 rfl ?_
    refine rw_calli F (cX_isKept hL (rx_I4 hI) (nI b)) (cwV 1 F.2.2.2.2.1 (lw_V q120 q122 qs6 q20 q123) rfl rfl rfl dd_X_isKept ⟨Nat.le_of_ble_eq_true rfl, Nat.le_of_ble_eq_true rfl⟩) rfl rfl rfl rfl rfl (Nat.le_of_ble_eq_true rfl) dX0_changed_28 ⟨Nat.zero_le _, Nat.zero_le _⟩ (fun r28 u28 h28 => ?_)
    obtain ⟨rfl, rfl⟩ := h28
    refine rw_as (congrArg rt_b (rt_kp_nI hL hb)) ?_
    refine rw_if_ne (tgt := 37) F dX0_changed_31 (by decide) (fun c31 => ?_) (fun c31 => ?_)
    · have hkb := of_decide_eq_true (rt_b_n0 c31)
      refine rw_aload_n F dX0_changed_37 rfl ?_
      refine rw_iload_n F dX0_changed_38 rfl ?_
      refine rw_callv F (cX_load hI (by omega) hka) (cwV 1 F.2.2.2.2.1 (lw_V q88 q90 qs2 q20 q91) rfl rfl rfl dd_X_load ⟨Nat.le_of_ble_eq_true rfl, Nat.le_of_ble_eq_true rfl⟩) rfl rfl rfl rfl rfl (Nat.le_of_ble_eq_true rfl) dX0_changed_39 ⟨Nat.zero_le _, Nat.zero_le _⟩ (fun u39 h39 => ?_)
      refine rw_iconst (v := nI 0) F dX0_changed_42 (by decide) ?_
      refine rw_istore_n F dX0_changed_43 (by decide) ?_
      refine kX_chg_keep F (fun u hI2 hc => ?_) 18 0 u39 (by omega) h39.1 (fun i hi => by omega)
      refine rw_aload_n F dX0_changed_67 rfl ?_
      refine rw_iload_n F dX0_changed_68 rfl ?_
      refine rw_callv F (cX_load hI2 (by omega) hkb) (cwV 1 F.2.2.2.2.1 (lw_V q88 q90 qs2 q20 q91) rfl rfl rfl dd_X_load ⟨Nat.le_of_ble_eq_true rfl, Nat.le_of_ble_eq_true rfl⟩) rfl rfl rfl rfl rfl (Nat.le_of_ble_eq_true rfl) dX0_changed_69 ⟨Nat.zero_le _, Nat.zero_le _⟩ (fun u69 h69 => ?_)
      refine rw_iconst (v := nI 0) F dX0_changed_72 (by decide) ?_
      refine rw_istore_n F dX0_changed_73 (by decide) ?_
      refine rw_iconst (v := nI 0) F dX0_changed_74 (by decide) ?_
      refine rw_istore F dX0_changed_75 (by decide) ?_
      refine kX_chg_out F (S := hist a) (fun u5 v5 v6 hI5 => ?_) 18 0 u69 none none (by omega) h69.1 (fun i hi => by rw [h69.2]; exact hc i hi)
      refine rw_iload_n F dX0_changed_132 rfl ?_
      refine rw_ret F hr rfl ⟨?_, rx_IE hI5⟩ dX0_changed_133
      unfold sp_changed
      rw [sp_q_ok hok (by omega) hka, sp_q_ok rfl (by omega) hkb]
    · have hkb := of_decide_eq_false (rt_b_0.mp c31)
      refine rw_bipush (v := (-2)) F dX0_changed_34 (by decide) ?_
      refine rw_ret F hr rfl ⟨?_, rx_IE hI⟩ dX0_changed_36
      unfold sp_changed
      rw [sp_q_ok hok (by omega) hka, sp_q_gone rfl (by omega) hkb]
  · refine rw_iconst (v := (-1)) F dX0_changed_16 (by decide) ?_
    exact rw_ret F hr rfl ⟨(sp_q_bad (by rw [rt_b_0.mp c13, Bool.and_false])).symm, rx_IE hI⟩ dX0_changed_17
set_option maxHeartbeats 4000000 in
set_option maxRecDepth 100000 in
theorem kX_since_loop (F : rw_F p s m args meth c D A (rx_t dA) cX0_since 7 RX0) {hist : Nat → rt_S} {L q g : Nat} {V : Int32} {v3 v4 v5 : Option Value} (hq : q < 6) (hg : g < 18)
    (hx3 : ∀ (u : rt_S) (v6 : Option Value), rx_E hist L u → V = -3 → rw_W p l e rr_X_since s m args below meth c D A 7 0 0 Q (rx_w dA h0 ad u) [some (.ref h0), some (.int (nI q)), some (.int (nI g)), v3, v4, v5, v6] 91 [])
    (hxr : ∀ (u : rt_S) (k : Nat), rx_E hist L u → V = nI k → rw_W p l e rr_X_since s m args below meth c D A 7 0 0 Q (rx_w dA h0 ad u) [some (.ref h0), some (.int (nI q)), some (.int (nI g)), v3, v4, v5, some (.int (nI k))] 82 []) :
    ∀ (n k : Nat) (u : rt_S), k + n = L + 1 → L < k + 8 → rx_E hist L u → V = sp_find (fun k => rt_m (hist k) g q) k n → rw_W p l e rr_X_since s m args below meth c D A 7 0 0 Q (rx_w dA h0 ad u) [some (.ref h0), some (.int (nI q)), some (.int (nI g)), v3, v4, v5, some (.int (nI k))] 55 [] := by
  intro n
  induction n with
  | zero =>
    intro k u hk hk8 hE hV
    obtain ⟨Ld, hI⟩ := hE
    have hL := hI.1.1
    refine rw_iload F dX0_since_55 rfl ?_
    refine rw_aload_n F dX0_since_57 rfl ?_
    refine rx_g_latestState F dX0_since_58 ?_
    refine rw_as (rx_I4 hI) ?_
    refine rw_icmp_gt_N (tgt := 91) F dX0_since_61 (by decide) (by omega) (by omega) (fun c61 => ?_) (fun c61 => ?_)
    · exact hx3 u _ (rx_IE hI) hV
    · exact absurd c61 (by omega)
  | succ n ih =>
    intro k u hk hk8 hE hV
    obtain ⟨Ld, hI⟩ := hE
    have hL := hI.1.1
    refine rw_iload F dX0_since_55 rfl ?_
    refine rw_aload_n F dX0_since_57 rfl ?_
    refine rx_g_latestState F dX0_since_58 ?_
    refine rw_as (rx_I4 hI) ?_
    refine rw_icmp_gt_N (tgt := 91) F dX0_since_61 (by decide) (by omega) (by omega) (fun c61 => ?_) (fun c61 => ?_)
    · exact absurd c61 (by omega)
    refine rw_aload_n F dX0_since_64 rfl ?_
    refine rw_iload F dX0_since_65 rfl ?_
    refine rw_callv F (cX_load hI c61 hk8) (cwV 1 F.2.2.2.2.1 (lw_V q88 q90 qs2 q20 q91) rfl rfl rfl dd_X_load ⟨Nat.le_of_ble_eq_true rfl, Nat.le_of_ble_eq_true rfl⟩) rfl rfl rfl rfl rfl (Nat.le_of_ble_eq_true rfl) dX0_since_67 ⟨Nat.zero_le _, Nat.zero_le _⟩ (fun u67 h67 => ?_)
    refine rw_aload_n F dX0_since_70 rfl ?_
    refine rw_iload_n F dX0_since_71 rfl ?_
    refine rw_calli F (cX_membersOf h67.1 hg) (cwV 1 F.2.2.2.2.1 (lw_V q124 q126 qs7 q20 q127) rfl rfl rfl dd_X_membersOf ⟨Nat.le_of_ble_eq_true rfl, Nat.le_of_ble_eq_true rfl⟩) rfl rfl rfl rfl rfl (Nat.le_of_ble_eq_true rfl) dX0_since_72 ⟨Nat.zero_le _, Nat.zero_le _⟩ (fun r72 u72 h72 => ?_)
    obtain ⟨rfl, hI2, -⟩ := h72
    refine rw_iload_n F dX0_since_75 rfl ?_
    refine rw_ishr F dX0_since_76 ?_
    refine rw_iconst (v := nI 1) F dX0_since_77 (by decide) ?_
    refine rw_iand F dX0_since_78 ?_
    refine rw_as (rt_get _ (by omega)) ?_
    refine rw_as (congrArg rt_b (sp_mem_bt _ _ (by omega))) ?_
    rw [sp_find_s] at hV
    refine rw_if_eq (tgt := 85) F dX0_since_79 (by decide) (fun c79 => ?_) (fun c79 => ?_)
    · rw [if_neg (by rw [rt_b_0.mp c79]; decide)] at hV
      refine rw_iinc1 F dX0_since_85 rfl (by decide) ?_
      refine rw_goto (tgt := 55) F dX0_since_88 (by decide) ?_
      exact ih (k + 1) u72 (by omega) (by omega) (rx_IE hI2) hV
    · rw [if_pos (rt_b_n0 c79)] at hV
      exact hxr u72 k (rx_IE hI2) hV
set_option maxHeartbeats 4000000 in
set_option maxRecDepth 100000 in
theorem cX_since {hist : Nat → rt_S} {L : Nat} {st : rt_S} (hE : rx_E hist L st) (q g f : Int32) : rw_Mi l D (rx_t dA) (rx_w dA h0 ad) yX0_since cX0_since 7 (some .int) rr_X_since h0 [.int q, .int g, .int f] st (fun r u => r = sp_since hist L q g f ∧ rx_E hist L u) := by
  refine rw_Mi.of (own := RX0) (lv := [some (.ref h0), some (.int q), some (.int g), some (.int f), none, none, none]) (by decide) rfl 3 (Nat.le_of_ble_eq_true rfl) rfl rfl (fun p e s m below meth c A F hr => ?_)
  obtain ⟨Ld, hI⟩ := hE
  have hL := hI.1.1
  refine rw_aload_n F dX0_since_0 rfl ?_
  refine rw_iload_n F dX0_since_1 rfl ?_
  refine rw_calli F (cX_isPerson q) (cwV 1 F.2.2.2.2.1 (lw_V q80 q82 qs0 q20 q83) rfl rfl rfl dd_X_isPerson ⟨Nat.le_of_ble_eq_true rfl, Nat.le_of_ble_eq_true rfl⟩) rfl rfl rfl rfl rfl (Nat.le_of_ble_eq_true rfl) dX0_since_2 ⟨Nat.zero_le _, Nat.zero_le _⟩ (fun r2 u2 h2 => ?_)
  obtain ⟨rfl, rfl⟩ := h2
  refine rw_if_eq (tgt := 24) F dX0_since_5 (by decide) (fun c5 => ?_) (fun c5 => ?_)
  · refine rw_iconst (v := (-1)) F dX0_since_24 (by decide) ?_
    refine rw_ret F hr rfl ⟨?_, rx_IE hI⟩ dX0_since_25
    unfold sp_since
    rw [if_neg (by rw [rt_b_0.mp c5]; simp)]
  refine rw_aload_n F dX0_since_8 rfl ?_
  refine rw_iload_n F dX0_since_9 rfl ?_
  refine rw_calli F (cX_isGroup g) (cwV 1 F.2.2.2.2.1 (lw_V q84 q86 qs1 q20 q87) rfl rfl rfl dd_X_isGroup ⟨Nat.le_of_ble_eq_true rfl, Nat.le_of_ble_eq_true rfl⟩) rfl rfl rfl rfl rfl (Nat.le_of_ble_eq_true rfl) dX0_since_10 ⟨Nat.zero_le _, Nat.zero_le _⟩ (fun r10 u10 h10 => ?_)
  obtain ⟨rfl, rfl⟩ := h10
  refine rw_if_eq (tgt := 24) F dX0_since_13 (by decide) (fun c13 => ?_) (fun c13 => ?_)
  · refine rw_iconst (v := (-1)) F dX0_since_24 (by decide) ?_
    refine rw_ret F hr rfl ⟨?_, rx_IE hI⟩ dX0_since_25
    unfold sp_since
    rw [if_neg (by rw [rt_b_0.mp c13, Bool.and_false]; simp)]
  refine rw_aload_n F dX0_since_16 rfl ?_
  refine rw_iload_n F dX0_since_17 rfl ?_
  refine rw_calli F (cX_isState hL (rx_I4 hI) f) (cwV 1 F.2.2.2.2.1 (lw_V q116 q118 qs5 q20 q119) rfl rfl rfl dd_X_isState ⟨Nat.le_of_ble_eq_true rfl, Nat.le_of_ble_eq_true rfl⟩) rfl rfl rfl rfl rfl (Nat.le_of_ble_eq_true rfl) dX0_since_18 ⟨Nat.zero_le _, Nat.zero_le _⟩ (fun r18 u18 h18 => ?_)
  obtain ⟨rfl, rfl⟩ := h18
  refine rw_if_ne (tgt := 26) F dX0_since_21 (by decide) (fun c21 => ?_) (fun c21 => ?_)
  · have v1 := rt_b_n0 c5
    have v2 := rt_b_n0 c13
    have v3 := rt_b_n0 c21
    have hok : (rt_lt q 6 && rt_lt g 18 && rt_lt f (L + 1)) = true := by rw [v1, v2, v3]; rfl
    obtain ⟨q, hq, rfl⟩ := rt_lt_of v1 (by omega)
    obtain ⟨g, hg, rfl⟩ := rt_lt_of v2 (by omega)
    obtain ⟨f, hf, rfl⟩ := rt_lt_of v3 (by omega)
    have hV : sp_since hist L (nI q) (nI g) (nI f) = sp_find (fun k => rt_m (hist k) g q) (max f (L - 7)) (L + 1 - max f (L - 7)) := by
      unfold sp_since
      rw [if_pos hok, rt_cl0 (by omega), rt_cl0 (by omega), rt_cl0 (by omega)]
    have fin : ∀ k, k = max f (L - 7) → ∀ v4 v5 : Option Value, rw_W p l e rr_X_since s m (Value.ref h0 :: [Value.int (nI q), Value.int (nI g), Value.int (nI f)]).toArray below meth c D A 7 0 0 (MQ below (va_Qi (fun r u => r = sp_since hist L (nI q) (nI g) (nI f) ∧ rx_E hist L u) (rw_B D (rx_t dA) (rx_w dA h0 ad) A) A) (Value.ref h0 :: [Value.int (nI q), Value.int (nI g), Value.int (nI f)]).toArray s 0 0 A) (rx_w dA h0 ad st) [some (.ref h0), some (.int (nI q)), some (.int (nI g)), some (.int (nI f)), v4, v5, some (.int (nI k))] 55 [] := by
      intro k hk v4 v5
      refine kX_since_loop F (V := sp_since hist L (nI q) (nI g) (nI f)) hq hg (fun u v6 hE2 h3 => ?_) (fun u k hE2 h3 => ?_) (L + 1 - k) k st (by omega) (by omega) (rx_IE hI) (by rw [hV, hk])
      · refine rw_bipush (v := (-3)) F dX0_since_91 (by decide) ?_
        exact rw_ret F hr rfl ⟨h3.symm, hE2⟩ dX0_since_93
      · refine rw_iload F dX0_since_82 rfl ?_
        exact rw_ret F hr rfl ⟨h3.symm, hE2⟩ dX0_since_84
    refine rw_aload_n F dX0_since_26 rfl ?_
    refine rx_g_latestState F dX0_since_27 ?_
    refine rw_as (rx_I4 hI) ?_
    refine rw_bipush (v := nI 8) F dX0_since_30 (by decide) ?_
    refine rw_isub F dX0_since_32 ?_
    refine rw_iconst (v := nI 1) F dX0_since_33 (by decide) ?_
    refine rw_iadd F dX0_since_34 ?_
    refine rw_istore F dX0_since_35 (by decide) ?_
    refine rw_iload_n F dX0_since_37 rfl ?_
    refine rw_iload F dX0_since_38 rfl ?_
    refine rw_icmp_ge (tgt := 48) F dX0_since_40 (by decide) (fun c40 => ?_) (fun c40 => ?_)
    · have hc := (rt_old2 hL (by omega)).mp c40
      refine rw_iload_n F dX0_since_48 rfl ?_
      refine rw_istore F dX0_since_49 (by decide) ?_
      refine rw_iload F dX0_since_51 rfl ?_
      refine rw_istore F dX0_since_53 (by decide) ?_
      exact fin f (by omega) _ _
    · have hc : ¬ L ≤ f + 7 := fun z => c40 ((rt_old2 hL (by omega)).mpr z)
      refine rw_iload F dX0_since_43 rfl ?_
      refine rw_goto (tgt := 49) F dX0_since_45 (by decide) ?_
      refine rw_istore F dX0_since_49 (by decide) ?_
      refine rw_iload F dX0_since_51 rfl ?_
      refine rw_as (rt_old3 (by omega)) ?_
      refine rw_istore F dX0_since_53 (by decide) ?_
      exact fin (L - 7) (by omega) _ _
  · refine rw_iconst (v := (-1)) F dX0_since_24 (by decide) ?_
    refine rw_ret F hr rfl ⟨?_, rx_IE hI⟩ dX0_since_25
    unfold sp_since
    rw [if_neg (by rw [rt_b_0.mp c21, Bool.and_false]; decide)]
end XL
end
section
/-! RelationTuplesModel: its small methods, next, and the changes -/
set_option maxRecDepth 100000
theorem rt_ix (q g : Nat) : nI 18 * nI q + nI g = nI (18 * q + g) := by rw [pk_mul, nI_add]
theorem rt_ix3 (q g : Nat) : nI 3 * nI q + nI g = nI (3 * q + g) := by rw [pk_mul, nI_add]
section YS
variable {p : Program} {l : Launch} {e : Env} {R : Room} {s : State} {m : MethodId} {args : Array Value} {below : List Frame} {meth : Method} {c : Code} {D : va_G} {A : Nat → Prop} {dA : Nat → ClassId} {h0 : Nat} {ad : Nat → Nat} {Q : State → Prop}
set_option maxHeartbeats 4000000 in
set_option maxRecDepth 100000 in
theorem cY_isPerson {st : rt_S} (x : Int32) : rw_Mi l D (ry_t dA) (ry_w dA h0 ad) yX1_isPerson cX1_isPerson 2 (some .boolean) rr_M_isPerson h0 [.int x] st (fun r u => r = rt_b (rt_lt x 6) ∧ st = u) := by
  refine rw_Mi.of (own := RX1) (lv := [some (.ref h0), some (.int x)]) (by decide) rfl 0 (Nat.le_of_ble_eq_true rfl) rfl rfl (fun p e s m below meth c A F hr => ?_)
  refine rw_iload_n F dX1_isPerson_0 rfl ?_
  refine rw_if_lt (tgt := 13) F dX1_isPerson_1 (by decide) (fun c1 => ?_) (fun c1 => ?_)
  · refine rw_iconst (v := nI 0) F dX1_isPerson_13 (by decide) ?_
    exact rw_ret F hr (rt_nZ false) ⟨by rw [rt_lt_neg c1]; rfl, rfl⟩ dX1_isPerson_14
  refine rw_iload_n F dX1_isPerson_4 rfl ?_
  refine rw_iconst (v := nI 5) F dX1_isPerson_5 (by decide) ?_
  refine rw_icmp_gt (tgt := 13) F dX1_isPerson_6 (by decide) (fun c6 => ?_) (fun c6 => ?_)
  · refine rw_iconst (v := nI 0) F dX1_isPerson_13 (by decide) ?_
    exact rw_ret F hr (rt_nZ false) ⟨by rw [rt_lt_no2 c6 (by decide) (by decide)]; rfl, rfl⟩ dX1_isPerson_14
  refine rw_iconst (v := nI 1) F dX1_isPerson_9 (by decide) ?_
  refine rw_goto (tgt := 14) F dX1_isPerson_10 (by decide) ?_
  exact rw_ret F hr (rt_nZ true) ⟨by rw [rt_lt_yes2 c1 c6 (by decide)]; rfl, rfl⟩ dX1_isPerson_14
set_option maxHeartbeats 4000000 in
set_option maxRecDepth 100000 in
theorem cY_isGroup {st : rt_S} (x : Int32) : rw_Mi l D (ry_t dA) (ry_w dA h0 ad) yX1_isGroup cX1_isGroup 2 (some .boolean) rr_M_isGroup h0 [.int x] st (fun r u => r = rt_b (rt_lt x 18) ∧ st = u) := by
  refine rw_Mi.of (own := RX1) (lv := [some (.ref h0), some (.int x)]) (by decide) rfl 0 (Nat.le_of_ble_eq_true rfl) rfl rfl (fun p e s m below meth c A F hr => ?_)
  refine rw_iload_n F dX1_isGroup_0 rfl ?_
  refine rw_if_lt (tgt := 14) F dX1_isGroup_1 (by decide) (fun c1 => ?_) (fun c1 => ?_)
  · refine rw_iconst (v := nI 0) F dX1_isGroup_14 (by decide) ?_
    exact rw_ret F hr (rt_nZ false) ⟨by rw [rt_lt_neg c1]; rfl, rfl⟩ dX1_isGroup_15
  refine rw_iload_n F dX1_isGroup_4 rfl ?_
  refine rw_bipush (v := nI 17) F dX1_isGroup_5 (by decide) ?_
  refine rw_icmp_gt (tgt := 14) F dX1_isGroup_7 (by decide) (fun c7 => ?_) (fun c7 => ?_)
  · refine rw_iconst (v := nI 0) F dX1_isGroup_14 (by decide) ?_
    exact rw_ret F hr (rt_nZ false) ⟨by rw [rt_lt_no2 c7 (by decide) (by decide)]; rfl, rfl⟩ dX1_isGroup_15
  refine rw_iconst (v := nI 1) F dX1_isGroup_10 (by decide) ?_
  refine rw_goto (tgt := 15) F dX1_isGroup_11 (by decide) ?_
  exact rw_ret F hr (rt_nZ true) ⟨by rw [rt_lt_yes2 c1 c7 (by decide)]; rfl, rfl⟩ dX1_isGroup_15
set_option maxHeartbeats 4000000 in
set_option maxRecDepth 100000 in
theorem cY_in {st : rt_S} (x : Int32) {k : Nat} (hk : k < 32) : rw_Mi l D (ry_t dA) (ry_w dA h0 ad) yX1_in cX1_in 3 (some .boolean) rr_M_in h0 [.int x, .int (nI k)] st (fun r u => r = rt_b (bt x k) ∧ st = u) := by
  refine rw_Mi.of (own := RX1) (lv := [some (.ref h0), some (.int x), some (.int (nI k))]) (by decide) rfl 0 (Nat.le_of_ble_eq_true rfl) rfl rfl (fun p e s m below meth c A F hr => ?_)
  refine rw_iload_n F dX1_in_0 rfl ?_
  refine rw_iload_n F dX1_in_1 rfl ?_
  refine rw_ishr F dX1_in_2 ?_
  refine rw_iconst (v := nI 1) F dX1_in_3 (by decide) ?_
  refine rw_iand F dX1_in_4 ?_
  refine rw_as (rt_get x hk) ?_
  refine rw_iconst (v := nI 1) F dX1_in_5 (by decide) ?_
  refine rw_icmp_ne (tgt := 13) F dX1_in_6 (by decide) (fun c6 => ?_) (fun c6 => ?_)
  · have h : bt x k = false := by
      cases h2 : bt x k
      · rfl
      · rw [h2] at c6; exact absurd rfl c6
    refine rw_iconst (v := nI 0) F dX1_in_13 (by decide) ?_
    exact rw_ret F hr (rt_nZ false) ⟨by rw [h]; rfl, rfl⟩ dX1_in_14
  refine rw_iconst (v := nI 1) F dX1_in_9 (by decide) ?_
  refine rw_goto (tgt := 14) F dX1_in_10 (by decide) ?_
  exact rw_ret F hr (rt_nZ true) ⟨by rw [rt_b_1.mp c6]; rfl, rfl⟩ dX1_in_14
set_option maxHeartbeats 4000000 in
set_option maxRecDepth 100000 in
theorem cY_with {st : rt_S} (x : Int32) {k : Nat} (b : Bool) : rw_Mi l D (ry_t dA) (ry_w dA h0 ad) yX1_with cX1_with 4 (some .int) rr_M_with h0 [.int x, .int (nI k), .int (rt_b b)] st (fun r u => r = rt_set x k b ∧ st = u) := by
  refine rw_Mi.of (own := RX1) (lv := [some (.ref h0), some (.int x), some (.int (nI k)), some (.int (rt_b b))]) (by decide) rfl 0 (Nat.le_of_ble_eq_true rfl) rfl rfl (fun p e s m below meth c A F hr => ?_)
  refine rw_iload_n F dX1_with_0 rfl ?_
  refine rw_if_eq (tgt := 12) F dX1_with_1 (by decide) (fun c1 => ?_) (fun c1 => ?_)
  · refine rw_iload_n F dX1_with_12 rfl ?_
    refine rw_iconst (v := nI 1) F dX1_with_13 (by decide) ?_
    refine rw_iload_n F dX1_with_14 rfl ?_
    refine rw_ishl F dX1_with_15 ?_
    refine rw_iconst (v := (-1)) F dX1_with_16 (by decide) ?_
    refine rw_ixor F dX1_with_17 ?_
    refine rw_iand F dX1_with_18 ?_
    exact rw_ret F hr rfl ⟨by rw [rt_b_0.mp c1]; rfl, rfl⟩ dX1_with_19
  refine rw_iload_n F dX1_with_4 rfl ?_
  refine rw_iconst (v := nI 1) F dX1_with_5 (by decide) ?_
  refine rw_iload_n F dX1_with_6 rfl ?_
  refine rw_ishl F dX1_with_7 ?_
  refine rw_ior F dX1_with_8 ?_
  refine rw_goto (tgt := 19) F dX1_with_9 (by decide) ?_
  exact rw_ret F hr rfl ⟨by rw [rt_b_n0 c1]; rfl, rfl⟩ dX1_with_19
set_option maxHeartbeats 4000000 in
set_option maxRecDepth 100000 in
theorem cY_latest {st : rt_S} : rw_Mi l D (ry_t dA) (ry_w dA h0 ad) yX1_latest cX1_latest 1 (some .int) rr_M_latest h0 [] st (fun r u => r = st 0 0 ∧ st = u) := by
  refine rw_Mi.of (own := RX1) (lv := [some (.ref h0)]) (by decide) rfl 0 (Nat.le_of_ble_eq_true rfl) rfl rfl (fun p e s m below meth c A F hr => ?_)
  refine rw_aload_n F dX1_latest_0 rfl ?_
  refine ry_g_latest F dX1_latest_1 ?_
  exact rw_ret F hr rfl ⟨rfl, rfl⟩ dX1_latest_4
set_option maxHeartbeats 4000000 in
set_option maxRecDepth 100000 in
theorem cY_exists {st : rt_S} {L : Nat} (hL : L < 1000) (h4 : st 0 0 = nI L) (x : Int32) : rw_Mi l D (ry_t dA) (ry_w dA h0 ad) yX1_exists cX1_exists 2 (some .boolean) rr_M_exists h0 [.int x] st (fun r u => r = rt_b (rt_lt x (L + 1)) ∧ st = u) := by
  refine rw_Mi.of (own := RX1) (lv := [some (.ref h0), some (.int x)]) (by decide) rfl 0 (Nat.le_of_ble_eq_true rfl) rfl rfl (fun p e s m below meth c A F hr => ?_)
  refine rw_iload_n F dX1_exists_0 rfl ?_
  refine rw_if_lt (tgt := 16) F dX1_exists_1 (by decide) (fun c1 => ?_) (fun c1 => ?_)
  · refine rw_iconst (v := nI 0) F dX1_exists_16 (by decide) ?_
    exact rw_ret F hr (rt_nZ false) ⟨by rw [rt_lt_neg c1]; rfl, rfl⟩ dX1_exists_17
  refine rw_iload_n F dX1_exists_4 rfl ?_
  refine rw_aload_n F dX1_exists_5 rfl ?_
  refine ry_g_latest F dX1_exists_6 ?_
  refine rw_as h4 ?_
  refine rw_icmp_gt (tgt := 16) F dX1_exists_9 (by decide) (fun c9 => ?_) (fun c9 => ?_)
  · refine rw_iconst (v := nI 0) F dX1_exists_16 (by decide) ?_
    exact rw_ret F hr (rt_nZ false) ⟨by rw [rt_lt_no2 c9 (by omega) (by omega)]; rfl, rfl⟩ dX1_exists_17
  refine rw_iconst (v := nI 1) F dX1_exists_12 (by decide) ?_
  refine rw_goto (tgt := 17) F dX1_exists_13 (by decide) ?_
  exact rw_ret F hr (rt_nZ true) ⟨by rw [rt_lt_yes2 c1 c9 (by omega)]; rfl, rfl⟩ dX1_exists_17
set_option maxHeartbeats 4000000 in
set_option maxRecDepth 100000 in
theorem cY_isKept {st : rt_S} {L : Nat} (hL : L < 1000) (h4 : st 0 0 = nI L) (x : Int32) : rw_Mi l D (ry_t dA) (ry_w dA h0 ad) yX1_isKept cX1_isKept 2 (some .boolean) rr_M_isKept h0 [.int x] st (fun r u => r = rt_b (rt_kp x L) ∧ st = u) := by
  refine rw_Mi.of (own := RX1) (lv := [some (.ref h0), some (.int x)]) (by decide) rfl 0 (Nat.le_of_ble_eq_true rfl) rfl rfl (fun p e s m below meth c A F hr => ?_)
  refine rw_aload_n F dX1_isKept_0 rfl ?_
  refine rw_iload_n F dX1_isKept_1 rfl ?_
  refine rw_calli F (cY_exists hL h4 x) (cwV 1 F.2.2.2.2.1 (lw_V q216 q218 qs14 q21 q219) rfl rfl rfl dd_M_exists ⟨Nat.le_of_ble_eq_true rfl, Nat.le_of_ble_eq_true rfl⟩) rfl rfl rfl rfl rfl (Nat.le_of_ble_eq_true rfl) dX1_isKept_2 ⟨Nat.zero_le _, Nat.zero_le _⟩ (fun r2 u2 h2 => ?_)
  obtain ⟨rfl, rfl⟩ := h2
  refine rw_if_eq (tgt := 23) F dX1_isKept_5 (by decide) (fun c5 => ?_) (fun c5 => ?_)
  · refine rw_iconst (v := nI 0) F dX1_isKept_23 (by decide) ?_
    exact rw_ret F hr (rt_nZ false) ⟨by unfold rt_kp; rw [rt_b_0.mp c5]; rfl, rfl⟩ dX1_isKept_24
  obtain ⟨k, hk, rfl⟩ := rt_lt_of (rt_b_n0 c5) (by omega)
  refine rw_iload_n F dX1_isKept_8 rfl ?_
  refine rw_aload_n F dX1_isKept_9 rfl ?_
  refine ry_g_latest F dX1_isKept_10 ?_
  refine rw_as h4 ?_
  refine rw_bipush (v := nI 8) F dX1_isKept_13 (by decide) ?_
  refine rw_isub F dX1_isKept_15 ?_
  refine rw_icmp_le (tgt := 23) F dX1_isKept_16 (by decide) (fun c16 => ?_) (fun c16 => ?_)
  · refine rw_iconst (v := nI 0) F dX1_isKept_23 (by decide) ?_
    exact rw_ret F hr (rt_nZ false) ⟨by rw [rt_kp_nI hL hk, decide_eq_false (by have := (rt_le8 (by omega) hL).mp c16; omega)]; rfl, rfl⟩ dX1_isKept_24
  refine rw_iconst (v := nI 1) F dX1_isKept_19 (by decide) ?_
  refine rw_goto (tgt := 24) F dX1_isKept_20 (by decide) ?_
  exact rw_ret F hr (rt_nZ true) ⟨by rw [rt_kp_nI hL hk, decide_eq_true (Nat.lt_of_not_le (fun z => c16 ((rt_le8 (by omega) hL).mpr z)))]; rfl, rfl⟩ dX1_isKept_24
set_option maxHeartbeats 4000000 in
set_option maxRecDepth 100000 in
theorem cY_passes {S st : rt_S} {q g h : Nat} (hP : ry_P S st q) (hq : q < 8) (hg : g < 18) (hh : h < 18) : rw_Mi l D (ry_t dA) (ry_w dA h0 ad) yX1_passes cX1_passes 4 (some .boolean) rr_M_passes h0 [.int (nI q), .int (nI g), .int (nI h)] st (fun r u => r = rt_b (rt_ed S g h) ∧ st = u) := by
  refine rw_Mi.of (own := RX1) (lv := [some (.ref h0), some (.int (nI q)), some (.int (nI g)), some (.int (nI h))]) (by decide) rfl 0 (Nat.le_of_ble_eq_true rfl) rfl rfl (fun p e s m below meth c A F hr => ?_)
  refine rw_aload_n F dX1_passes_0 rfl ?_
  refine rw_aload_n F dX1_passes_1 rfl ?_
  refine ry_g_inner F dX1_passes_2 ?_
  refine rw_bipush (v := nI 18) F dX1_passes_5 (by decide) ?_
  refine rw_iload_n F dX1_passes_7 rfl ?_
  refine rw_imul F dX1_passes_8 ?_
  refine rw_iload_n F dX1_passes_9 rfl ?_
  refine rw_iadd F dX1_passes_10 ?_
  refine rw_as (rt_ix q h) ?_
  refine ry_l_inner F rfl (by omega) dX1_passes_11 ?_
  refine rw_as (hP.1 h hh).2 ?_
  refine rw_iload_n F dX1_passes_12 rfl ?_
  refine rw_calli F (cY_in (S 1 h) (by omega)) (cwV 2 F.2.2.2.2.1 (lw_V q232 q234 qs18 q21 q235) rfl rfl rfl dd_M_in ⟨Nat.le_of_ble_eq_true rfl, Nat.le_of_ble_eq_true rfl⟩) rfl rfl rfl rfl rfl (Nat.le_of_ble_eq_true rfl) dX1_passes_13 ⟨Nat.zero_le _, Nat.zero_le _⟩ (fun r13 u13 h13 => ?_)
  obtain ⟨rfl, rfl⟩ := h13
  refine rw_if_eq (tgt := 21) F dX1_passes_16 (by decide) (fun c16 => ?_) (fun c16 => ?_)
  · have e1 := rt_b_0.mp c16
    refine rw_iload_n F dX1_passes_21 rfl ?_
    refine rw_iconst (v := nI 3) F dX1_passes_22 (by decide) ?_
    refine rw_idivN F dX1_passes_23 (by omega) (by omega) (by omega) ?_
    refine rw_iload_n F dX1_passes_24 rfl ?_
    refine rw_iconst (v := nI 3) F dX1_passes_25 (by decide) ?_
    refine rw_idivN F dX1_passes_26 (by omega) (by omega) (by omega) ?_
    refine rw_icmp_ne_N (tgt := 56) F dX1_passes_27 (by decide) (by omega) (by omega) (fun c27 => ?_) (fun c27 => ?_)
    · refine rw_iconst (v := nI 0) F dX1_passes_56 (by decide) ?_
      exact rw_ret F hr (rt_nZ false) ⟨by unfold rt_ed; rw [e1, decide_eq_false c27]; rfl, rfl⟩ dX1_passes_57
    refine rw_aload_n F dX1_passes_30 rfl ?_
    refine rw_aload_n F dX1_passes_31 rfl ?_
    refine ry_g_rules F dX1_passes_32 ?_
    refine rw_iload_n F dX1_passes_35 rfl ?_
    refine ry_l_rules F rfl hq dX1_passes_36 ?_
    refine rw_iconst (v := nI 3) F dX1_passes_37 (by decide) ?_
    refine rw_iload_n F dX1_passes_38 rfl ?_
    refine rw_iconst (v := nI 3) F dX1_passes_39 (by decide) ?_
    refine rw_iremN F dX1_passes_40 (by omega) (by omega) (by omega) ?_
    refine rw_imul F dX1_passes_41 ?_
    refine rw_iload_n F dX1_passes_42 rfl ?_
    refine rw_iconst (v := nI 3) F dX1_passes_43 (by decide) ?_
    refine rw_iremN F dX1_passes_44 (by omega) (by omega) (by omega) ?_
    refine rw_iadd F dX1_passes_45 ?_
    refine rw_as (rt_ix3 (g % 3) (h % 3)) ?_
    refine rw_calli F (cY_in (st 3 q) (by omega)) (cwV 2 F.2.2.2.2.1 (lw_V q232 q234 qs18 q21 q235) rfl rfl rfl dd_M_in ⟨Nat.le_of_ble_eq_true rfl, Nat.le_of_ble_eq_true rfl⟩) rfl rfl rfl rfl rfl (Nat.le_of_ble_eq_true rfl) dX1_passes_46 ⟨Nat.zero_le _, Nat.zero_le _⟩ (fun r46 u46 h46 => ?_)
    obtain ⟨rfl, rfl⟩ := h46
    refine rw_as (congrArg rt_b (hP.2 (g % 3) (h % 3) (by omega) (by omega))) ?_
    refine rw_if_eq (tgt := 56) F dX1_passes_49 (by decide) (fun c49 => ?_) (fun c49 => ?_)
    · refine rw_iconst (v := nI 0) F dX1_passes_56 (by decide) ?_
      exact rw_ret F hr (rt_nZ false) ⟨by unfold rt_ed; rw [e1, rt_b_0.mp c49, Bool.and_false]; rfl, rfl⟩ dX1_passes_57
    refine rw_iconst (v := nI 1) F dX1_passes_52 (by decide) ?_
    refine rw_goto (tgt := 57) F dX1_passes_53 (by decide) ?_
    exact rw_ret F hr (rt_nZ true) ⟨by unfold rt_ed; rw [e1, decide_eq_true c27, rt_b_n0 c49]; rfl, rfl⟩ dX1_passes_57
  refine rw_iconst (v := nI 1) F dX1_passes_19 (by decide) ?_
  exact rw_ret F hr (rt_nZ true) ⟨by unfold rt_ed; rw [rt_b_n0 c16, Bool.true_or]; rfl, rfl⟩ dX1_passes_20
end YS
/-! next -/
def ry_cp (w u : rt_S) (q q2 g : Nat) : Prop := (∀ k, k ≠ 1 → k ≠ 2 → u k = w k) ∧ (∀ i, i < g → u 1 (18 * q2 + i) = w 1 (18 * q + i) ∧ u 2 (18 * q2 + i) = w 2 (18 * q + i)) ∧ ∀ i, i < 18 * q2 ∨ 18 * q2 + 18 ≤ i → u 1 i = w 1 i ∧ u 2 i = w 2 i
theorem ry_cp_s {w u : rt_S} {q q2 g : Nat} (h : ry_cp w u q q2 g) (hq : q < 8) (hq2 : q2 < 8) (hne : q ≠ q2) (hg : g < 18) : ry_cp w (rt_u (rt_u u 1 (18 * q2 + g) (u 1 (18 * q + g))) 2 (18 * q2 + g) (rt_u u 1 (18 * q2 + g) (u 1 (18 * q + g)) 2 (18 * q + g))) q q2 (g + 1) := by
  obtain ⟨h1, h2, h3⟩ := h
  have ho := h3 (18 * q + g) (by omega)
  refine ⟨fun k k1 k2 => ?_, fun i hi => ?_, fun i hi => ?_⟩
  · rw [rt_u_n _ _ _ k2, rt_u_n _ _ _ k1]; exact h1 k k1 k2
  · by_cases e : i = g
    · subst e
      refine ⟨?_, ?_⟩
      · rw [rt_u_n _ _ _ (by decide), rt_u_s]; exact ho.1
      · rw [rt_u_s, rt_u_n _ _ _ (by decide)]; exact ho.2
    · refine ⟨?_, ?_⟩
      · rw [rt_u_n _ _ _ (by decide), rt_u_o _ _ _ (by omega)]; exact (h2 i (by omega)).1
      · rw [rt_u_o _ _ _ (by omega), rt_u_n _ _ _ (by decide)]; exact (h2 i (by omega)).2
  · refine ⟨?_, ?_⟩
    · rw [rt_u_n _ _ _ (by decide), rt_u_o _ _ _ (by omega)]; exact (h3 i hi).1
    · rw [rt_u_o _ _ _ (by omega), rt_u_n _ _ _ (by decide)]; exact (h3 i hi).2
theorem ry_next {hist : Nat → rt_S} {L : Nat} {st u : rt_S} (hI : ry_I hist L st) (hL : L < 999) (h : ry_cp (rt_u st 0 0 (nI (L + 1))) u (L % 8) ((L + 1) % 8) 18) : ry_I (va_up hist (L + 1) (hist L)) (L + 1) (rt_u u 3 ((L + 1) % 8) (u 3 (L % 8))) := by
  obtain ⟨h1, h2, h3⟩ := h
  obtain ⟨q1, q2, q3⟩ := hI
  have e3 : u 3 = st 3 := (h1 3 (by decide) (by decide)).trans (rt_u_n _ _ _ (by decide))
  have e12 : ∀ k, k ≠ 0 → rt_u st 0 0 (nI (L + 1)) k = st k := fun k hk => rt_u_n _ _ _ hk
  refine ⟨by omega, ?_, fun k hk hk8 => ?_⟩
  · rw [rt_u_n _ _ _ (by decide), h1 0 (by decide) (by decide)]; exact rt_u_s _ _ _ _
  · by_cases e : k = L + 1
    · subst e
      rw [va_up_self]
      obtain ⟨p1, p2⟩ := q3 L (Nat.le_refl L) (by omega)
      refine ⟨fun g hg => ?_, fun r t hr ht => ?_⟩
      · rw [rt_u_n _ _ _ (by decide), rt_u_n _ _ _ (by decide), (h2 g hg).1, (h2 g hg).2, e12 1 (by decide), e12 2 (by decide)]
        exact p1 g hg
      · rw [rt_u_s, e3]; exact p2 r t hr ht
    · rw [va_up_ne _ _ e]
      obtain ⟨p1, p2⟩ := q3 k (by omega) (by omega)
      have hne : k % 8 ≠ (L + 1) % 8 := by omega
      refine ⟨fun g hg => ?_, fun r t hr ht => ?_⟩
      · have h4 := h3 (18 * (k % 8) + g) (by omega)
        rw [rt_u_n _ _ _ (by decide), rt_u_n _ _ _ (by decide), h4.1, h4.2, e12 1 (by decide), e12 2 (by decide)]
        exact p1 g hg
      · rw [rt_u_o _ _ _ hne, e3]; exact p2 r t hr ht
theorem ry_set01 {hist : Nat → rt_S} {L so g q : Nat} {S u : rt_S} {b : Bool} (hso : so < 2) (hg : g < 18) (h : ry_I (va_up hist (L + 1) S) (L + 1) u) : ry_I (va_up hist (L + 1) (rt_ap S so g q b)) (L + 1) (rt_u u (so + 1) (18 * ((L + 1) % 8) + g) (rt_set (u (so + 1) (18 * ((L + 1) % 8) + g)) q b)) := by
  obtain ⟨q1, q2, q3⟩ := h
  refine ⟨q1, ?_, fun k hk hk8 => ?_⟩
  · rw [rt_u_n _ _ _ (by omega)]; exact q2
  · have q4 := q3 k hk hk8
    have hr : ∀ t, rt_u u (so + 1) (18 * ((L + 1) % 8) + g) (rt_set (u (so + 1) (18 * ((L + 1) % 8) + g)) q b) 3 t = u 3 t := fun t => congrFun (rt_u_n _ _ _ (by omega)) t
    by_cases e : k = L + 1
    · subst e
      rw [va_up_self] at q4 ⊢
      obtain ⟨p1, p2⟩ := q4
      refine ⟨fun i hi => ?_, fun r t hr2 ht => ?_⟩
      · rcases (by omega : so = 0 ∨ so = 1) with z | z
        · subst z
          refine ⟨?_, ?_⟩
          · by_cases ei : i = g
            · subst ei
              rw [rt_u_s, (p1 i hi).1]
              exact (rt_u_s _ _ _ _).symm
            · rw [rt_u_o _ _ _ (by omega), (p1 i hi).1]
              exact (rt_u_o _ _ _ ei).symm
          · rw [rt_u_n _ _ _ (by decide), (p1 i hi).2]
            exact (congrFun (rt_u_n _ _ _ (by decide)) i).symm
        · subst z
          refine ⟨?_, ?_⟩
          · rw [rt_u_n _ _ _ (by decide), (p1 i hi).1]
            exact (congrFun (rt_u_n _ _ _ (by decide)) i).symm
          · by_cases ei : i = g
            · subst ei
              rw [rt_u_s, (p1 i hi).2]
              exact (rt_u_s _ _ _ _).symm
            · rw [rt_u_o _ _ _ (by omega), (p1 i hi).2]
              exact (rt_u_o _ _ _ ei).symm
      · rw [hr, p2 r t hr2 ht]
        unfold rt_ap
        rw [rt_u_n _ _ _ (by omega)]
    · rw [va_up_ne _ _ e] at q4 ⊢
      obtain ⟨p1, p2⟩ := q4
      have hne : k % 8 ≠ (L + 1) % 8 := by omega
      refine ⟨fun i hi => ?_, fun r t hr2 ht => ?_⟩
      · rw [rt_u_at, rt_u_at, if_neg (by omega), if_neg (by omega)]
        exact p1 i hi
      · rw [hr]; exact p2 r t hr2 ht
theorem ry_set2 {hist : Nat → rt_S} {L g q : Nat} {S u : rt_S} {b : Bool} (hg : g < 3) (hq : q < 3) (h : ry_I (va_up hist (L + 1) S) (L + 1) u) : ry_I (va_up hist (L + 1) (rt_ap S 2 g q b)) (L + 1) (rt_u u 3 ((L + 1) % 8) (rt_set (u 3 ((L + 1) % 8)) (3 * q + g) b)) := by
  obtain ⟨q1, q2, q3⟩ := h
  refine ⟨q1, ?_, fun k hk hk8 => ?_⟩
  · rw [rt_u_n _ _ _ (by decide)]; exact q2
  · have q4 := q3 k hk hk8
    by_cases e : k = L + 1
    · subst e
      rw [va_up_self] at q4 ⊢
      obtain ⟨p1, p2⟩ := q4
      unfold rt_ap
      refine ⟨fun i hi => ?_, fun r t hr2 ht => ?_⟩
      · rw [rt_u_n _ _ _ (by decide), rt_u_n _ _ _ (by decide), rt_u_n _ _ _ (by decide), rt_u_n _ _ _ (by decide)]
        exact p1 i hi
      · rw [rt_u_s, rt_set_bt _ _ (by omega) (by omega)]
        by_cases et : t = g
        · subst et
          rw [rt_u_s, rt_set_bt _ _ (by omega) (by omega)]
          by_cases er : r = q
          · rw [if_pos (by omega), if_pos er]
          · rw [if_neg (by omega), if_neg er]; exact p2 r t hr2 ht
        · rw [rt_u_o _ _ _ et, if_neg (by omega)]; exact p2 r t hr2 ht
    · rw [va_up_ne _ _ e] at q4 ⊢
      obtain ⟨p1, p2⟩ := q4
      have hne : k % 8 ≠ (L + 1) % 8 := by omega
      refine ⟨fun i hi => ?_, fun r t hr2 ht => ?_⟩
      · rw [rt_u_n _ _ _ (by decide), rt_u_n _ _ _ (by decide)]
        exact p1 i hi
      · rw [rt_u_o _ _ _ hne]; exact p2 r t hr2 ht
end
section
/-! RelationTuplesModel: next, enter, nest, rule -/
set_option maxRecDepth 100000
theorem ry_bad {ok : Bool} {hist : Nat → rt_S} {L so : Nat} {pl pa : Int32} {b : Bool} {u : rt_S} (h : ok = false) (hI : ry_I hist L u) : (-1 : Int32) = sp_r ok L ∧ ry_I (sp_h ok hist L so pl pa b) (sp_L ok L) u := by
  subst h
  exact ⟨rfl, hI⟩
theorem ry_good {ok : Bool} {hist : Nat → rt_S} {L so pl pa : Nat} {b : Bool} {u : rt_S} (h : ok = true) (h1 : pl < 1000) (h2 : pa < 1000) (hI : ry_I (va_up hist (L + 1) (rt_ap (hist L) so pl pa b)) (L + 1) u) : nI (L + 1) = sp_r ok L ∧ ry_I (sp_h ok hist L so (nI pl) (nI pa) b) (sp_L ok L) u := by
  rw [sp_h_t h h1 h2]
  subst h
  exact ⟨rfl, hI⟩
section YC
variable {p : Program} {l : Launch} {e : Env} {R : Room} {s : State} {m : MethodId} {args : Array Value} {below : List Frame} {meth : Method} {c : Code} {D : va_G} {A : Nat → Prop} {dA : Nat → ClassId} {h0 : Nat} {ad : Nat → Nat} {Q : State → Prop}
set_option maxHeartbeats 4000000 in
set_option maxRecDepth 100000 in
theorem kY_next_loop (F : rw_F p s m args meth c D A (ry_t dA) cX1_next 4 RX1) {w : rt_S} {q q2 : Nat} (hq : q < 8) (hq2 : q2 < 8) (hne : q ≠ q2)
    (hx : ∀ u : rt_S, ry_cp w u q q2 18 → rw_W p l e R s m args below meth c D A 4 0 0 Q (ry_w dA h0 ad (u)) [some (.ref h0), some (.int (nI q)), some (.int (nI q2)), some (.int (nI 18))] 84 []) :
    ∀ (n g : Nat) (u : rt_S), g + n = 18 → ry_cp w u q q2 g → rw_W p l e R s m args below meth c D A 4 0 0 Q (ry_w dA h0 ad (u)) [some (.ref h0), some (.int (nI q)), some (.int (nI q2)), some (.int (nI g))] 28 [] := by
  intro n
  induction n with
  | zero =>
    intro g u hg hc
    obtain rfl : g = 18 := by omega
    refine rw_iload_n F dX1_next_28 rfl ?_
    refine rw_bipush (v := nI 18) F dX1_next_29 (by decide) ?_
    refine rw_icmp_ge_N (tgt := 84) F dX1_next_31 (by decide) (by omega) (by omega) (fun c31 => ?_) (fun c31 => ?_)
    · exact hx u hc
    · exact absurd c31 (by omega)
  | succ n ih =>
    intro g u hg hc
    refine rw_iload_n F dX1_next_28 rfl ?_
    refine rw_bipush (v := nI 18) F dX1_next_29 (by decide) ?_
    refine rw_icmp_ge_N (tgt := 84) F dX1_next_31 (by decide) (by omega) (by omega) (fun c31 => ?_) (fun c31 => ?_)
    · exact absurd c31 (by omega)
    refine rw_aload_n F dX1_next_34 rfl ?_
    refine ry_g_entered F dX1_next_35 ?_
    refine rw_bipush (v := nI 18) F dX1_next_38 (by decide) ?_
    refine rw_iload_n F dX1_next_40 rfl ?_
    refine rw_imul F dX1_next_41 ?_
    refine rw_iload_n F dX1_next_42 rfl ?_
    refine rw_iadd F dX1_next_43 ?_
    refine rw_as (rt_ix q2 g) ?_
    refine rw_aload_n F dX1_next_44 rfl ?_
    refine ry_g_entered F dX1_next_45 ?_
    refine rw_bipush (v := nI 18) F dX1_next_48 (by decide) ?_
    refine rw_iload_n F dX1_next_50 rfl ?_
    refine rw_imul F dX1_next_51 ?_
    refine rw_iload_n F dX1_next_52 rfl ?_
    refine rw_iadd F dX1_next_53 ?_
    refine rw_as (rt_ix q g) ?_
    refine ry_l_entered F rfl (by omega) dX1_next_54 ?_
    refine ry_s_entered F rfl (by omega) dX1_next_55 ?_
    refine rw_aload_n F dX1_next_56 rfl ?_
    refine ry_g_inner F dX1_next_57 ?_
    refine rw_bipush (v := nI 18) F dX1_next_60 (by decide) ?_
    refine rw_iload_n F dX1_next_62 rfl ?_
    refine rw_imul F dX1_next_63 ?_
    refine rw_iload_n F dX1_next_64 rfl ?_
    refine rw_iadd F dX1_next_65 ?_
    refine rw_as (rt_ix q2 g) ?_
    refine rw_aload_n F dX1_next_66 rfl ?_
    refine ry_g_inner F dX1_next_67 ?_
    refine rw_bipush (v := nI 18) F dX1_next_70 (by decide) ?_
    refine rw_iload_n F dX1_next_72 rfl ?_
    refine rw_imul F dX1_next_73 ?_
    refine rw_iload_n F dX1_next_74 rfl ?_
    refine rw_iadd F dX1_next_75 ?_
    refine rw_as (rt_ix q g) ?_
    refine ry_l_inner F rfl (by omega) dX1_next_76 ?_
    refine ry_s_inner F rfl (by omega) dX1_next_77 ?_
    refine rw_iinc1 F dX1_next_78 rfl (by decide) ?_
    refine rw_goto (tgt := 28) F dX1_next_81 (by decide) ?_
    exact ih (g + 1) _ (by omega) (ry_cp_s hc hq hq2 hne c31)
set_option maxHeartbeats 4000000 in
set_option maxRecDepth 100000 in
theorem cY_next {hist : Nat → rt_S} {L : Nat} {st : rt_S} (hI : ry_I hist L st) (hL : L < 999) : rw_Mi l D (ry_t dA) (ry_w dA h0 ad) yX1_next cX1_next 4 (some .int) rr_M_next h0 [] st (fun r u => r = nI ((L + 1) % 8) ∧ ry_I (va_up hist (L + 1) (hist L)) (L + 1) u) := by
  refine rw_Mi.of (own := RX1) (lv := [some (.ref h0), none, none, none]) (by decide) rfl 3 (Nat.le_of_ble_eq_true rfl) rfl rfl (fun p e s m below meth c A F hr => ?_)
  refine rw_aload_n F dX1_next_0 rfl ?_
  refine ry_g_latest F dX1_next_1 ?_
  refine rw_as hI.2.1 ?_
  refine rw_bipush (v := nI 8) F dX1_next_4 (by decide) ?_
  refine rw_iremN F dX1_next_6 (by omega) (by omega) (by omega) ?_
  refine rw_istore_n F dX1_next_7 (by decide) ?_
  refine rw_aload_n F dX1_next_8 rfl ?_
  refine rw_dup F dX1_next_9 rfl ?_
  refine ry_g_latest F dX1_next_10 ?_
  refine rw_as hI.2.1 ?_
  refine rw_iconst (v := nI 1) F dX1_next_13 (by decide) ?_
  refine rw_iadd F dX1_next_14 ?_
  refine rw_as (show _ = nI (L + 1) from nI_add L 1) ?_
  refine ry_p_latest F dX1_next_15 ?_
  refine rw_aload_n F dX1_next_18 rfl ?_
  refine ry_g_latest F dX1_next_19 ?_
  refine rw_as (show _ = nI (L + 1) from rt_u_s _ _ _ _) ?_
  refine rw_bipush (v := nI 8) F dX1_next_22 (by decide) ?_
  refine rw_iremN F dX1_next_24 (by omega) (by omega) (by omega) ?_
  refine rw_istore_n F dX1_next_25 (by decide) ?_
  refine rw_iconst (v := nI 0) F dX1_next_26 (by decide) ?_
  refine rw_istore_n F dX1_next_27 (by decide) ?_
  refine kY_next_loop F (w := rt_u st 0 0 (nI (L + 1))) (q := L % 8) (q2 := (L + 1) % 8) (by omega) (by omega) (by omega) (fun u hc => ?_) 18 0 (rt_u st 0 0 (nI (L + 1))) (by omega) ⟨fun _ _ _ => rfl, fun i hi => by omega, fun _ _ => ⟨rfl, rfl⟩⟩
  refine rw_aload_n F dX1_next_84 rfl ?_
  refine ry_g_rules F dX1_next_85 ?_
  refine rw_iload_n F dX1_next_88 rfl ?_
  refine rw_aload_n F dX1_next_89 rfl ?_
  refine ry_g_rules F dX1_next_90 ?_
  refine rw_iload_n F dX1_next_93 rfl ?_
  refine ry_l_rules F rfl (by omega) dX1_next_94 ?_
  refine ry_s_rules F rfl (by omega) dX1_next_95 ?_
  refine rw_iload_n F dX1_next_96 rfl ?_
  exact rw_ret F hr rfl ⟨rfl, ry_next hI hL hc⟩ dX1_next_97
set_option maxHeartbeats 4000000 in
set_option maxRecDepth 100000 in
theorem cY_enter {hist : Nat → rt_S} {L : Nat} {st : rt_S} (hI : ry_I hist L st) (hL : L < 999) (q g : Int32) (b : Bool) : rw_Mi l D (ry_t dA) (ry_w dA h0 ad) yX1_enter cX1_enter 5 (some .int) rr_M_enter h0 [.int q, .int g, .int (rt_b b)] st (fun r u => r = sp_r (rt_lt q 6 && rt_lt g 18) L ∧ ry_I (sp_h (rt_lt q 6 && rt_lt g 18) hist L 0 g q b) (sp_L (rt_lt q 6 && rt_lt g 18) L) u) := by
  refine rw_Mi.of (own := RX1) (lv := [some (.ref h0), some (.int q), some (.int g), some (.int (rt_b b)), none]) (by decide) rfl 1 (Nat.le_of_ble_eq_true rfl) rfl rfl (fun p e s m below meth c A F hr => ?_)
  refine rw_aload_n F dX1_enter_0 rfl ?_
  refine rw_iload_n F dX1_enter_1 rfl ?_
  refine rw_calli F (cY_isPerson q) (cwV 1 F.2.2.2.2.1 (lw_V q184 q186 qs10 q21 q187) rfl rfl rfl dd_M_isPerson ⟨Nat.le_of_ble_eq_true rfl, Nat.le_of_ble_eq_true rfl⟩) rfl rfl rfl rfl rfl (Nat.le_of_ble_eq_true rfl) dX1_enter_2 ⟨Nat.zero_le _, Nat.zero_le _⟩ (fun r2 u2 h2 => ?_)
  obtain ⟨rfl, rfl⟩ := h2
  refine rw_if_eq (tgt := 16) F dX1_enter_5 (by decide) (fun c5 => ?_) (fun c5 => ?_)
  · refine rw_iconst (v := (-1)) F dX1_enter_16 (by decide) ?_
    exact rw_ret F hr rfl (ry_bad (by rw [rt_b_0.mp c5]; rfl) hI) dX1_enter_17
  refine rw_aload_n F dX1_enter_8 rfl ?_
  refine rw_iload_n F dX1_enter_9 rfl ?_
  refine rw_calli F (cY_isGroup g) (cwV 1 F.2.2.2.2.1 (lw_V q188 q190 qs11 q21 q191) rfl rfl rfl dd_M_isGroup ⟨Nat.le_of_ble_eq_true rfl, Nat.le_of_ble_eq_true rfl⟩) rfl rfl rfl rfl rfl (Nat.le_of_ble_eq_true rfl) dX1_enter_10 ⟨Nat.zero_le _, Nat.zero_le _⟩ (fun r10 u10 h10 => ?_)
  obtain ⟨rfl, rfl⟩ := h10
  refine rw_if_ne (tgt := 18) F dX1_enter_13 (by decide) (fun c13 => ?_) (fun c13 => ?_)
  · have v1 := rt_b_n0 c5
    have v2 := rt_b_n0 c13
    obtain ⟨q, hq, rfl⟩ := rt_lt_of v1 (by omega)
    obtain ⟨g, hg, rfl⟩ := rt_lt_of v2 (by omega)
    refine rw_bipush (v := nI 18) F dX1_enter_18 (by decide) ?_
    refine rw_aload_n F dX1_enter_20 rfl ?_
    refine rw_calli F (cY_next hI hL) (cwV 0 F.2.2.2.2.1 (lw_V q192 q194 qs12 q21 q195) rfl rfl rfl dd_M_next ⟨Nat.le_of_ble_eq_true rfl, Nat.le_of_ble_eq_true rfl⟩) rfl rfl rfl rfl rfl (Nat.le_of_ble_eq_true rfl) dX1_enter_21 ⟨Nat.zero_le _, Nat.zero_le _⟩ (fun r21 u21 h21 => ?_)
    obtain ⟨rfl, hI2⟩ := h21
    refine rw_imul F dX1_enter_24 ?_
    refine rw_iload_n F dX1_enter_25 rfl ?_
    refine rw_iadd F dX1_enter_26 ?_
    refine rw_as (rt_ix _ g) ?_
    refine rw_istore F dX1_enter_27 (by decide) ?_
    refine rw_aload_n F dX1_enter_29 rfl ?_
    refine ry_g_entered F dX1_enter_30 ?_
    refine rw_iload F dX1_enter_33 rfl ?_
    refine rw_aload_n F dX1_enter_35 rfl ?_
    refine rw_aload_n F dX1_enter_36 rfl ?_
    refine ry_g_entered F dX1_enter_37 ?_
    refine rw_iload F dX1_enter_40 rfl ?_
    refine ry_l_entered F rfl (by omega) dX1_enter_42 ?_
    refine rw_iload_n F dX1_enter_43 rfl ?_
    refine rw_iload_n F dX1_enter_44 rfl ?_
    refine rw_calli F (cY_with _ b) (cwV 3 F.2.2.2.2.1 (lw_V q196 q198 qs13 q21 q199) rfl rfl rfl dd_M_with ⟨Nat.le_of_ble_eq_true rfl, Nat.le_of_ble_eq_true rfl⟩) rfl rfl rfl rfl rfl (Nat.le_of_ble_eq_true rfl) dX1_enter_45 ⟨Nat.zero_le _, Nat.zero_le _⟩ (fun r45 u45 h45 => ?_)
    obtain ⟨rfl, rfl⟩ := h45
    refine ry_s_entered F rfl (by omega) dX1_enter_48 ?_
    have hI3 := ry_set01 (so := 0) (q := q) (b := b) (by omega) hg hI2
    refine rw_aload_n F dX1_enter_49 rfl ?_
    refine ry_g_latest F dX1_enter_50 ?_
    refine rw_as hI3.2.1 ?_
    exact rw_ret F hr rfl (ry_good (by rw [v1, v2]; rfl) (by omega) (by omega) hI3) dX1_enter_53
  · refine rw_iconst (v := (-1)) F dX1_enter_16 (by decide) ?_
    exact rw_ret F hr rfl (ry_bad (by rw [rt_b_0.mp c13, Bool.and_false]) hI) dX1_enter_17
set_option maxHeartbeats 4000000 in
set_option maxRecDepth 100000 in
theorem cY_nest {hist : Nat → rt_S} {L : Nat} {st : rt_S} (hI : ry_I hist L st) (hL : L < 999) (q g : Int32) (b : Bool) : rw_Mi l D (ry_t dA) (ry_w dA h0 ad) yX1_nest cX1_nest 5 (some .int) rr_M_nest h0 [.int q, .int g, .int (rt_b b)] st (fun r u => r = sp_r (rt_lt q 18 && rt_lt g 18) L ∧ ry_I (sp_h (rt_lt q 18 && rt_lt g 18) hist L 1 g q b) (sp_L (rt_lt q 18 && rt_lt g 18) L) u) := by
  refine rw_Mi.of (own := RX1) (lv := [some (.ref h0), some (.int q), some (.int g), some (.int (rt_b b)), none]) (by decide) rfl 1 (Nat.le_of_ble_eq_true rfl) rfl rfl (fun p e s m below meth c A F hr => ?_)
  refine rw_aload_n F dX1_nest_0 rfl ?_
  refine rw_iload_n F dX1_nest_1 rfl ?_
  refine rw_calli F (cY_isGroup q) (cwV 1 F.2.2.2.2.1 (lw_V q188 q190 qs11 q21 q191) rfl rfl rfl dd_M_isGroup ⟨Nat.le_of_ble_eq_true rfl, Nat.le_of_ble_eq_true rfl⟩) rfl rfl rfl rfl rfl (Nat.le_of_ble_eq_true rfl) dX1_nest_2 ⟨Nat.zero_le _, Nat.zero_le _⟩ (fun r2 u2 h2 => ?_)
  obtain ⟨rfl, rfl⟩ := h2
  refine rw_if_eq (tgt := 16) F dX1_nest_5 (by decide) (fun c5 => ?_) (fun c5 => ?_)
  · refine rw_iconst (v := (-1)) F dX1_nest_16 (by decide) ?_
    exact rw_ret F hr rfl (ry_bad (by rw [rt_b_0.mp c5]; rfl) hI) dX1_nest_17
  refine rw_aload_n F dX1_nest_8 rfl ?_
  refine rw_iload_n F dX1_nest_9 rfl ?_
  refine rw_calli F (cY_isGroup g) (cwV 1 F.2.2.2.2.1 (lw_V q188 q190 qs11 q21 q191) rfl rfl rfl dd_M_isGroup ⟨Nat.le_of_ble_eq_true rfl, Nat.le_of_ble_eq_true rfl⟩) rfl rfl rfl rfl rfl (Nat.le_of_ble_eq_true rfl) dX1_nest_10 ⟨Nat.zero_le _, Nat.zero_le _⟩ (fun r10 u10 h10 => ?_)
  obtain ⟨rfl, rfl⟩ := h10
  refine rw_if_ne (tgt := 18) F dX1_nest_13 (by decide) (fun c13 => ?_) (fun c13 => ?_)
  · have v1 := rt_b_n0 c5
    have v2 := rt_b_n0 c13
    obtain ⟨q, hq, rfl⟩ := rt_lt_of v1 (by omega)
    obtain ⟨g, hg, rfl⟩ := rt_lt_of v2 (by omega)
    refine rw_bipush (v := nI 18) F dX1_nest_18 (by decide) ?_
    refine rw_aload_n F dX1_nest_20 rfl ?_
    refine rw_calli F (cY_next hI hL) (cwV 0 F.2.2.2.2.1 (lw_V q192 q194 qs12 q21 q195) rfl rfl rfl dd_M_next ⟨Nat.le_of_ble_eq_true rfl, Nat.le_of_ble_eq_true rfl⟩) rfl rfl rfl rfl rfl (Nat.le_of_ble_eq_true rfl) dX1_nest_21 ⟨Nat.zero_le _, Nat.zero_le _⟩ (fun r21 u21 h21 => ?_)
    obtain ⟨rfl, hI2⟩ := h21
    refine rw_imul F dX1_nest_24 ?_
    refine rw_iload_n F dX1_nest_25 rfl ?_
    refine rw_iadd F dX1_nest_26 ?_
    refine rw_as (rt_ix _ g) ?_
    refine rw_istore F dX1_nest_27 (by decide) ?_
    refine rw_aload_n F dX1_nest_29 rfl ?_
    refine ry_g_inner F dX1_nest_30 ?_
    refine rw_iload F dX1_nest_33 rfl ?_
    refine rw_aload_n F dX1_nest_35 rfl ?_
    refine rw_aload_n F dX1_nest_36 rfl ?_
    refine ry_g_inner F dX1_nest_37 ?_
    refine rw_iload F dX1_nest_40 rfl ?_
    refine ry_l_inner F rfl (by omega) dX1_nest_42 ?_
    refine rw_iload_n F dX1_nest_43 rfl ?_
    refine rw_iload_n F dX1_nest_44 rfl ?_
    refine rw_calli F (cY_with _ b) (cwV 3 F.2.2.2.2.1 (lw_V q196 q198 qs13 q21 q199) rfl rfl rfl dd_M_with ⟨Nat.le_of_ble_eq_true rfl, Nat.le_of_ble_eq_true rfl⟩) rfl rfl rfl rfl rfl (Nat.le_of_ble_eq_true rfl) dX1_nest_45 ⟨Nat.zero_le _, Nat.zero_le _⟩ (fun r45 u45 h45 => ?_)
    obtain ⟨rfl, rfl⟩ := h45
    refine ry_s_inner F rfl (by omega) dX1_nest_48 ?_
    have hI3 := ry_set01 (so := 1) (q := q) (b := b) (by omega) hg hI2
    refine rw_aload_n F dX1_nest_49 rfl ?_
    refine ry_g_latest F dX1_nest_50 ?_
    refine rw_as hI3.2.1 ?_
    exact rw_ret F hr rfl (ry_good (by rw [v1, v2]; rfl) (by omega) (by omega) hI3) dX1_nest_53
  · refine rw_iconst (v := (-1)) F dX1_nest_16 (by decide) ?_
    exact rw_ret F hr rfl (ry_bad (by rw [rt_b_0.mp c13, Bool.and_false]) hI) dX1_nest_17
set_option maxHeartbeats 4000000 in
set_option maxRecDepth 100000 in
theorem cY_rule {hist : Nat → rt_S} {L : Nat} {st : rt_S} (hI : ry_I hist L st) (hL : L < 999) (q g : Int32) (b : Bool) : rw_Mi l D (ry_t dA) (ry_w dA h0 ad) yX1_rule cX1_rule 5 (some .int) rr_M_rule h0 [.int q, .int g, .int (rt_b b)] st (fun r u => r = sp_r (rt_lt q 3 && rt_lt g 3 && !decide (q = g)) L ∧ ry_I (sp_h (rt_lt q 3 && rt_lt g 3 && !decide (q = g)) hist L 2 g q b) (sp_L (rt_lt q 3 && rt_lt g 3 && !decide (q = g)) L) u) := by
  refine rw_Mi.of (own := RX1) (lv := [some (.ref h0), some (.int q), some (.int g), some (.int (rt_b b)), none]) (by decide) rfl 1 (Nat.le_of_ble_eq_true rfl) rfl rfl (fun p e s m below meth c A F hr => ?_)
  refine rw_iload_n F dX1_rule_0 rfl ?_
  refine rw_if_lt (tgt := 23) F dX1_rule_1 (by decide) (fun c1 => ?_) (fun c1 => ?_)
  · refine rw_iconst (v := (-1)) F dX1_rule_23 (by decide) ?_
    exact rw_ret F hr rfl (ry_bad (by rw [rt_lt_neg c1]; rfl) hI) dX1_rule_24
  refine rw_iload_n F dX1_rule_4 rfl ?_
  refine rw_iconst (v := nI 2) F dX1_rule_5 (by decide) ?_
  refine rw_icmp_gt (tgt := 23) F dX1_rule_6 (by decide) (fun c6 => ?_) (fun c6 => ?_)
  · refine rw_iconst (v := (-1)) F dX1_rule_23 (by decide) ?_
    exact rw_ret F hr rfl (ry_bad (by rw [rt_lt_no2 c6 (by decide) (by decide)]; rfl) hI) dX1_rule_24
  refine rw_iload_n F dX1_rule_9 rfl ?_
  refine rw_if_lt (tgt := 23) F dX1_rule_10 (by decide) (fun c10 => ?_) (fun c10 => ?_)
  · refine rw_iconst (v := (-1)) F dX1_rule_23 (by decide) ?_
    exact rw_ret F hr rfl (ry_bad (by rw [rt_lt_neg c10, Bool.and_false]; rfl) hI) dX1_rule_24
  refine rw_iload_n F dX1_rule_13 rfl ?_
  refine rw_iconst (v := nI 2) F dX1_rule_14 (by decide) ?_
  refine rw_icmp_gt (tgt := 23) F dX1_rule_15 (by decide) (fun c15 => ?_) (fun c15 => ?_)
  · refine rw_iconst (v := (-1)) F dX1_rule_23 (by decide) ?_
    exact rw_ret F hr rfl (ry_bad (by rw [rt_lt_no2 (x := g) c15 (by decide) (by decide), Bool.and_false]; rfl) hI) dX1_rule_24
  refine rw_iload_n F dX1_rule_18 rfl ?_
  refine rw_iload_n F dX1_rule_19 rfl ?_
  refine rw_icmp_ne (tgt := 25) F dX1_rule_20 (by decide) (fun c20 => ?_) (fun c20 => ?_)
  · have v1 : rt_lt q 3 = true := rt_lt_yes2 c1 c6 (by decide)
    have v2 : rt_lt g 3 = true := rt_lt_yes2 c10 c15 (by decide)
    have v3 : (!decide (q = g)) = true := by rw [decide_eq_false c20]; rfl
    obtain ⟨q, hq, rfl⟩ := rt_lt_of v1 (by omega)
    obtain ⟨g, hg, rfl⟩ := rt_lt_of v2 (by omega)
    refine rw_aload_n F dX1_rule_25 rfl ?_
    refine rw_calli F (cY_next hI hL) (cwV 0 F.2.2.2.2.1 (lw_V q192 q194 qs12 q21 q195) rfl rfl rfl dd_M_next ⟨Nat.le_of_ble_eq_true rfl, Nat.le_of_ble_eq_true rfl⟩) rfl rfl rfl rfl rfl (Nat.le_of_ble_eq_true rfl) dX1_rule_26 ⟨Nat.zero_le _, Nat.zero_le _⟩ (fun r26 u26 h26 => ?_)
    obtain ⟨rfl, hI2⟩ := h26
    refine rw_istore F dX1_rule_29 (by decide) ?_
    refine rw_aload_n F dX1_rule_31 rfl ?_
    refine ry_g_rules F dX1_rule_32 ?_
    refine rw_iload F dX1_rule_35 rfl ?_
    refine rw_aload_n F dX1_rule_37 rfl ?_
    refine rw_aload_n F dX1_rule_38 rfl ?_
    refine ry_g_rules F dX1_rule_39 ?_
    refine rw_iload F dX1_rule_42 rfl ?_
    refine ry_l_rules F rfl (by omega) dX1_rule_44 ?_
    refine rw_iconst (v := nI 3) F dX1_rule_45 (by decide) ?_
    refine rw_iload_n F dX1_rule_46 rfl ?_
    refine rw_imul F dX1_rule_47 ?_
    refine rw_iload_n F dX1_rule_48 rfl ?_
    refine rw_iadd F dX1_rule_49 ?_
    refine rw_as (rt_ix3 q g) ?_
    refine rw_iload_n F dX1_rule_50 rfl ?_
    refine rw_calli F (cY_with _ b) (cwV 3 F.2.2.2.2.1 (lw_V q196 q198 qs13 q21 q199) rfl rfl rfl dd_M_with ⟨Nat.le_of_ble_eq_true rfl, Nat.le_of_ble_eq_true rfl⟩) rfl rfl rfl rfl rfl (Nat.le_of_ble_eq_true rfl) dX1_rule_51 ⟨Nat.zero_le _, Nat.zero_le _⟩ (fun r51 u51 h51 => ?_)
    obtain ⟨rfl, rfl⟩ := h51
    refine ry_s_rules F rfl (by omega) dX1_rule_54 ?_
    have hI3 := ry_set2 (q := q) (b := b) hg hq hI2
    refine rw_aload_n F dX1_rule_55 rfl ?_
    refine ry_g_latest F dX1_rule_56 ?_
    refine rw_as hI3.2.1 ?_
    exact rw_ret F hr rfl (ry_good (by rw [v1, v2, v3]; rfl) (by omega) (by omega) hI3) dX1_rule_59
  · refine rw_iconst (v := (-1)) F dX1_rule_23 (by decide) ?_
    exact rw_ret F hr rfl (ry_bad (by rw [decide_eq_true c20]; simp) hI) dX1_rule_24
end YC
end
section
/-! RelationTuplesModel: addAll -/
set_option maxRecDepth 100000
theorem ry_P_4 {S st u : rt_S} {q : Nat} (h : ry_P S st q) (e : ∀ k, k ≠ 4 → u k = st k) : ry_P S u q := by
  refine ⟨fun g hg => ?_, fun r t hr ht => ?_⟩
  · rw [e 1 (by decide), e 2 (by decide)]; exact h.1 g hg
  · rw [e 3 (by decide)]; exact h.2 r t hr ht
theorem ry_I_4 {hist : Nat → rt_S} {L : Nat} {st u : rt_S} (h : ry_I hist L st) (e : ∀ k, k ≠ 4 → u k = st k) : ry_I hist L u := ⟨h.1, by rw [e 0 (by decide)]; exact h.2.1, fun k hk hk8 => ry_P_4 (h.2.2 k hk hk8) e⟩
/-- a round of the reference, at pair j: what holds of the members -/
def ry_rd (S : rt_S) (f0 f : Nat → Int32) (j : Nat) : Prop := (∀ i, i < 32 → rt_in (rt_ed S) (fun j => j / 18) (fun j => j % 18) (fun g => bt (f0 g) i) (fun g => bt (f g) i) j) ∧ ∀ g i, g < 18 → i < 32 → bt (f g) i = true → rt_m S g i = true
theorem ry_rd_no {S : rt_S} {f0 f : Nat → Int32} {j : Nat} (h : ry_rd S f0 f j) (hj : j < 324) (he : rt_ed S (j / 18) (j % 18) = false) : ry_rd S f0 f (j + 1) :=
  ⟨fun i hi => rt_in_s rt_bd1 hj (h.1 i hi) (fun g hg => by rw [he, Bool.false_and, Bool.and_false, Bool.or_false]), h.2⟩
theorem ry_rd_yes {S : rt_S} {f0 f f2 : Nat → Int32} {j : Nat} (h : ry_rd S f0 f j) (hj : j < 324) (he : rt_ed S (j / 18) (j % 18) = true) (h2 : ∀ g, f2 g = if g = j % 18 then f (j % 18) ||| f (j / 18) else f g) : ry_rd S f0 f2 (j + 1) := by
  have hb := rt_bd1 j hj
  refine ⟨fun i hi => rt_in_s rt_bd1 hj (h.1 i hi) (fun g hg => ?_), fun g i hg hi hf => ?_⟩
  · rw [h2 g, he]
    by_cases e : g = j % 18
    · rw [if_pos e, b_or, decide_eq_true e, e]; simp
    · rw [if_neg e, decide_eq_false e]; simp
  · rw [h2 g] at hf
    by_cases e : g = j % 18
    · rw [if_pos e, b_or, Bool.or_eq_true] at hf
      rw [e]
      rcases hf with q | q
      · exact h.2 _ i hb.2 hi q
      · exact rt_m_ed hb.1 hb.2 he (h.2 _ i hb.1 hi q)
    · rw [if_neg e] at hf
      exact h.2 g i hg hi hf
/-- between two rounds -/
def ry_br (S : rt_S) (f : Nat → Int32) (r : Nat) : Prop := (∀ i, i < 32 → rt_out (rt_ed S) (fun g => bt (f g) i) r) ∧ (∀ g i, g < 18 → i < 32 → bt (f g) i = true → rt_m S g i = true) ∧ ∀ g i, g < 18 → i < 32 → bt (S 0 g) i = true → bt (f g) i = true
theorem ry_br_s {S : rt_S} {f0 f : Nat → Int32} {r : Nat} (h0 : ry_br S f0 r) (h : ry_rd S f0 f 324) : ry_br S f (r + 1) := ⟨fun i hi => rt_out_s rt_cov1 (h0.1 i hi) (h.1 i hi), h.2, fun g i hg hi hb => (h.1 i hi).1 g hg (h0.2.2 g i hg hi hb)⟩
theorem ry_br_end {S : rt_S} {f : Nat → Int32} (h : ry_br S f 18) {g : Nat} (hg : g < 18) : f g = sp_mem S g := rt_of_eq (by decide) (fun i hi => by
  rw [decide_eq_true hi, Bool.true_and]
  exact rt_mem_end (f := fun g => bt (f g) i) (fun g hg hb => h.2.1 g i hg hi hb) (fun g hg hb => h.2.2 g i hg hi hb) (rt_out_end (h.1 i hi)) hg)
section YA
variable {p : Program} {l : Launch} {e : Env} {R : Room} {s : State} {m : MethodId} {args : Array Value} {below : List Frame} {meth : Method} {c : Code} {D : va_G} {A : Nat → Prop} {dA : Nat → ClassId} {h0 : Nat} {ad : Nat → Nat} {Q : State → Prop}
set_option maxHeartbeats 4000000 in
set_option maxRecDepth 100000 in
theorem kY_add_copy (F : rw_F p s m args meth c D A (ry_t dA) cX1_addAll 5 RX1) {S st : rt_S} {q : Nat} {v1 v4 : Option Value} (hP : ry_P S st q) (hq : q < 8)
    (hx : ∀ u : rt_S, (∀ k, k ≠ 4 → u k = st k) → (∀ i, i < 18 → u 4 i = S 0 i) → rw_W p l e rr_M_addAll s m args below meth c D A 5 0 0 Q (ry_w dA h0 ad u) [some (.ref h0), v1, some (.int (nI q)), some (.int (nI 18)), v4] 36 []) :
    ∀ (n g : Nat) (u : rt_S), g + n = 18 → (∀ k, k ≠ 4 → u k = st k) → (∀ i, i < g → u 4 i = S 0 i) → rw_W p l e rr_M_addAll s m args below meth c D A 5 0 0 Q (ry_w dA h0 ad u) [some (.ref h0), v1, some (.int (nI q)), some (.int (nI g)), v4] 7 [] := by
  intro n
  induction n with
  | zero =>
    intro g u hg h1 h2
    obtain rfl : g = 18 := by omega
    refine rw_iload_n F dX1_addAll_7 rfl ?_
    refine rw_bipush (v := nI 18) F dX1_addAll_8 (by decide) ?_
    refine rw_icmp_ge_N (tgt := 36) F dX1_addAll_10 (by decide) (by omega) (by omega) (fun c10 => ?_) (fun c10 => ?_)
    · exact hx u h1 h2
    · exact absurd c10 (by omega)
  | succ n ih =>
    intro g u hg h1 h2
    refine rw_iload_n F dX1_addAll_7 rfl ?_
    refine rw_bipush (v := nI 18) F dX1_addAll_8 (by decide) ?_
    refine rw_icmp_ge_N (tgt := 36) F dX1_addAll_10 (by decide) (by omega) (by omega) (fun c10 => ?_) (fun c10 => ?_)
    · exact absurd c10 (by omega)
    refine rw_aload_n F dX1_addAll_13 rfl ?_
    refine ry_g_members F dX1_addAll_14 ?_
    refine rw_iload_n F dX1_addAll_17 rfl ?_
    refine rw_aload_n F dX1_addAll_18 rfl ?_
    refine ry_g_entered F dX1_addAll_19 ?_
    refine rw_bipush (v := nI 18) F dX1_addAll_22 (by decide) ?_
    refine rw_iload_n F dX1_addAll_24 rfl ?_
    refine rw_imul F dX1_addAll_25 ?_
    refine rw_iload_n F dX1_addAll_26 rfl ?_
    refine rw_iadd F dX1_addAll_27 ?_
    refine rw_as (rt_ix q g) ?_
    refine ry_l_entered F rfl (by omega) dX1_addAll_28 ?_
    refine rw_as (show _ = S 0 g by rw [h1 1 (by decide)]; exact (hP.1 g c10).1) ?_
    refine ry_s_members F rfl c10 dX1_addAll_29 ?_
    refine rw_iinc1 F dX1_addAll_30 rfl (by decide) ?_
    refine rw_goto (tgt := 7) F dX1_addAll_33 (by decide) ?_
    refine ih (g + 1) _ (by omega) (fun k hk => by rw [rt_u_n _ _ _ hk]; exact h1 k hk) (fun i hi => ?_)
    by_cases e : i = g
    · subst e; exact rt_u_s _ _ _ _
    · rw [rt_u_o _ _ _ e]; exact h2 i (by omega)
set_option maxHeartbeats 4000000 in
set_option maxRecDepth 100000 in
theorem kY_add_in (F : rw_F p s m args meth c D A (ry_t dA) cX1_addAll 5 RX1) {S st : rt_S} {q : Nat} {f0 : Nat → Int32} {v1 v3 : Option Value} (hP : ry_P S st q) (hq : q < 8)
    (hx : ∀ u : rt_S, (∀ k, k ≠ 4 → u k = st k) → ry_rd S f0 (u 4) 324 → rw_W p l e rr_M_addAll s m args below meth c D A 5 0 0 Q (ry_w dA h0 ad u) [some (.ref h0), v1, some (.int (nI q)), v3, some (.int (nI 324))] 110 []) :
    ∀ (n j : Nat) (u : rt_S), j + n = 324 → (∀ k, k ≠ 4 → u k = st k) → ry_rd S f0 (u 4) j → rw_W p l e rr_M_addAll s m args below meth c D A 5 0 0 Q (ry_w dA h0 ad u) [some (.ref h0), v1, some (.int (nI q)), v3, some (.int (nI j))] 47 [] := by
  intro n
  induction n with
  | zero =>
    intro j u hj h1 h2
    obtain rfl : j = 324 := by omega
    refine rw_iload F dX1_addAll_47 rfl ?_
    refine rw_sipush (v := nI 324) F dX1_addAll_49 (by decide) ?_
    refine rw_icmp_ge_N (tgt := 110) F dX1_addAll_52 (by decide) (by omega) (by omega) (fun c52 => ?_) (fun c52 => ?_)
    · exact hx u h1 h2
    · exact absurd c52 (by omega)
  | succ n ih =>
    intro j u hj h1 h2
    refine rw_iload F dX1_addAll_47 rfl ?_
    refine rw_sipush (v := nI 324) F dX1_addAll_49 (by decide) ?_
    refine rw_icmp_ge_N (tgt := 110) F dX1_addAll_52 (by decide) (by omega) (by omega) (fun c52 => ?_) (fun c52 => ?_)
    · exact absurd c52 (by omega)
    refine rw_aload_n F dX1_addAll_55 rfl ?_
    refine rw_iload_n F dX1_addAll_56 rfl ?_
    refine rw_iload F dX1_addAll_57 rfl ?_
    refine rw_bipush (v := nI 18) F dX1_addAll_59 (by decide) ?_
    refine rw_idivN F dX1_addAll_61 (by omega) (by omega) (by omega) ?_
    refine rw_iload F dX1_addAll_62 rfl ?_
    refine rw_bipush (v := nI 18) F dX1_addAll_64 (by decide) ?_
    refine rw_iremN F dX1_addAll_66 (by omega) (by omega) (by omega) ?_
    refine rw_calli F (cY_passes (ry_P_4 hP h1) hq (by omega) (by omega)) (cwV 3 F.2.2.2.2.1 (lw_V q228 q230 qs17 q21 q231) rfl rfl rfl dd_M_passes ⟨Nat.le_of_ble_eq_true rfl, Nat.le_of_ble_eq_true rfl⟩) rfl rfl rfl rfl rfl (Nat.le_of_ble_eq_true rfl) dX1_addAll_67 ⟨Nat.zero_le _, Nat.zero_le _⟩ (fun r67 u67 h67 => ?_)
    obtain ⟨rfl, rfl⟩ := h67
    refine rw_if_eq (tgt := 104) F dX1_addAll_70 (by decide) (fun c70 => ?_) (fun c70 => ?_)
    · refine rw_iinc1 F dX1_addAll_104 rfl (by decide) ?_
      refine rw_goto (tgt := 47) F dX1_addAll_107 (by decide) ?_
      exact ih (j + 1) u (by omega) h1 (ry_rd_no h2 c52 (rt_b_0.mp c70))
    · refine rw_aload_n F dX1_addAll_73 rfl ?_
      refine ry_g_members F dX1_addAll_74 ?_
      refine rw_iload F dX1_addAll_77 rfl ?_
      refine rw_bipush (v := nI 18) F dX1_addAll_79 (by decide) ?_
      refine rw_iremN F dX1_addAll_81 (by omega) (by omega) (by omega) ?_
      refine rw_aload_n F dX1_addAll_82 rfl ?_
      refine ry_g_members F dX1_addAll_83 ?_
      refine rw_iload F dX1_addAll_86 rfl ?_
      refine rw_bipush (v := nI 18) F dX1_addAll_88 (by decide) ?_
      refine rw_iremN F dX1_addAll_90 (by omega) (by omega) (by omega) ?_
      refine ry_l_members F rfl (by omega) dX1_addAll_91 ?_
      refine rw_aload_n F dX1_addAll_92 rfl ?_
      refine ry_g_members F dX1_addAll_93 ?_
      refine rw_iload F dX1_addAll_96 rfl ?_
      refine rw_bipush (v := nI 18) F dX1_addAll_98 (by decide) ?_
      refine rw_idivN F dX1_addAll_100 (by omega) (by omega) (by omega) ?_
      refine ry_l_members F rfl (by omega) dX1_addAll_101 ?_
      refine rw_ior F dX1_addAll_102 ?_
      refine ry_s_members F rfl (by omega) dX1_addAll_103 ?_
      refine rw_iinc1 F dX1_addAll_104 rfl (by decide) ?_
      refine rw_goto (tgt := 47) F dX1_addAll_107 (by decide) ?_
      refine ih (j + 1) _ (by omega) (fun k hk => by rw [rt_u_n _ _ _ hk]; exact h1 k hk) (ry_rd_yes h2 c52 (rt_b_n0 c70) (fun g => ?_))
      rw [rt_u_k]
      rfl
set_option maxHeartbeats 4000000 in
set_option maxRecDepth 100000 in
theorem kY_add_out (F : rw_F p s m args meth c D A (ry_t dA) cX1_addAll 5 RX1) {S st : rt_S} {q : Nat} {v1 : Option Value} (hP : ry_P S st q) (hq : q < 8)
    (hx : ∀ (u : rt_S) (v4 : Option Value), (∀ k, k ≠ 4 → u k = st k) → ry_br S (u 4) 18 → rw_W p l e rr_M_addAll s m args below meth c D A 5 0 0 Q (ry_w dA h0 ad u) [some (.ref h0), v1, some (.int (nI q)), some (.int (nI 18)), v4] 116 []) :
    ∀ (n r : Nat) (u : rt_S) (v4 : Option Value), r + n = 18 → (∀ k, k ≠ 4 → u k = st k) → ry_br S (u 4) r → rw_W p l e rr_M_addAll s m args below meth c D A 5 0 0 Q (ry_w dA h0 ad u) [some (.ref h0), v1, some (.int (nI q)), some (.int (nI r)), v4] 38 [] := by
  intro n
  induction n with
  | zero =>
    intro r u v4 hr h1 h2
    obtain rfl : r = 18 := by omega
    refine rw_iload_n F dX1_addAll_38 rfl ?_
    refine rw_bipush (v := nI 18) F dX1_addAll_39 (by decide) ?_
    refine rw_icmp_ge_N (tgt := 116) F dX1_addAll_41 (by decide) (by omega) (by omega) (fun c41 => ?_) (fun c41 => ?_)
    · exact hx u v4 h1 h2
    · exact absurd c41 (by omega)
  | succ n ih =>
    intro r u v4 hr h1 h2
    refine rw_iload_n F dX1_addAll_38 rfl ?_
    refine rw_bipush (v := nI 18) F dX1_addAll_39 (by decide) ?_
    refine rw_icmp_ge_N (tgt := 116) F dX1_addAll_41 (by decide) (by omega) (by omega) (fun c41 => ?_) (fun c41 => ?_)
    · exact absurd c41 (by omega)
    refine rw_iconst (v := nI 0) F dX1_addAll_44 (by decide) ?_
    refine rw_istore F dX1_addAll_45 (by decide) ?_
    refine kY_add_in F hP hq (f0 := u 4) (fun u2 h3 h4 => ?_) 324 0 u (by omega) h1 ⟨fun i hi => rt_in_0 _ _ _ _, h2.2.1⟩
    refine rw_iinc1 F dX1_addAll_110 rfl (by decide) ?_
    refine rw_goto (tgt := 38) F dX1_addAll_113 (by decide) ?_
    exact ih (r + 1) u2 _ (by omega) h3 (ry_br_s h2 h4)
set_option maxHeartbeats 4000000 in
set_option maxRecDepth 100000 in
theorem cY_addAll {hist : Nat → rt_S} {L k : Nat} {st : rt_S} (hI : ry_I hist L st) (hk : k ≤ L) (hk8 : L < k + 8) : rw_Mv l D (ry_t dA) (ry_w dA h0 ad) yX1_addAll cX1_addAll 5 none rr_M_addAll h0 [.int (nI k)] st (fun u => ry_I hist L u ∧ ∀ g, g < 18 → u 4 g = sp_mem (hist k) g) := by
  refine rw_Mv.of (own := RX1) (lv := [some (.ref h0), some (.int (nI k)), none, none, none]) (by decide) rfl 3 (Nat.le_of_ble_eq_true rfl) rfl rfl (fun p e s m below meth c A F hr => ?_)
  have hL := hI.1
  have hP := hI.2.2 k hk hk8
  refine rw_iload_n F dX1_addAll_0 rfl ?_
  refine rw_bipush (v := nI 8) F dX1_addAll_1 (by decide) ?_
  refine rw_iremN F dX1_addAll_3 (by omega) (by omega) (by omega) ?_
  refine rw_istore_n F dX1_addAll_4 (by decide) ?_
  refine rw_iconst (v := nI 0) F dX1_addAll_5 (by decide) ?_
  refine rw_istore_n F dX1_addAll_6 (by decide) ?_
  refine kY_add_copy F hP (by omega) (fun u h1 h2 => ?_) 18 0 st (by omega) (fun _ _ => rfl) (fun i hi => by omega)
  refine rw_iconst (v := nI 0) F dX1_addAll_36 (by decide) ?_
  refine rw_istore_n F dX1_addAll_37 (by decide) ?_
  refine kY_add_out F hP (by omega) (fun u2 v4 h3 h4 => ?_) 18 0 u none (by omega) h1 ⟨fun i hi => rt_out_0 _ _, fun g i hg hi hb => ?_, fun g i hg hi hb => ?_⟩
  · exact rw_vret F hr ⟨ry_I_4 hI h3, fun g hg => ry_br_end h4 hg⟩ dX1_addAll_116
  · rw [h2 g hg] at hb; exact rt_m_base hg hb
  · rw [h2 g hg]; exact hb
end YA
end
section
/-! RelationTuplesModel: check, members, groups, sources, changed, since -/
set_option maxRecDepth 100000
/-- a round of the reference's sources, at pair j -/
def ry_sd (S : rt_S) (g0 : Nat) (x0 x : Int32) (j : Nat) : Prop := rt_in (fun a b => rt_ed S b a) (fun j => j % 18) (fun j => j / 18) (bt x0) (bt x) j ∧ (∀ y, y < 18 → bt x y = true → rt_rc S y g0) ∧ (∀ i, 18 ≤ i → bt x i = false) ∧ bt x g0 = true
theorem ry_sd_no1 {S : rt_S} {g0 : Nat} {x0 x : Int32} {j : Nat} (h : ry_sd S g0 x0 x j) (hj : j < 324) (he : bt x (j % 18) = false) : ry_sd S g0 x0 x (j + 1) :=
  ⟨rt_in_s rt_bd2 hj h.1 (fun g hg => by rw [he, Bool.and_false, Bool.and_false, Bool.or_false]), h.2⟩
theorem ry_sd_no2 {S : rt_S} {g0 : Nat} {x0 x : Int32} {j : Nat} (h : ry_sd S g0 x0 x j) (hj : j < 324) (he : rt_ed S (j / 18) (j % 18) = false) : ry_sd S g0 x0 x (j + 1) :=
  ⟨rt_in_s rt_bd2 hj h.1 (fun g hg => by rw [he, Bool.false_and, Bool.and_false, Bool.or_false]), h.2⟩
theorem ry_sd_yes {S : rt_S} {g0 : Nat} {x0 x : Int32} {j : Nat} (h : ry_sd S g0 x0 x j) (hj : j < 324) (hx : bt x (j % 18) = true) (he : rt_ed S (j / 18) (j % 18) = true) : ry_sd S g0 x0 (x ||| (nI 1 <<< (nI (j / 18) &&& 31))) (j + 1) := by
  have hb := rt_bd1 j hj
  have hn : ∀ i, bt (x ||| (nI 1 <<< (nI (j / 18) &&& 31))) i = (bt x i || decide (i = j / 18)) := fun i => by rw [b_or, rt_shl1a (by omega)]
  refine ⟨rt_in_s rt_bd2 hj h.1 (fun g hg => ?_), fun y hy hf => ?_, fun i hi => ?_, ?_⟩
  · rw [hn, he, hx]; simp
  · rw [hn, Bool.or_eq_true, decide_eq_true_eq] at hf
    rcases hf with q | q
    · exact h.2.1 y hy q
    · rw [q]
      exact rt_rc_step hb.1 hb.2 he (h.2.1 _ hb.2 hx)
  · rw [hn, h.2.2.1 i hi, decide_eq_false (by omega)]; rfl
  · rw [hn, h.2.2.2]; rfl
def ry_sb (S : rt_S) (g0 : Nat) (x : Int32) (r : Nat) : Prop := rt_out (fun a b => rt_ed S b a) (bt x) r ∧ (∀ y, y < 18 → bt x y = true → rt_rc S y g0) ∧ (∀ i, 18 ≤ i → bt x i = false) ∧ bt x g0 = true
theorem ry_sb_0 (S : rt_S) {g0 : Nat} (hg : g0 < 18) : ry_sb S g0 (nI 1 <<< (nI g0 &&& 31)) 0 := by
  refine ⟨rt_out_0 _ _, fun y hy hf => ?_, fun i hi => ?_, ?_⟩
  · rw [rt_shl1a (by omega), decide_eq_true_eq] at hf
    rw [hf]; exact rt_rc_refl S g0
  · rw [rt_shl1a (by omega), decide_eq_false (by omega)]
  · rw [rt_shl1a (by omega), decide_eq_true rfl]
theorem ry_sb_s {S : rt_S} {g0 : Nat} {x0 x : Int32} {r : Nat} (h0 : ry_sb S g0 x0 r) (h : ry_sd S g0 x0 x 324) : ry_sb S g0 x (r + 1) := ⟨rt_out_s rt_cov2 h0.1 h.1, h.2⟩
theorem ry_sb_end {S : rt_S} {g0 : Nat} {x : Int32} (h : ry_sb S g0 x 18) : x = sp_src S g0 := rt_of_eq (by decide) (fun i hi => by
  by_cases h18 : i < 18
  · rw [decide_eq_true h18, Bool.true_and]
    exact rt_src_end (f := bt x) h.2.2.2 h.2.1 (rt_out_end h.1) h18
  · rw [decide_eq_false h18, h.2.2.1 i (by omega)]; rfl)
theorem sp_grp_bt (S : rt_S) (q : Nat) {i : Nat} (hi : i < 18) : bt (sp_grp S q) i = rt_m S i q := by
  unfold sp_grp
  rw [rt_of_bt _ (by omega) 18 (by decide), decide_eq_true hi, Bool.true_and]
theorem sp_chg_swap (S T : rt_S) : nI (rt_sum (fun q => rt_sum (fun g => sp_x (rt_m S g q) (rt_m T g q)) 18) 6) = sp_chg S T := by
  unfold sp_chg
  rw [rt_sum_swap (fun g q => sp_x (rt_m S g q) (rt_m T g q)) 6 18]
section YQ
variable {p : Program} {l : Launch} {e : Env} {R : Room} {s : State} {m : MethodId} {args : Array Value} {below : List Frame} {meth : Method} {c : Code} {D : va_G} {A : Nat → Prop} {dA : Nat → ClassId} {h0 : Nat} {ad : Nat → Nat} {Q : State → Prop}
set_option maxHeartbeats 4000000 in
set_option maxRecDepth 100000 in
theorem cY_check {hist : Nat → rt_S} {L : Nat} {st : rt_S} (hI : ry_I hist L st) (t q g : Int32) : rw_Mi l D (ry_t dA) (ry_w dA h0 ad) yX1_check cX1_check 4 (some .int) rr_M_check h0 [.int t, .int q, .int g] st (fun r u => r = sp_check hist L t q g ∧ ry_I hist L u) := by
  refine rw_Mi.of (own := RX1) (lv := [some (.ref h0), some (.int t), some (.int q), some (.int g)]) (by decide) rfl 0 (Nat.le_of_ble_eq_true rfl) rfl rfl (fun p e s m below meth c A F hr => ?_)
  have hL := hI.1
  refine rw_aload_n F dX1_check_0 rfl ?_
  refine rw_iload_n F dX1_check_1 rfl ?_
  refine rw_calli F (cY_isPerson q) (cwV 1 F.2.2.2.2.1 (lw_V q184 q186 qs10 q21 q187) rfl rfl rfl dd_M_isPerson ⟨Nat.le_of_ble_eq_true rfl, Nat.le_of_ble_eq_true rfl⟩) rfl rfl rfl rfl rfl (Nat.le_of_ble_eq_true rfl) dX1_check_2 ⟨Nat.zero_le _, Nat.zero_le _⟩ (fun r2 u2 h2 => ?_)
  obtain ⟨rfl, rfl⟩ := h2
  refine rw_if_eq (tgt := 24) F dX1_check_5 (by decide) (fun c5 => ?_) (fun c5 => ?_)
  · refine rw_iconst (v := (-1)) F dX1_check_24 (by decide) ?_
    exact rw_ret F hr rfl ⟨(sp_q_bad (by rw [rt_b_0.mp c5]; rfl)).symm, hI⟩ dX1_check_25
  refine rw_aload_n F dX1_check_8 rfl ?_
  refine rw_iload_n F dX1_check_9 rfl ?_
  refine rw_calli F (cY_isGroup g) (cwV 1 F.2.2.2.2.1 (lw_V q188 q190 qs11 q21 q191) rfl rfl rfl dd_M_isGroup ⟨Nat.le_of_ble_eq_true rfl, Nat.le_of_ble_eq_true rfl⟩) rfl rfl rfl rfl rfl (Nat.le_of_ble_eq_true rfl) dX1_check_10 ⟨Nat.zero_le _, Nat.zero_le _⟩ (fun r10 u10 h10 => ?_)
  obtain ⟨rfl, rfl⟩ := h10
  refine rw_if_eq (tgt := 24) F dX1_check_13 (by decide) (fun c13 => ?_) (fun c13 => ?_)
  · refine rw_iconst (v := (-1)) F dX1_check_24 (by decide) ?_
    exact rw_ret F hr rfl ⟨(sp_q_bad (by rw [rt_b_0.mp c13, Bool.and_false]; rfl)).symm, hI⟩ dX1_check_25
  refine rw_aload_n F dX1_check_16 rfl ?_
  refine rw_iload_n F dX1_check_17 rfl ?_
  refine rw_calli F (cY_exists hL hI.2.1 t) (cwV 1 F.2.2.2.2.1 (lw_V q216 q218 qs14 q21 q219) rfl rfl rfl dd_M_exists ⟨Nat.le_of_ble_eq_true rfl, Nat.le_of_ble_eq_true rfl⟩) rfl rfl rfl rfl rfl (Nat.le_of_ble_eq_true rfl) dX1_check_18 ⟨Nat.zero_le _, Nat.zero_le _⟩ (fun r18 u18 h18 => ?_)
  obtain ⟨rfl, rfl⟩ := h18
  refine rw_if_ne (tgt := 26) F dX1_check_21 (by decide) (fun c21 => ?_) (fun c21 => ?_)
  · have v1 := rt_b_n0 c5
    have v2 := rt_b_n0 c13
    have v3 := rt_b_n0 c21
    have hok : (rt_lt q 6 && rt_lt g 18 && rt_lt t (L + 1)) = true := by rw [v1, v2, v3]; rfl
    obtain ⟨q, hq, rfl⟩ := rt_lt_of v1 (by omega)
    obtain ⟨g, hg, rfl⟩ := rt_lt_of v2 (by omega)
    obtain ⟨t, ht, rfl⟩ := rt_lt_of v3 (by omega)
    refine rw_aload_n F dX1_check_26 rfl ?_
    refine rw_iload_n F dX1_check_27 rfl ?_
    refine rw_calli F (cY_isKept hL hI.2.1 (nI t)) (cwV 1 F.2.2.2.2.1 (lw_V q220 q222 qs15 q21 q223) rfl rfl rfl dd_M_isKept ⟨Nat.le_of_ble_eq_true rfl, Nat.le_of_ble_eq_true rfl⟩) rfl rfl rfl rfl rfl (Nat.le_of_ble_eq_true rfl) dX1_check_28 ⟨Nat.zero_le _, Nat.zero_le _⟩ (fun r28 u28 h28 => ?_)
    obtain ⟨rfl, rfl⟩ := h28
    refine rw_as (congrArg rt_b (rt_kp_nI hL ht)) ?_
    refine rw_if_ne (tgt := 37) F dX1_check_31 (by decide) (fun c31 => ?_) (fun c31 => ?_)
    · have hk := of_decide_eq_true (rt_b_n0 c31)
      refine rw_aload_n F dX1_check_37 rfl ?_
      refine rw_iload_n F dX1_check_38 rfl ?_
      refine rw_callv F (cY_addAll hI (by omega) hk) (cwV 1 F.2.2.2.2.1 (lw_V q224 q226 qs16 q21 q227) rfl rfl rfl dd_M_addAll ⟨Nat.le_of_ble_eq_true rfl, Nat.le_of_ble_eq_true rfl⟩) rfl rfl rfl rfl rfl (Nat.le_of_ble_eq_true rfl) dX1_check_39 ⟨Nat.zero_le _, Nat.zero_le _⟩ (fun u39 h39 => ?_)
      refine rw_aload_n F dX1_check_42 rfl ?_
      refine rw_aload_n F dX1_check_43 rfl ?_
      refine ry_g_members F dX1_check_44 ?_
      refine rw_iload_n F dX1_check_47 rfl ?_
      refine ry_l_members F rfl hg dX1_check_48 ?_
      refine rw_as (h39.2 g hg) ?_
      refine rw_iload_n F dX1_check_49 rfl ?_
      refine rw_calli F (cY_in _ (by omega)) (cwV 2 F.2.2.2.2.1 (lw_V q232 q234 qs18 q21 q235) rfl rfl rfl dd_M_in ⟨Nat.le_of_ble_eq_true rfl, Nat.le_of_ble_eq_true rfl⟩) rfl rfl rfl rfl rfl (Nat.le_of_ble_eq_true rfl) dX1_check_50 ⟨Nat.zero_le _, Nat.zero_le _⟩ (fun r50 u50 h50 => ?_)
      obtain ⟨rfl, rfl⟩ := h50
      refine rw_as (congrArg rt_b (sp_mem_bt _ _ (by omega))) ?_
      refine rw_bool F dX1_check_53 dX1_check_56 dX1_check_57 dX1_check_60 rfl rfl (by decide) (by decide) rfl (rt_m (hist t) g q) rt_b_iff ?_
      refine rw_ret F hr rfl ⟨?_, h39.1⟩ dX1_check_61
      unfold sp_check
      rw [sp_q_ok hok (by omega) hk, rt_cl0 (by omega), rt_cl0 (by omega)]
    · have hk := of_decide_eq_false (rt_b_0.mp c31)
      refine rw_bipush (v := (-2)) F dX1_check_34 (by decide) ?_
      exact rw_ret F hr rfl ⟨(sp_q_gone hok (by omega) hk).symm, hI⟩ dX1_check_36
  · refine rw_iconst (v := (-1)) F dX1_check_24 (by decide) ?_
    exact rw_ret F hr rfl ⟨(sp_q_bad (by rw [rt_b_0.mp c21, Bool.and_false])).symm, hI⟩ dX1_check_25
set_option maxHeartbeats 4000000 in
set_option maxRecDepth 100000 in
theorem cY_members {hist : Nat → rt_S} {L : Nat} {st : rt_S} (hI : ry_I hist L st) (t g : Int32) : rw_Mi l D (ry_t dA) (ry_w dA h0 ad) yX1_members cX1_members 3 (some .int) rr_M_members h0 [.int t, .int g] st (fun r u => r = sp_members hist L t g ∧ ry_I hist L u) := by
  refine rw_Mi.of (own := RX1) (lv := [some (.ref h0), some (.int t), some (.int g)]) (by decide) rfl 0 (Nat.le_of_ble_eq_true rfl) rfl rfl (fun p e s m below meth c A F hr => ?_)
  have hL := hI.1
  refine rw_aload_n F dX1_members_0 rfl ?_
  refine rw_iload_n F dX1_members_1 rfl ?_
  refine rw_calli F (cY_isGroup g) (cwV 1 F.2.2.2.2.1 (lw_V q188 q190 qs11 q21 q191) rfl rfl rfl dd_M_isGroup ⟨Nat.le_of_ble_eq_true rfl, Nat.le_of_ble_eq_true rfl⟩) rfl rfl rfl rfl rfl (Nat.le_of_ble_eq_true rfl) dX1_members_2 ⟨Nat.zero_le _, Nat.zero_le _⟩ (fun r2 u2 h2 => ?_)
  obtain ⟨rfl, rfl⟩ := h2
  refine rw_if_eq (tgt := 16) F dX1_members_5 (by decide) (fun c5 => ?_) (fun c5 => ?_)
  · refine rw_iconst (v := (-1)) F dX1_members_16 (by decide) ?_
    exact rw_ret F hr rfl ⟨(sp_q_bad (by rw [rt_b_0.mp c5]; rfl)).symm, hI⟩ dX1_members_17
  refine rw_aload_n F dX1_members_8 rfl ?_
  refine rw_iload_n F dX1_members_9 rfl ?_
  refine rw_calli F (cY_exists hL hI.2.1 t) (cwV 1 F.2.2.2.2.1 (lw_V q216 q218 qs14 q21 q219) rfl rfl rfl dd_M_exists ⟨Nat.le_of_ble_eq_true rfl, Nat.le_of_ble_eq_true rfl⟩) rfl rfl rfl rfl rfl (Nat.le_of_ble_eq_true rfl) dX1_members_10 ⟨Nat.zero_le _, Nat.zero_le _⟩ (fun r10 u10 h10 => ?_)
  obtain ⟨rfl, rfl⟩ := h10
  refine rw_if_ne (tgt := 18) F dX1_members_13 (by decide) (fun c13 => ?_) (fun c13 => ?_)
  · have v2 := rt_b_n0 c5
    have v3 := rt_b_n0 c13
    have hok : (rt_lt g 18 && rt_lt t (L + 1)) = true := by rw [v2, v3]; rfl
    obtain ⟨g, hg, rfl⟩ := rt_lt_of v2 (by omega)
    obtain ⟨t, ht, rfl⟩ := rt_lt_of v3 (by omega)
    refine rw_aload_n F dX1_members_18 rfl ?_
    refine rw_iload_n F dX1_members_19 rfl ?_
    refine rw_calli F (cY_isKept hL hI.2.1 (nI t)) (cwV 1 F.2.2.2.2.1 (lw_V q220 q222 qs15 q21 q223) rfl rfl rfl dd_M_isKept ⟨Nat.le_of_ble_eq_true rfl, Nat.le_of_ble_eq_true rfl⟩) rfl rfl rfl rfl rfl (Nat.le_of_ble_eq_true rfl) dX1_members_20 ⟨Nat.zero_le _, Nat.zero_le _⟩ (fun r20 u20 h20 => ?_)
    obtain ⟨rfl, rfl⟩ := h20
    refine rw_as (congrArg rt_b (rt_kp_nI hL ht)) ?_
    refine rw_if_ne (tgt := 29) F dX1_members_23 (by decide) (fun c23 => ?_) (fun c23 => ?_)
    · have hk := of_decide_eq_true (rt_b_n0 c23)
      refine rw_aload_n F dX1_members_29 rfl ?_
      refine rw_iload_n F dX1_members_30 rfl ?_
      refine rw_callv F (cY_addAll hI (by omega) hk) (cwV 1 F.2.2.2.2.1 (lw_V q224 q226 qs16 q21 q227) rfl rfl rfl dd_M_addAll ⟨Nat.le_of_ble_eq_true rfl, Nat.le_of_ble_eq_true rfl⟩) rfl rfl rfl rfl rfl (Nat.le_of_ble_eq_true rfl) dX1_members_31 ⟨Nat.zero_le _, Nat.zero_le _⟩ (fun u31 h31 => ?_)
      refine rw_aload_n F dX1_members_34 rfl ?_
      refine ry_g_members F dX1_members_35 ?_
      refine rw_iload_n F dX1_members_38 rfl ?_
      refine ry_l_members F rfl hg dX1_members_39 ?_
      refine rw_as (h31.2 g hg) ?_
      refine rw_ret F hr rfl ⟨?_, h31.1⟩ dX1_members_40
      unfold sp_members
      rw [sp_q_ok hok (by omega) hk, rt_cl0 (by omega)]
    · have hk := of_decide_eq_false (rt_b_0.mp c23)
      refine rw_bipush (v := (-2)) F dX1_members_26 (by decide) ?_
      exact rw_ret F hr rfl ⟨(sp_q_gone hok (by omega) hk).symm, hI⟩ dX1_members_28
  · refine rw_iconst (v := (-1)) F dX1_members_16 (by decide) ?_
    exact rw_ret F hr rfl ⟨(sp_q_bad (by rw [rt_b_0.mp c13, Bool.and_false])).symm, hI⟩ dX1_members_17
set_option maxHeartbeats 4000000 in
set_option maxRecDepth 100000 in
theorem kY_grp_loop (F : rw_F p s m args meth c D A (ry_t dA) cX1_groups 5 RX1) {S u : rt_S} {q : Nat} {v1 : Option Value} (hq : q < 6) (hm : ∀ g, g < 18 → u 4 g = sp_mem S g)
    (hx : rw_W p l e rr_M_groups s m args below meth c D A 5 0 0 Q (ry_w dA h0 ad u) [some (.ref h0), v1, some (.int (nI q)), some (.int (sp_grp S q)), some (.int (nI 18))] 74 []) :
    ∀ n j : Nat, j + n = 18 → rw_W p l e rr_M_groups s m args below meth c D A 5 0 0 Q (ry_w dA h0 ad u) [some (.ref h0), v1, some (.int (nI q)), some (.int (rt_of (fun g => rt_m S g q) j)), some (.int (nI j))] 39 [] := by
  intro n
  induction n with
  | zero =>
    intro j hj
    obtain rfl : j = 18 := by omega
    refine rw_iload F dX1_groups_39 rfl ?_
    refine rw_bipush (v := nI 18) F dX1_groups_41 (by decide) ?_
    refine rw_icmp_ge_N (tgt := 74) F dX1_groups_43 (by decide) (by omega) (by omega) (fun c43 => ?_) (fun c43 => ?_)
    · exact hx
    · exact absurd c43 (by omega)
  | succ n ih =>
    intro j hj
    refine rw_iload F dX1_groups_39 rfl ?_
    refine rw_bipush (v := nI 18) F dX1_groups_41 (by decide) ?_
    refine rw_icmp_ge_N (tgt := 74) F dX1_groups_43 (by decide) (by omega) (by omega) (fun c43 => ?_) (fun c43 => ?_)
    · exact absurd c43 (by omega)
    refine rw_aload_n F dX1_groups_46 rfl ?_
    refine rw_aload_n F dX1_groups_47 rfl ?_
    refine ry_g_members F dX1_groups_48 ?_
    refine rw_iload F dX1_groups_51 rfl ?_
    refine ry_l_members F rfl c43 dX1_groups_53 ?_
    refine rw_as (hm j c43) ?_
    refine rw_iload_n F dX1_groups_54 rfl ?_
    refine rw_calli F (cY_in _ (by omega)) (cwV 2 F.2.2.2.2.1 (lw_V q232 q234 qs18 q21 q235) rfl rfl rfl dd_M_in ⟨Nat.le_of_ble_eq_true rfl, Nat.le_of_ble_eq_true rfl⟩) rfl rfl rfl rfl rfl (Nat.le_of_ble_eq_true rfl) dX1_groups_55 ⟨Nat.zero_le _, Nat.zero_le _⟩ (fun r55 u55 h55 => ?_)
    obtain ⟨rfl, rfl⟩ := h55
    refine rw_as (congrArg rt_b (sp_mem_bt _ _ (by omega))) ?_
    refine rw_if_eq (tgt := 68) F dX1_groups_58 (by decide) (fun c58 => ?_) (fun c58 => ?_)
    · refine rw_iinc1 F dX1_groups_68 rfl (by decide) ?_
      refine rw_goto (tgt := 39) F dX1_groups_71 (by decide) ?_
      have h := ih (j + 1) (by omega)
      rw [rt_of_s, if_neg (by rw [rt_b_0.mp c58]; decide)] at h
      exact h
    · refine rw_iload_n F dX1_groups_61 rfl ?_
      refine rw_iconst (v := nI 1) F dX1_groups_62 (by decide) ?_
      refine rw_iload F dX1_groups_63 rfl ?_
      refine rw_ishl F dX1_groups_65 ?_
      refine rw_ior F dX1_groups_66 ?_
      refine rw_istore_n F dX1_groups_67 (by decide) ?_
      refine rw_iinc1 F dX1_groups_68 rfl (by decide) ?_
      refine rw_goto (tgt := 39) F dX1_groups_71 (by decide) ?_
      have h := ih (j + 1) (by omega)
      rw [rt_of_s, if_pos (rt_b_n0 c58)] at h
      exact h
set_option maxHeartbeats 4000000 in
set_option maxRecDepth 100000 in
theorem cY_groups {hist : Nat → rt_S} {L : Nat} {st : rt_S} (hI : ry_I hist L st) (t q : Int32) : rw_Mi l D (ry_t dA) (ry_w dA h0 ad) yX1_groups cX1_groups 5 (some .int) rr_M_groups h0 [.int t, .int q] st (fun r u => r = sp_groups hist L t q ∧ ry_I hist L u) := by
  refine rw_Mi.of (own := RX1) (lv := [some (.ref h0), some (.int t), some (.int q), none, none]) (by decide) rfl 2 (Nat.le_of_ble_eq_true rfl) rfl rfl (fun p e s m below meth c A F hr => ?_)
  have hL := hI.1
  refine rw_aload_n F dX1_groups_0 rfl ?_
  refine rw_iload_n F dX1_groups_1 rfl ?_
  refine rw_calli F (cY_isPerson q) (cwV 1 F.2.2.2.2.1 (lw_V q184 q186 qs10 q21 q187) rfl rfl rfl dd_M_isPerson ⟨Nat.le_of_ble_eq_true rfl, Nat.le_of_ble_eq_true rfl⟩) rfl rfl rfl rfl rfl (Nat.le_of_ble_eq_true rfl) dX1_groups_2 ⟨Nat.zero_le _, Nat.zero_le _⟩ (fun r2 u2 h2 => ?_)
  obtain ⟨rfl, rfl⟩ := h2
  refine rw_if_eq (tgt := 16) F dX1_groups_5 (by decide) (fun c5 => ?_) (fun c5 => ?_)
  · refine rw_iconst (v := (-1)) F dX1_groups_16 (by decide) ?_
    exact rw_ret F hr rfl ⟨(sp_q_bad (by rw [rt_b_0.mp c5]; rfl)).symm, hI⟩ dX1_groups_17
  refine rw_aload_n F dX1_groups_8 rfl ?_
  refine rw_iload_n F dX1_groups_9 rfl ?_
  refine rw_calli F (cY_exists hL hI.2.1 t) (cwV 1 F.2.2.2.2.1 (lw_V q216 q218 qs14 q21 q219) rfl rfl rfl dd_M_exists ⟨Nat.le_of_ble_eq_true rfl, Nat.le_of_ble_eq_true rfl⟩) rfl rfl rfl rfl rfl (Nat.le_of_ble_eq_true rfl) dX1_groups_10 ⟨Nat.zero_le _, Nat.zero_le _⟩ (fun r10 u10 h10 => ?_)
  obtain ⟨rfl, rfl⟩ := h10
  refine rw_if_ne (tgt := 18) F dX1_groups_13 (by decide) (fun c13 => ?_) (fun c13 => ?_)
  · have v2 := rt_b_n0 c5
    have v3 := rt_b_n0 c13
    have hok : (rt_lt q 6 && rt_lt t (L + 1)) = true := by rw [v2, v3]; rfl
    obtain ⟨q, hq, rfl⟩ := rt_lt_of v2 (by omega)
    obtain ⟨t, ht, rfl⟩ := rt_lt_of v3 (by omega)
    refine rw_aload_n F dX1_groups_18 rfl ?_
    refine rw_iload_n F dX1_groups_19 rfl ?_
    refine rw_calli F (cY_isKept hL hI.2.1 (nI t)) (cwV 1 F.2.2.2.2.1 (lw_V q220 q222 qs15 q21 q223) rfl rfl rfl dd_M_isKept ⟨Nat.le_of_ble_eq_true rfl, Nat.le_of_ble_eq_true rfl⟩) rfl rfl rfl rfl rfl (Nat.le_of_ble_eq_true rfl) dX1_groups_20 ⟨Nat.zero_le _, Nat.zero_le _⟩ (fun r20 u20 h20 => ?_)
    obtain ⟨rfl, rfl⟩ := h20
    refine rw_as (congrArg rt_b (rt_kp_nI hL ht)) ?_
    refine rw_if_ne (tgt := 29) F dX1_groups_23 (by decide) (fun c23 => ?_) (fun c23 => ?_)
    · have hk := of_decide_eq_true (rt_b_n0 c23)
      refine rw_aload_n F dX1_groups_29 rfl ?_
      refine rw_iload_n F dX1_groups_30 rfl ?_
      refine rw_callv F (cY_addAll hI (by omega) hk) (cwV 1 F.2.2.2.2.1 (lw_V q224 q226 qs16 q21 q227) rfl rfl rfl dd_M_addAll ⟨Nat.le_of_ble_eq_true rfl, Nat.le_of_ble_eq_true rfl⟩) rfl rfl rfl rfl rfl (Nat.le_of_ble_eq_true rfl) dX1_groups_31 ⟨Nat.zero_le _, Nat.zero_le _⟩ (fun u31 h31 => ?_)
      refine rw_iconst (v := nI 0) F dX1_groups_34 (by decide) ?_
      refine rw_istore_n F dX1_groups_35 (by decide) ?_
      refine rw_iconst (v := nI 0) F dX1_groups_36 (by decide) ?_
      refine rw_istore F dX1_groups_37 (by decide) ?_
      refine kY_grp_loop F hq h31.2 ?_ 18 0 (by omega)
      refine rw_iload_n F dX1_groups_74 rfl ?_
      refine rw_ret F hr rfl ⟨?_, h31.1⟩ dX1_groups_75
      unfold sp_groups
      rw [sp_q_ok hok (by omega) hk, rt_cl0 (by omega)]
    · have hk := of_decide_eq_false (rt_b_0.mp c23)
      refine rw_bipush (v := (-2)) F dX1_groups_26 (by decide) ?_
      exact rw_ret F hr rfl ⟨(sp_q_gone hok (by omega) hk).symm, hI⟩ dX1_groups_28
  · refine rw_iconst (v := (-1)) F dX1_groups_16 (by decide) ?_
    exact rw_ret F hr rfl ⟨(sp_q_bad (by rw [rt_b_0.mp c13, Bool.and_false])).symm, hI⟩ dX1_groups_17
set_option maxHeartbeats 4000000 in
set_option maxRecDepth 100000 in
theorem kY_src_in (F : rw_F p s m args meth c D A (ry_t dA) cX1_sources 7 RX1) {S st : rt_S} {q g0 : Nat} {x0 : Int32} {v1 v2 v5 : Option Value} (hP : ry_P S st q) (hq : q < 8)
    (hx : ∀ x : Int32, ry_sd S g0 x0 x 324 → rw_W p l e rr_M_sources s m args below meth c D A 7 0 0 Q (ry_w dA h0 ad st) [some (.ref h0), v1, v2, some (.int (nI q)), some (.int x), v5, some (.int (nI 324))] 110 []) :
    ∀ (n j : Nat) (x : Int32), j + n = 324 → ry_sd S g0 x0 x j → rw_W p l e rr_M_sources s m args below meth c D A 7 0 0 Q (ry_w dA h0 ad st) [some (.ref h0), v1, v2, some (.int (nI q)), some (.int x), v5, some (.int (nI j))] 52 [] := by
  intro n
  induction n with
  | zero =>
    intro j x hj h2
    obtain rfl : j = 324 := by omega
    refine rw_iload F dX1_sources_52 rfl ?_
    refine rw_sipush (v := nI 324) F dX1_sources_54 (by decide) ?_
    refine rw_icmp_ge_N (tgt := 110) F dX1_sources_57 (by decide) (by omega) (by omega) (fun c57 => ?_) (fun c57 => ?_)
    · exact hx x h2
    · exact absurd c57 (by omega)
  | succ n ih =>
    intro j x hj h2
    refine rw_iload F dX1_sources_52 rfl ?_
    refine rw_sipush (v := nI 324) F dX1_sources_54 (by decide) ?_
    refine rw_icmp_ge_N (tgt := 110) F dX1_sources_57 (by decide) (by omega) (by omega) (fun c57 => ?_) (fun c57 => ?_)
    · exact absurd c57 (by omega)
    refine rw_aload_n F dX1_sources_60 rfl ?_
    refine rw_iload F dX1_sources_61 rfl ?_
    refine rw_iload F dX1_sources_63 rfl ?_
    refine rw_bipush (v := nI 18) F dX1_sources_65 (by decide) ?_
    refine rw_iremN F dX1_sources_67 (by omega) (by omega) (by omega) ?_
    refine rw_calli F (cY_in x (by omega)) (cwV 2 F.2.2.2.2.1 (lw_V q232 q234 qs18 q21 q235) rfl rfl rfl dd_M_in ⟨Nat.le_of_ble_eq_true rfl, Nat.le_of_ble_eq_true rfl⟩) rfl rfl rfl rfl rfl (Nat.le_of_ble_eq_true rfl) dX1_sources_68 ⟨Nat.zero_le _, Nat.zero_le _⟩ (fun r68 u68 h68 => ?_)
    obtain ⟨rfl, rfl⟩ := h68
    refine rw_if_eq (tgt := 104) F dX1_sources_71 (by decide) (fun c71 => ?_) (fun c71 => ?_)
    · refine rw_iinc1 F dX1_sources_104 rfl (by decide) ?_
      refine rw_goto (tgt := 52) F dX1_sources_107 (by decide) ?_
      exact ih (j + 1) x (by omega) (ry_sd_no1 h2 c57 (rt_b_0.mp c71))
    refine rw_aload_n F dX1_sources_74 rfl ?_
    refine rw_iload_n F dX1_sources_75 rfl ?_
    refine rw_iload F dX1_sources_76 rfl ?_
    refine rw_bipush (v := nI 18) F dX1_sources_78 (by decide) ?_
    refine rw_idivN F dX1_sources_80 (by omega) (by omega) (by omega) ?_
    refine rw_iload F dX1_sources_81 rfl ?_
    refine rw_bipush (v := nI 18) F dX1_sources_83 (by decide) ?_
    refine rw_iremN F dX1_sources_85 (by omega) (by omega) (by omega) ?_
    refine rw_calli F (cY_passes hP hq (by omega) (by omega)) (cwV 3 F.2.2.2.2.1 (lw_V q228 q230 qs17 q21 q231) rfl rfl rfl dd_M_passes ⟨Nat.le_of_ble_eq_true rfl, Nat.le_of_ble_eq_true rfl⟩) rfl rfl rfl rfl rfl (Nat.le_of_ble_eq_true rfl) dX1_sources_86 ⟨Nat.zero_le _, Nat.zero_le _⟩ (fun r86 u86 h86 => ?_)
    obtain ⟨rfl, rfl⟩ := h86
    refine rw_if_eq (tgt := 104) F dX1_sources_89 (by decide) (fun c89 => ?_) (fun c89 => ?_)
    · refine rw_iinc1 F dX1_sources_104 rfl (by decide) ?_
      refine rw_goto (tgt := 52) F dX1_sources_107 (by decide) ?_
      exact ih (j + 1) x (by omega) (ry_sd_no2 h2 c57 (rt_b_0.mp c89))
    refine rw_iload F dX1_sources_92 rfl ?_
    refine rw_iconst (v := nI 1) F dX1_sources_94 (by decide) ?_
    refine rw_iload F dX1_sources_95 rfl ?_
    refine rw_bipush (v := nI 18) F dX1_sources_97 (by decide) ?_
    refine rw_idivN F dX1_sources_99 (by omega) (by omega) (by omega) ?_
    refine rw_ishl F dX1_sources_100 ?_
    refine rw_ior F dX1_sources_101 ?_
    refine rw_istore F dX1_sources_102 (by decide) ?_
    refine rw_iinc1 F dX1_sources_104 rfl (by decide) ?_
    refine rw_goto (tgt := 52) F dX1_sources_107 (by decide) ?_
    exact ih (j + 1) _ (by omega) (ry_sd_yes h2 c57 (rt_b_n0 c71) (rt_b_n0 c89))
set_option maxHeartbeats 4000000 in
set_option maxRecDepth 100000 in
theorem kY_src_out (F : rw_F p s m args meth c D A (ry_t dA) cX1_sources 7 RX1) {S st : rt_S} {q g0 : Nat} {v1 v2 : Option Value} (hP : ry_P S st q) (hq : q < 8)
    (hx : ∀ (v6 : Option Value), rw_W p l e rr_M_sources s m args below meth c D A 7 0 0 Q (ry_w dA h0 ad st) [some (.ref h0), v1, v2, some (.int (nI q)), some (.int (sp_src S g0)), some (.int (nI 18)), v6] 116 []) :
    ∀ (n r : Nat) (x : Int32) (v6 : Option Value), r + n = 18 → ry_sb S g0 x r → rw_W p l e rr_M_sources s m args below meth c D A 7 0 0 Q (ry_w dA h0 ad st) [some (.ref h0), v1, v2, some (.int (nI q)), some (.int x), some (.int (nI r)), v6] 42 [] := by
  intro n
  induction n with
  | zero =>
    intro r x v6 hr h2
    obtain rfl : r = 18 := by omega
    obtain rfl := ry_sb_end h2
    refine rw_iload F dX1_sources_42 rfl ?_
    refine rw_bipush (v := nI 18) F dX1_sources_44 (by decide) ?_
    refine rw_icmp_ge_N (tgt := 116) F dX1_sources_46 (by decide) (by omega) (by omega) (fun c46 => ?_) (fun c46 => ?_)
    · exact hx v6
    · exact absurd c46 (by omega)
  | succ n ih =>
    intro r x v6 hr h2
    refine rw_iload F dX1_sources_42 rfl ?_
    refine rw_bipush (v := nI 18) F dX1_sources_44 (by decide) ?_
    refine rw_icmp_ge_N (tgt := 116) F dX1_sources_46 (by decide) (by omega) (by omega) (fun c46 => ?_) (fun c46 => ?_)
    · exact absurd c46 (by omega)
    refine rw_iconst (v := nI 0) F dX1_sources_49 (by decide) ?_
    refine rw_istore F dX1_sources_50 (by decide) ?_
    refine kY_src_in F hP hq (x0 := x) (g0 := g0) (fun x2 h4 => ?_) 324 0 x (by omega) ⟨rt_in_0 _ _ _ _, h2.2⟩
    refine rw_iinc1 F dX1_sources_110 rfl (by decide) ?_
    refine rw_goto (tgt := 42) F dX1_sources_113 (by decide) ?_
    exact ih (r + 1) x2 _ (by omega) (ry_sb_s h2 h4)
set_option maxHeartbeats 4000000 in
set_option maxRecDepth 100000 in
theorem cY_sources {hist : Nat → rt_S} {L : Nat} {st : rt_S} (hI : ry_I hist L st) (t g : Int32) : rw_Mi l D (ry_t dA) (ry_w dA h0 ad) yX1_sources cX1_sources 7 (some .int) rr_M_sources h0 [.int t, .int g] st (fun r u => r = sp_sources hist L t g ∧ ry_I hist L u) := by
  refine rw_Mi.of (own := RX1) (lv := [some (.ref h0), some (.int t), some (.int g), none, none, none, none]) (by decide) rfl 4 (Nat.le_of_ble_eq_true rfl) rfl rfl (fun p e s m below meth c A F hr => ?_)
  have hL := hI.1
  refine rw_aload_n F dX1_sources_0 rfl ?_
  refine rw_iload_n F dX1_sources_1 rfl ?_
  refine rw_calli F (cY_isGroup g) (cwV 1 F.2.2.2.2.1 (lw_V q188 q190 qs11 q21 q191) rfl rfl rfl dd_M_isGroup ⟨Nat.le_of_ble_eq_true rfl, Nat.le_of_ble_eq_true rfl⟩) rfl rfl rfl rfl rfl (Nat.le_of_ble_eq_true rfl) dX1_sources_2 ⟨Nat.zero_le _, Nat.zero_le _⟩ (fun r2 u2 h2 => ?_)
  obtain ⟨rfl, rfl⟩ := h2
  refine rw_if_eq (tgt := 16) F dX1_sources_5 (by decide) (fun c5 => ?_) (fun c5 => ?_)
  · refine rw_iconst (v := (-1)) F dX1_sources_16 (by decide) ?_
    exact rw_ret F hr rfl ⟨(sp_q_bad (by rw [rt_b_0.mp c5]; rfl)).symm, hI⟩ dX1_sources_17
  refine rw_aload_n F dX1_sources_8 rfl ?_
  refine rw_iload_n F dX1_sources_9 rfl ?_
  refine rw_calli F (cY_exists hL hI.2.1 t) (cwV 1 F.2.2.2.2.1 (lw_V q216 q218 qs14 q21 q219) rfl rfl rfl dd_M_exists ⟨Nat.le_of_ble_eq_true rfl, Nat.le_of_ble_eq_true rfl⟩) rfl rfl rfl rfl rfl (Nat.le_of_ble_eq_true rfl) dX1_sources_10 ⟨Nat.zero_le _, Nat.zero_le _⟩ (fun r10 u10 h10 => ?_)
  obtain ⟨rfl, rfl⟩ := h10
  refine rw_if_ne (tgt := 18) F dX1_sources_13 (by decide) (fun c13 => ?_) (fun c13 => ?_)
  · have v2 := rt_b_n0 c5
    have v3 := rt_b_n0 c13
    have hok : (rt_lt g 18 && rt_lt t (L + 1)) = true := by rw [v2, v3]; rfl
    obtain ⟨g, hg, rfl⟩ := rt_lt_of v2 (by omega)
    obtain ⟨t, ht, rfl⟩ := rt_lt_of v3 (by omega)
    refine rw_aload_n F dX1_sources_18 rfl ?_
    refine rw_iload_n F dX1_sources_19 rfl ?_
    refine rw_calli F (cY_isKept hL hI.2.1 (nI t)) (cwV 1 F.2.2.2.2.1 (lw_V q220 q222 qs15 q21 q223) rfl rfl rfl dd_M_isKept ⟨Nat.le_of_ble_eq_true rfl, Nat.le_of_ble_eq_true rfl⟩) rfl rfl rfl rfl rfl (Nat.le_of_ble_eq_true rfl) dX1_sources_20 ⟨Nat.zero_le _, Nat.zero_le _⟩ (fun r20 u20 h20 => ?_)
    obtain ⟨rfl, rfl⟩ := h20
    refine rw_as (congrArg rt_b (rt_kp_nI hL ht)) ?_
    refine rw_if_ne (tgt := 29) F dX1_sources_23 (by decide) (fun c23 => ?_) (fun c23 => ?_)
    · have hk := of_decide_eq_true (rt_b_n0 c23)
      have hP := hI.2.2 t (by omega) hk
      refine rw_iload_n F dX1_sources_29 rfl ?_
      refine rw_bipush (v := nI 8) F dX1_sources_30 (by decide) ?_
      refine rw_iremN F dX1_sources_32 (by omega) (by omega) (by omega) ?_
      refine rw_istore_n F dX1_sources_33 (by decide) ?_
      refine rw_iconst (v := nI 1) F dX1_sources_34 (by decide) ?_
      refine rw_iload_n F dX1_sources_35 rfl ?_
      refine rw_ishl F dX1_sources_36 ?_
      refine rw_istore F dX1_sources_37 (by decide) ?_
      refine rw_iconst (v := nI 0) F dX1_sources_39 (by decide) ?_
      refine rw_istore F dX1_sources_40 (by decide) ?_
      refine kY_src_out F hP (by omega) (g0 := g) (fun v6 => ?_) 18 0 _ none (by omega) (ry_sb_0 (hist t) hg)
      refine rw_iload F dX1_sources_116 rfl ?_
      refine rw_ret F hr rfl ⟨?_, hI⟩ dX1_sources_118
      unfold sp_sources
      rw [sp_q_ok hok (by omega) hk, rt_cl0 (by omega)]
    · have hk := of_decide_eq_false (rt_b_0.mp c23)
      refine rw_bipush (v := (-2)) F dX1_sources_26 (by decide) ?_
      exact rw_ret F hr rfl ⟨(sp_q_gone hok (by omega) hk).symm, hI⟩ dX1_sources_28
  · refine rw_iconst (v := (-1)) F dX1_sources_16 (by decide) ?_
    exact rw_ret F hr rfl ⟨(sp_q_bad (by rw [rt_b_0.mp c13, Bool.and_false])).symm, hI⟩ dX1_sources_17
set_option maxHeartbeats 4000000 in
set_option maxRecDepth 100000 in
theorem kY_chg_in (F : rw_F p s m args meth c D A (ry_t dA) cX1_changed 8 RX1) {S T st : rt_S} {z q : Nat} {v1 v2 v4 : Option Value}
    (hx : rw_W p l e rr_M_changed s m args below meth c D A 8 0 0 Q (ry_w dA h0 ad st) [some (.ref h0), v1, v2, some (.int (nI (z + rt_sum (fun g => sp_x (rt_m S g q) (rt_m T g q)) 18))), v4, some (.int (sp_grp S q)), some (.int (sp_grp T q)), some (.int (nI 18))] 100 []) :
    ∀ n j : Nat, j + n = 18 → rw_W p l e rr_M_changed s m args below meth c D A 8 0 0 Q (ry_w dA h0 ad st) [some (.ref h0), v1, v2, some (.int (nI (z + rt_sum (fun g => sp_x (rt_m S g q) (rt_m T g q)) j))), v4, some (.int (sp_grp S q)), some (.int (sp_grp T q)), some (.int (nI j))] 70 [] := by
  intro n
  induction n with
  | zero =>
    intro j hj
    obtain rfl : j = 18 := by omega
    refine rw_iload F dX1_changed_70 rfl ?_
    refine rw_bipush (v := nI 18) F dX1_changed_72 (by decide) ?_
    refine rw_icmp_ge_N (tgt := 100) F dX1_changed_74 (by decide) (by omega) (by omega) (fun c74 => ?_) (fun c74 => ?_)
    · exact hx
    · exact absurd c74 (by omega)
  | succ n ih =>
    intro j hj
    have h := ih (j + 1) (by omega)
    refine rw_iload F dX1_changed_70 rfl ?_
    refine rw_bipush (v := nI 18) F dX1_changed_72 (by decide) ?_
    refine rw_icmp_ge_N (tgt := 100) F dX1_changed_74 (by decide) (by omega) (by omega) (fun c74 => ?_) (fun c74 => ?_)
    · exact absurd c74 (by omega)
    refine rw_aload_n F dX1_changed_77 rfl ?_
    refine rw_iload F dX1_changed_78 rfl ?_
    refine rw_iload F dX1_changed_80 rfl ?_
    refine rw_ixor F dX1_changed_82 ?_
    refine rw_iload F dX1_changed_83 rfl ?_
    refine rw_calli F (cY_in _ (by omega)) (cwV 2 F.2.2.2.2.1 (lw_V q232 q234 qs18 q21 q235) rfl rfl rfl dd_M_in ⟨Nat.le_of_ble_eq_true rfl, Nat.le_of_ble_eq_true rfl⟩) rfl rfl rfl rfl rfl (Nat.le_of_ble_eq_true rfl) dX1_changed_85 ⟨Nat.zero_le _, Nat.zero_le _⟩ (fun r85 u85 h85 => ?_)
    obtain ⟨rfl, rfl⟩ := h85
    refine rw_as (show _ = rt_b (rt_m S j q ^^ rt_m T j q) by rw [b_xor, sp_grp_bt _ _ c74, sp_grp_bt _ _ c74]) ?_
    refine rw_if_eq (tgt := 94) F dX1_changed_88 (by decide) (fun c88 => ?_) (fun c88 => ?_)
    · refine rw_iinc1 F dX1_changed_94 rfl (by decide) ?_
      refine rw_goto (tgt := 70) F dX1_changed_97 (by decide) ?_
      have e : rt_m S j q = rt_m T j q := by simpa using rt_b_0.mp c88
      rw [rt_sum_s, show sp_x (rt_m S j q) (rt_m T j q) = 0 from if_pos e] at h
      exact h
    · refine rw_iinc1 F dX1_changed_91 rfl (by decide) ?_
      refine rw_iinc1 F dX1_changed_94 rfl (by decide) ?_
      refine rw_goto (tgt := 70) F dX1_changed_97 (by decide) ?_
      have e : ¬ rt_m S j q = rt_m T j q := by simpa using rt_b_n0 c88
      rw [rt_sum_s, show sp_x (rt_m S j q) (rt_m T j q) = 1 from if_neg e] at h
      exact h
set_option maxHeartbeats 4000000 in
set_option maxRecDepth 100000 in
theorem kY_chg_out (F : rw_F p s m args meth c D A (ry_t dA) cX1_changed 8 RX1) {hist : Nat → rt_S} {L a b : Nat} (ha : a ≤ L) (ha8 : L < a + 8) (hb : b ≤ L) (hb8 : L < b + 8)
    (hx : ∀ (u : rt_S) (v5 v6 v7 : Option Value), ry_I hist L u → rw_W p l e rr_M_changed s m args below meth c D A 8 0 0 Q (ry_w dA h0 ad u) [some (.ref h0), some (.int (nI a)), some (.int (nI b)), some (.int (sp_chg (hist a) (hist b))), some (.int (nI 6)), v5, v6, v7] 106 []) :
    ∀ (n j : Nat) (u : rt_S) (v5 v6 v7 : Option Value), j + n = 6 → ry_I hist L u → rw_W p l e rr_M_changed s m args below meth c D A 8 0 0 Q (ry_w dA h0 ad u) [some (.ref h0), some (.int (nI a)), some (.int (nI b)), some (.int (nI (rt_sum (fun q => rt_sum (fun g => sp_x (rt_m (hist a) g q) (rt_m (hist b) g q)) 18) j))), some (.int (nI j)), v5, v6, v7] 42 [] := by
  intro n
  induction n with
  | zero =>
    intro j u v5 v6 v7 hj hI
    obtain rfl : j = 6 := by omega
    rw [sp_chg_swap]
    refine rw_iload F dX1_changed_42 rfl ?_
    refine rw_bipush (v := nI 6) F dX1_changed_44 (by decide) ?_
    refine rw_icmp_ge_N (tgt := 106) F dX1_changed_46 (by decide) (by omega) (by omega) (fun c46 => ?_) (fun c46 => ?_)
    · exact hx u v5 v6 v7 hI
    · exact absurd c46 (by omega)
  | succ n ih =>
    intro j u v5 v6 v7 hj hI
    have hL := hI.1
    have hv : ∀ k, k ≤ L → L < k + 8 → sp_groups hist L (nI k) (nI j) = sp_grp (hist k) j := fun k hk hk8 => by
      unfold sp_groups
      rw [sp_q_ok (by rw [rt_lt_nI (by omega), rt_lt_nI (by omega), decide_eq_true (by omega), decide_eq_true (by omega)]; rfl) (by omega) hk8, rt_cl0 (by omega)]
    refine rw_iload F dX1_changed_42 rfl ?_
    refine rw_bipush (v := nI 6) F dX1_changed_44 (by decide) ?_
    refine rw_icmp_ge_N (tgt := 106) F dX1_changed_46 (by decide) (by omega) (by omega) (fun c46 => ?_) (fun c46 => ?_)
    · exact absurd c46 (by omega)
    refine rw_aload_n F dX1_changed_49 rfl ?_
    refine rw_iload_n F dX1_changed_50 rfl ?_
    refine rw_iload F dX1_changed_51 rfl ?_
    refine rw_calli F (cY_groups hI (nI a) (nI j)) (cwV 2 F.2.2.2.2.1 (lw_V q252 q241 q242 q21 q243) rfl rfl rfl dd_M_groups ⟨Nat.le_of_ble_eq_true rfl, Nat.le_of_ble_eq_true rfl⟩) rfl rfl rfl rfl rfl (Nat.le_of_ble_eq_true rfl) dX1_changed_53 ⟨Nat.zero_le _, Nat.zero_le _⟩ (fun r53 u53 h53 => ?_)
    refine rw_as (h53.1.trans (hv a ha ha8)) ?_
    refine rw_istore F dX1_changed_56 (by decide) ?_
    refine rw_aload_n F dX1_changed_58 rfl ?_
    refine rw_iload_n F dX1_changed_59 rfl ?_
    refine rw_iload F dX1_changed_60 rfl ?_
    refine rw_calli F (cY_groups h53.2 (nI b) (nI j)) (cwV 2 F.2.2.2.2.1 (lw_V q252 q241 q242 q21 q243) rfl rfl rfl dd_M_groups ⟨Nat.le_of_ble_eq_true rfl, Nat.le_of_ble_eq_true rfl⟩) rfl rfl rfl rfl rfl (Nat.le_of_ble_eq_true rfl) dX1_changed_62 ⟨Nat.zero_le _, Nat.zero_le _⟩ (fun r62 u62 h62 => ?_)
    refine rw_as (h62.1.trans (hv b hb hb8)) ?_
    refine rw_istore F dX1_changed_65 (by decide) ?_
    refine rw_iconst (v := nI 0) F dX1_changed_67 (by decide) ?_
    refine rw_istore F dX1_changed_68 (by decide) ?_
    refine kY_chg_in F (S := hist a) (T := hist b) (q := j) (z := rt_sum (fun q => rt_sum (fun g => sp_x (rt_m (hist a) g q) (rt_m (hist b) g q)) 18) j) ?_ 18 0 (by omega)
    refine rw_iinc1 F dX1_changed_100 rfl (by decide) ?_
    refine rw_goto (tgt := 42) F dX1_changed_103 (by decide) ?_
    exact ih (j + 1) u62 _ _ _ (by omega) h62.2
set_option maxHeartbeats 4000000 in
set_option maxRecDepth 100000 in
theorem cY_changed {hist : Nat → rt_S} {L : Nat} {st : rt_S} (hI : ry_I hist L st) (a b : Int32) : rw_Mi l D (ry_t dA) (ry_w dA h0 ad) yX1_changed cX1_changed 8 (some .int) rr_M_changed h0 [.int a, .int b] st (fun r u => r = sp_changed hist L a b ∧ ry_I hist L u) := by
  refine rw_Mi.of (own := RX1) (lv := [some (.ref h0), some (.int a), some (.int b), none, none, none, none, none]) (by decide) rfl 5 (Nat.le_of_ble_eq_true rfl) rfl rfl (fun p e s m below meth c A F hr => ?_)
  have hL := hI.1
  refine rw_aload_n F dX1_changed_0 rfl ?_
  refine rw_iload_n F dX1_changed_1 rfl ?_
  refine rw_calli F (cY_exists hL hI.2.1 a) (cwV 1 F.2.2.2.2.1 (lw_V q216 q218 qs14 q21 q219) rfl rfl rfl dd_M_exists ⟨Nat.le_of_ble_eq_true rfl, Nat.le_of_ble_eq_true rfl⟩) rfl rfl rfl rfl rfl (Nat.le_of_ble_eq_true rfl) dX1_changed_2 ⟨Nat.zero_le _, Nat.zero_le _⟩ (fun r2 u2 h2 => ?_)
  obtain ⟨rfl, rfl⟩ := h2
  refine rw_if_eq (tgt := 16) F dX1_changed_5 (by decide) (fun c5 => ?_) (fun c5 => ?_)
  · refine rw_iconst (v := (-1)) F dX1_changed_16 (by decide) ?_
    exact rw_ret F hr rfl ⟨(sp_q_bad (by rw [rt_b_0.mp c5]; rfl)).symm, hI⟩ dX1_changed_17
  refine rw_aload_n F dX1_changed_8 rfl ?_
  refine rw_iload_n F dX1_changed_9 rfl ?_
  refine rw_calli F (cY_exists hL hI.2.1 b) (cwV 1 F.2.2.2.2.1 (lw_V q216 q218 qs14 q21 q219) rfl rfl rfl dd_M_exists ⟨Nat.le_of_ble_eq_true rfl, Nat.le_of_ble_eq_true rfl⟩) rfl rfl rfl rfl rfl (Nat.le_of_ble_eq_true rfl) dX1_changed_10 ⟨Nat.zero_le _, Nat.zero_le _⟩ (fun r10 u10 h10 => ?_)
  obtain ⟨rfl, rfl⟩ := h10
  refine rw_if_ne (tgt := 18) F dX1_changed_13 (by decide) (fun c13 => ?_) (fun c13 => ?_)
  · have v2 := rt_b_n0 c5
    have v3 := rt_b_n0 c13
    have hok : (rt_lt a (L + 1) && rt_lt b (L + 1)) = true := by rw [v2, v3]; rfl
    obtain ⟨a, ha, rfl⟩ := rt_lt_of v2 (by omega)
    obtain ⟨b, hb, rfl⟩ := rt_lt_of v3 (by omega)
    refine rw_aload_n F dX1_changed_18 rfl ?_
    refine rw_iload_n F dX1_changed_19 rfl ?_
    refine rw_calli F (cY_isKept hL hI.2.1 (nI a)) (cwV 1 F.2.2.2.2.1 (lw_V q220 q222 qs15 q21 q223) rfl rfl rfl dd_M_isKept ⟨Nat.le_of_ble_eq_true rfl, Nat.le_of_ble_eq_true rfl⟩) rfl rfl rfl rfl rfl (Nat.le_of_ble_eq_true rfl) dX1_changed_20 ⟨Nat.zero_le _, Nat.zero_le _⟩ (fun r20 u20 h20 => ?_)
    obtain ⟨rfl, rfl⟩ := h20
    refine rw_as (congrArg rt_b (rt_kp_nI hL ha)) ?_
    refine rw_if_eq (tgt := 34) F dX1_changed_23 (by decide) (fun c23 => ?_) (fun c23 => ?_)
    · have hka := of_decide_eq_false (rt_b_0.mp c23)
      refine rw_bipush (v := (-2)) F dX1_changed_34 (by decide) ?_
      exact rw_ret F hr rfl ⟨(sp_q_gone hok (by omega) hka).symm, hI⟩ dX1_changed_36
    have hka := of_decide_eq_true (rt_b_n0 c23)
    refine rw_aload_n F dX1_changed_26 rfl ?_
    refine rw_iload_n F dX1_changed_27 rfl ?_
    refine rw_calli F (cY_isKept hL hI.2.1 (nI b)) (cwV 1 F.2.2.2.2.1 (lw_V q220 q222 qs15 q21 q223) rfl rfl rfl dd_M_isKept ⟨Nat.le_of_ble_eq_true rfl, Nat.le_of_ble_eq_true rfl⟩) rfl rfl rfl rfl rfl (Nat.le_of_ble_eq_true rfl) dX1_changed_28 ⟨Nat.zero_le _, Nat.zero_le _⟩ (fun r28 u28 h28 => ?_)
    obtain ⟨rfl, rfl⟩ := h28
    refine rw_as (congrArg rt_b (rt_kp_nI hL hb)) ?_
    refine rw_if_ne (tgt := 37) F dX1_changed_31 (by decide) (fun c31 => ?_) (fun c31 => ?_)
    · have hkb := of_decide_eq_true (rt_b_n0 c31)
      refine rw_iconst (v := nI 0) F dX1_changed_37 (by decide) ?_
      refine rw_istore_n F dX1_changed_38 (by decide) ?_
      refine rw_iconst (v := nI 0) F dX1_changed_39 (by decide) ?_
      refine rw_istore F dX1_changed_40 (by decide) ?_
      refine kY_chg_out F (by omega) hka (by omega) hkb (fun u5 v5 v6 v7 hI5 => ?_) 6 0 st none none none (by omega) hI
      refine rw_iload_n F dX1_changed_106 rfl ?_
      refine rw_ret F hr rfl ⟨?_, hI5⟩ dX1_changed_107
      unfold sp_changed
      rw [sp_q_ok hok (by omega) hka, sp_q_ok rfl (by omega) hkb]
    · have hkb := of_decide_eq_false (rt_b_0.mp c31)
      refine rw_bipush (v := (-2)) F dX1_changed_34 (by decide) ?_
      refine rw_ret F hr rfl ⟨?_, hI⟩ dX1_changed_36
      unfold sp_changed
      rw [sp_q_ok hok (by omega) hka, sp_q_gone rfl (by omega) hkb]
  · refine rw_iconst (v := (-1)) F dX1_changed_16 (by decide) ?_
    exact rw_ret F hr rfl ⟨(sp_q_bad (by rw [rt_b_0.mp c13, Bool.and_false])).symm, hI⟩ dX1_changed_17
end YQ
end
section
/-! RelationTuplesModel: since -/
set_option maxRecDepth 100000
def rt_km : Nat → Int32
  | 0 => -1
  | n + 1 => nI n
theorem rt_km_s : ∀ n, rt_km (n + 1) + Int32.ofInt (-1) = rt_km n
  | 0 => by decide
  | n + 1 => pk_m1 n
theorem rt_lt_sub {L n f : Nat} (hL : L < 1000) (hn : n < 1000) (hf : f < 1000) : nI L - nI n < nI f ↔ L < f + n := by
  rw [Int32.lt_iff_toInt_lt, pk_sub_toInt (by omega) (by omega), nI_toInt (by omega)]
  omega
section YT
variable {p : Program} {l : Launch} {e : Env} {R : Room} {s : State} {m : MethodId} {args : Array Value} {below : List Frame} {meth : Method} {c : Code} {D : va_G} {A : Nat → Prop} {dA : Nat → ClassId} {h0 : Nat} {ad : Nat → Nat} {Q : State → Prop}
set_option maxHeartbeats 4000000 in
set_option maxRecDepth 100000 in
theorem kY_since_loop (F : rw_F p s m args meth c D A (ry_t dA) cX1_since 6 RX1) {hist : Nat → rt_S} {L q g f : Nat} {V : Int32} (hq : q < 6) (hg : g < 18) (hf : f ≤ L)
    (hx3 : ∀ (u : rt_S) (v4 v5 : Option Value), ry_I hist L u → V = -3 → rw_W p l e rr_M_since s m args below meth c D A 6 0 0 Q (ry_w dA h0 ad u) [some (.ref h0), some (.int (nI q)), some (.int (nI g)), some (.int (nI f)), v4, v5] 75 [])
    (hxr : ∀ (u : rt_S) (v4 : Option Value) (x : Int32), ry_I hist L u → V = x → rw_W p l e rr_M_since s m args below meth c D A 6 0 0 Q (ry_w dA h0 ad u) [some (.ref h0), some (.int (nI q)), some (.int (nI g)), some (.int (nI f)), v4, some (.int x)] 66 []) :
    ∀ (n : Nat) (u : rt_S) (v5 : Option Value), n ≤ 8 → ry_I hist L u → V = sp_find (fun k => rt_m (hist k) g q) (max f (L + 1 - n)) (L + 1 - max f (L + 1 - n)) → rw_W p l e rr_M_since s m args below meth c D A 6 0 0 Q (ry_w dA h0 ad u) [some (.ref h0), some (.int (nI q)), some (.int (nI g)), some (.int (nI f)), some (.int (rt_km n)), v5] 34 [] := by
  intro n
  induction n with
  | zero =>
    intro u v5 hn hI hV
    rw [show max f (L + 1 - 0) = L + 1 by omega, show L + 1 - (L + 1) = 0 by omega] at hV
    refine rw_iload F dX1_since_34 rfl ?_
    refine rw_if_lt (tgt := 75) F dX1_since_36 (by decide) (fun c36 => ?_) (fun c36 => ?_)
    · exact hx3 u _ v5 hI hV
    · exact absurd (by decide) c36
  | succ n ih =>
    intro u v5 hn hI hV
    have hL := hI.1
    refine rw_iload F dX1_since_34 rfl ?_
    refine rw_as (show _ = nI n from rfl) ?_
    refine rw_if_lt (tgt := 75) F dX1_since_36 (by decide) (fun c36 => ?_) (fun c36 => ?_)
    · exact absurd c36 (nI_pos (by omega))
    refine rw_aload_n F dX1_since_39 rfl ?_
    refine ry_g_latest F dX1_since_40 ?_
    refine rw_as hI.2.1 ?_
    refine rw_iload F dX1_since_43 rfl ?_
    refine rw_as (show _ = nI n from rfl) ?_
    refine rw_isub F dX1_since_45 ?_
    refine rw_istore F dX1_since_46 (by decide) ?_
    refine rw_iload F dX1_since_48 rfl ?_
    refine rw_iload_n F dX1_since_50 rfl ?_
    refine rw_icmp_lt (tgt := 69) F dX1_since_51 (by decide) (fun c51 => ?_) (fun c51 => ?_)
    · have hc := (rt_lt_sub hL (by omega) (by omega)).mp c51
      refine rw_iinc F dX1_since_69 rfl (rt_km_s n) (by decide) ?_
      refine rw_goto (tgt := 34) F dX1_since_72 (by decide) ?_
      refine ih u _ (by omega) hI ?_
      rw [hV, show max f (L + 1 - (n + 1)) = max f (L + 1 - n) by omega]
    · have hc : ¬ L < f + n := fun z => c51 ((rt_lt_sub hL (by omega) (by omega)).mpr z)
      have es : nI L - nI n = nI (L - n) := pk_sub (by omega)
      rw [show max f (L + 1 - (n + 1)) = L - n by omega, show L + 1 - (L - n) = n + 1 by omega, sp_find_s] at hV
      have hv : sp_check hist L (nI L - nI n) (nI q) (nI g) = rt_b (rt_m (hist (L - n)) g q) := by
        unfold sp_check
        rw [es, sp_q_ok (by rw [rt_lt_nI (by omega), rt_lt_nI (by omega), rt_lt_nI (by omega), decide_eq_true hq, decide_eq_true hg, decide_eq_true (by omega)]; rfl) (by omega) (by omega), rt_cl0 (by omega), rt_cl0 (by omega)]
      refine rw_aload_n F dX1_since_54 rfl ?_
      refine rw_iload F dX1_since_55 rfl ?_
      refine rw_iload_n F dX1_since_57 rfl ?_
      refine rw_iload_n F dX1_since_58 rfl ?_
      refine rw_calli F (cY_check hI (nI L - nI n) (nI q) (nI g)) (cwV 3 F.2.2.2.2.1 (lw_V q257 q213 q214 q21 q215) rfl rfl rfl dd_M_check ⟨Nat.le_of_ble_eq_true rfl, Nat.le_of_ble_eq_true rfl⟩) rfl rfl rfl rfl rfl (Nat.le_of_ble_eq_true rfl) dX1_since_59 ⟨Nat.zero_le _, Nat.zero_le _⟩ (fun r59 u59 h59 => ?_)
      refine rw_as (h59.1.trans hv) ?_
      refine rw_iconst (v := nI 1) F dX1_since_62 (by decide) ?_
      refine rw_icmp_ne (tgt := 69) F dX1_since_63 (by decide) (fun c63 => ?_) (fun c63 => ?_)
      · have hb : ¬ rt_m (hist (L - n)) g q = true := fun z => c63 (rt_b_1.mpr z)
        rw [if_neg hb] at hV
        refine rw_iinc F dX1_since_69 rfl (rt_km_s n) (by decide) ?_
        refine rw_goto (tgt := 34) F dX1_since_72 (by decide) ?_
        refine ih u59 _ (by omega) h59.2 ?_
        rw [hV, show max f (L + 1 - n) = L - n + 1 by omega, show L + 1 - (L - n + 1) = n by omega]
      · rw [if_pos (rt_b_1.mp c63)] at hV
        exact hxr u59 _ (nI L - nI n) h59.2 (hV.trans es.symm)
set_option maxHeartbeats 4000000 in
set_option maxRecDepth 100000 in
theorem cY_since {hist : Nat → rt_S} {L : Nat} {st : rt_S} (hI : ry_I hist L st) (q g f : Int32) : rw_Mi l D (ry_t dA) (ry_w dA h0 ad) yX1_since cX1_since 6 (some .int) rr_M_since h0 [.int q, .int g, .int f] st (fun r u => r = sp_since hist L q g f ∧ ry_I hist L u) := by
  refine rw_Mi.of (own := RX1) (lv := [some (.ref h0), some (.int q), some (.int g), some (.int f), none, none]) (by decide) rfl 2 (Nat.le_of_ble_eq_true rfl) rfl rfl (fun p e s m below meth c A F hr => ?_)
  have hL := hI.1
  refine rw_aload_n F dX1_since_0 rfl ?_
  refine rw_iload_n F dX1_since_1 rfl ?_
  refine rw_calli F (cY_isPerson q) (cwV 1 F.2.2.2.2.1 (lw_V q184 q186 qs10 q21 q187) rfl rfl rfl dd_M_isPerson ⟨Nat.le_of_ble_eq_true rfl, Nat.le_of_ble_eq_true rfl⟩) rfl rfl rfl rfl rfl (Nat.le_of_ble_eq_true rfl) dX1_since_2 ⟨Nat.zero_le _, Nat.zero_le _⟩ (fun r2 u2 h2 => ?_)
  obtain ⟨rfl, rfl⟩ := h2
  refine rw_if_eq (tgt := 28) F dX1_since_5 (by decide) (fun c5 => ?_) (fun c5 => ?_)
  · refine rw_iconst (v := (-1)) F dX1_since_28 (by decide) ?_
    refine rw_ret F hr rfl ⟨?_, hI⟩ dX1_since_29
    unfold sp_since
    rw [if_neg (by rw [rt_b_0.mp c5]; simp)]
  refine rw_aload_n F dX1_since_8 rfl ?_
  refine rw_iload_n F dX1_since_9 rfl ?_
  refine rw_calli F (cY_isGroup g) (cwV 1 F.2.2.2.2.1 (lw_V q188 q190 qs11 q21 q191) rfl rfl rfl dd_M_isGroup ⟨Nat.le_of_ble_eq_true rfl, Nat.le_of_ble_eq_true rfl⟩) rfl rfl rfl rfl rfl (Nat.le_of_ble_eq_true rfl) dX1_since_10 ⟨Nat.zero_le _, Nat.zero_le _⟩ (fun r10 u10 h10 => ?_)
  obtain ⟨rfl, rfl⟩ := h10
  refine rw_if_eq (tgt := 28) F dX1_since_13 (by decide) (fun c13 => ?_) (fun c13 => ?_)
  · refine rw_iconst (v := (-1)) F dX1_since_28 (by decide) ?_
    refine rw_ret F hr rfl ⟨?_, hI⟩ dX1_since_29
    unfold sp_since
    rw [if_neg (by rw [rt_b_0.mp c13, Bool.and_false]; simp)]
  refine rw_iload_n F dX1_since_16 rfl ?_
  refine rw_if_lt (tgt := 28) F dX1_since_17 (by decide) (fun c17 => ?_) (fun c17 => ?_)
  · refine rw_iconst (v := (-1)) F dX1_since_28 (by decide) ?_
    refine rw_ret F hr rfl ⟨?_, hI⟩ dX1_since_29
    unfold sp_since
    rw [if_neg (by rw [rt_lt_neg c17, Bool.and_false]; decide)]
  refine rw_iload_n F dX1_since_20 rfl ?_
  refine rw_aload_n F dX1_since_21 rfl ?_
  refine ry_g_latest F dX1_since_22 ?_
  refine rw_as hI.2.1 ?_
  refine rw_icmp_le (tgt := 30) F dX1_since_25 (by decide) (fun c25 => ?_) (fun c25 => ?_)
  · have v1 := rt_b_n0 c5
    have v2 := rt_b_n0 c13
    have v3 : rt_lt f (L + 1) = true := rt_lt_yes2 c17 (fun z => by
      have h1 := Int32.lt_iff_toInt_lt.mp z
      have h2 := Int32.le_iff_toInt_le.mp c25
      omega) (by omega)
    have hok : (rt_lt q 6 && rt_lt g 18 && rt_lt f (L + 1)) = true := by rw [v1, v2, v3]; rfl
    obtain ⟨q, hq, rfl⟩ := rt_lt_of v1 (by omega)
    obtain ⟨g, hg, rfl⟩ := rt_lt_of v2 (by omega)
    obtain ⟨f, hf, rfl⟩ := rt_lt_of v3 (by omega)
    have hV : sp_since hist L (nI q) (nI g) (nI f) = sp_find (fun k => rt_m (hist k) g q) (max f (L + 1 - 8)) (L + 1 - max f (L + 1 - 8)) := by
      unfold sp_since
      rw [if_pos hok, rt_cl0 (by omega), rt_cl0 (by omega), rt_cl0 (by omega), show L + 1 - 8 = L - 7 by omega]
    refine rw_bipush (v := nI 7) F dX1_since_30 (by decide) ?_
    refine rw_istore F dX1_since_32 (by decide) ?_
    refine kY_since_loop F (V := sp_since hist L (nI q) (nI g) (nI f)) hq hg (by omega) (fun u v4 v5 hI2 h3 => ?_) (fun u v4 x hI2 h3 => ?_) 8 st none (by omega) hI hV
    · refine rw_bipush (v := (-3)) F dX1_since_75 (by decide) ?_
      exact rw_ret F hr rfl ⟨h3.symm, hI2⟩ dX1_since_77
    · refine rw_iload F dX1_since_66 rfl ?_
      exact rw_ret F hr rfl ⟨h3.symm, hI2⟩ dX1_since_68
  · refine rw_iconst (v := (-1)) F dX1_since_28 (by decide) ?_
    refine rw_ret F hr rfl ⟨?_, hI⟩ dX1_since_29
    unfold sp_since
    rw [if_neg (by rw [rt_lt_no2 (x := f) (a := L) (Int32.lt_iff_toInt_lt.mpr (by
      have h2 := fun z => c25 (Int32.le_iff_toInt_le.mpr z)
      exact Int.not_le.mp h2)) (by omega) (by omega), Bool.and_false]; decide)]
end YT
end
section
/-! the constructors: every array new and empty -/
set_option maxRecDepth 100000
abbrev rx_o : List Value := [.null, .null, .null, .int 0, .int 0, .null, .null, .null, .null, .null, .null, .int 0, .null, .null]
abbrev rr_X_new : Room := { frames := 1, cells := 11, slots := 133, locals := 12 }
def rx_nB (D : va_G) (h0 : Nat) (A : Nat → Prop) (u : (Nat → Nat) × (Nat → ClassId)) (t : State) : Prop := va_P D vwCl (rx_w u.2 h0 u.1 (fun _ _ => 0)) t.heap ∧ va_K D vwCl (rx_t u.2) t ∧ va_D A (rx_w u.2 h0 u.1 (fun _ _ => 0))
set_option maxHeartbeats 4000000 in
set_option maxRecDepth 100000 in
theorem cX_init (l : Launch) (D : va_G) (h0 sz : Nat) : Met l yX0_init (ws_ yX0_init cX0_init 1 none) rr_X_new (va_Pc [.ref h0] (rw_Pre D [] [(h0, .inr (0, rx_o))] sz)) (va_Qv (fun _ : (Nat → Nat) × (Nat → ClassId) => True) (rx_nB D h0 (va_A [(h0, .inr (0, rx_o))] sz)) (va_A [(h0, .inr (0, rx_o))] sz)) 11 133 (va_A [(h0, .inr (0, rx_o))] sz) := by
  refine Met.ofW (cc := cX0_init) (maxL := 1) (ret := none) (by decide) rfl ?_
  intro p e s m args below meth c s₁ B hml hv
  obtain ⟨rfl, hsz, hP, hK, hD0⟩ := hv
  have hx := B.exec
  have hb := B.bytes
  have hr := B.returns
  have hts := atoms_spec (ws := ws_ yX0_init cX0_init 1 none) B.pre
  have hts : ∀ w ∈ lw_all, w.before _ s = true := fun w h => hts w (List.mem_cons_of_mem _ h)
  have hown : s.vm.findClass RX0 = some m.cls := findClass_of_methodNamed B.named
  have hlocks := B.notSynchronized
  have hin : meth.name = "<init>" := (name_of_methodNamed B.named B.method).1
  subst hsz
  have hD := hD0.self (sz := s.heap.size)
  generalize hAe : va_A [(h0, .inr (0, rx_o))] s.heap.size = A at hD ⊢
  have hA : ∀ q : Nat, s.heap.size ≤ q → A q := fun q h => by rw [← hAe]; exact Or.inr h
  have hS : va_S A s.heap s.heap [] := va_S.rf
  have hl := lv_entry ([.ref h0]) (n := 1) (Nat.le_of_ble_eq_true rfl)
  rw [lg_entry_eq]
  generalize (lg_sl ([.ref h0]) ++ List.replicate (1 - (lg_sl ([.ref h0])).length) Slot.unset).toArray = ls at hl ⊢
  have hl : lv_has ls 1 [(0, .ref h0)] := hl
  refine lv_aload_n hx hb dX0_init_0 rfl (lv_at hl 0 rfl) ?_
  refine W.objInit hx hb hown (hts _ q27) (hts _ q28) (hts _ q29) rfl (by rw [hml]; exact hl.1) rfl dX0_init_1 (Nat.le_of_ble_eq_true rfl) (Nat.le_of_ble_eq_true rfl) ?_
  refine W.eq (g2 := F0 m 4 ls []) rfl ?_
  refine lv_aload_n hx hb dX0_init_4 rfl (lv_at hl 0 rfl) ?_
  refine lv_bipush (v := 18) hx hb dX0_init_5 (by decide) ?_
  refine va_newa (atype := .int) (ty := .int) hx hb (hts _ q73) rfl hK hP hD hS hA (n := 18) (N' := 18) (a0 := (18, .inl (fun _ => 0))) (fun _ => rfl) (by decide) (by decide) (by decide) (Nat.le_of_ble_eq_true rfl) (Nat.le_of_ble_eq_true rfl) dX0_init_7 (fun q1000 c1000 H hK hP hD hS => ?_)
  have hP : va_P D vwCl [(h0, .inr (0, [.null, .null, .null, .int 0, .int 0, .null, .null, .null, .null, .null, .null, .int 0, .null, .null])), (q1000, .inl (c1000, 18, .inl (fun _ => 0)))] H := hP
  have hD : va_D A [(h0, .inr (0, [.null, .null, .null, .int 0, .int 0, .null, .null, .null, .null, .null, .null, .int 0, .null, .null])), (q1000, .inl (c1000, 18, .inl (fun _ => 0)))] := hD
  have hK : va_K D vwCl [(c1000, .int)] s := hK
  refine va_putF (D := D) (ci := 0) (v := .ref q1000) (ty := .array .int) (C := RX0) (T := TX0) (N := 14) hx hb hts in_X0 tyX0 tyX0_ok nmX0 hown hK hP hD hS 0 rfl rfl 0 (by decide) (hts _ q30) (fun _ h9 => h9) rfl hin rfl (by decide +kernel) rfl rfl (Nat.le_of_ble_eq_true rfl) dX0_init_9 (fun H locs hP hD hS => ?_)
  have hP : va_P D vwCl [(h0, .inr (0, [.ref q1000, .null, .null, .int 0, .int 0, .null, .null, .null, .null, .null, .null, .int 0, .null, .null])), (q1000, .inl (c1000, 18, .inl (fun _ => 0)))] H := hP
  have hD : va_D A [(h0, .inr (0, [.ref q1000, .null, .null, .int 0, .int 0, .null, .null, .null, .null, .null, .null, .int 0, .null, .null])), (q1000, .inl (c1000, 18, .inl (fun _ => 0)))] := hD
  refine lv_aload_n hx hb dX0_init_12 rfl (lv_at hl 0 rfl) ?_
  refine lv_bipush (v := 18) hx hb dX0_init_13 (by decide) ?_
  refine va_newa (atype := .int) (ty := .int) hx hb (hts _ q73) rfl hK hP hD hS hA (n := 18) (N' := 18) (a0 := (18, .inl (fun _ => 0))) (fun _ => rfl) (by decide) (by decide) (by decide) (Nat.le_of_ble_eq_true rfl) (Nat.le_of_ble_eq_true rfl) dX0_init_15 (fun q1001 c1001 H hK hP hD hS => ?_)
  have hP : va_P D vwCl [(h0, .inr (0, [.ref q1000, .null, .null, .int 0, .int 0, .null, .null, .null, .null, .null, .null, .int 0, .null, .null])), (q1000, .inl (c1000, 18, .inl (fun _ => 0))), (q1001, .inl (c1001, 18, .inl (fun _ => 0)))] H := hP
  have hD : va_D A [(h0, .inr (0, [.ref q1000, .null, .null, .int 0, .int 0, .null, .null, .null, .null, .null, .null, .int 0, .null, .null])), (q1000, .inl (c1000, 18, .inl (fun _ => 0))), (q1001, .inl (c1001, 18, .inl (fun _ => 0)))] := hD
  have hK : va_K D vwCl [(c1000, .int), (c1001, .int)] s := hK
  refine va_putF (D := D) (ci := 0) (v := .ref q1001) (ty := .array .int) (C := RX0) (T := TX0) (N := 14) hx hb hts in_X0 tyX0 tyX0_ok nmX0 hown hK hP hD hS 0 rfl rfl 1 (by decide) (hts _ q31) (fun _ h9 => h9) rfl hin rfl (by decide +kernel) rfl rfl (Nat.le_of_ble_eq_true rfl) dX0_init_17 (fun H locs hP hD hS => ?_)
  have hP : va_P D vwCl [(h0, .inr (0, [.ref q1000, .ref q1001, .null, .int 0, .int 0, .null, .null, .null, .null, .null, .null, .int 0, .null, .null])), (q1000, .inl (c1000, 18, .inl (fun _ => 0))), (q1001, .inl (c1001, 18, .inl (fun _ => 0)))] H := hP
  have hD : va_D A [(h0, .inr (0, [.ref q1000, .ref q1001, .null, .int 0, .int 0, .null, .null, .null, .null, .null, .null, .int 0, .null, .null])), (q1000, .inl (c1000, 18, .inl (fun _ => 0))), (q1001, .inl (c1001, 18, .inl (fun _ => 0)))] := hD
  refine lv_aload_n hx hb dX0_init_20 rfl (lv_at hl 0 rfl) ?_
  refine lv_iconst (v := 3) hx hb dX0_init_21 (by decide) ?_
  refine va_newa (atype := .int) (ty := .int) hx hb (hts _ q73) rfl hK hP hD hS hA (n := 3) (N' := 3) (a0 := (3, .inl (fun _ => 0))) (fun _ => rfl) (by decide) (by decide) (by decide) (Nat.le_of_ble_eq_true rfl) (Nat.le_of_ble_eq_true rfl) dX0_init_22 (fun q1002 c1002 H hK hP hD hS => ?_)
  have hP : va_P D vwCl [(h0, .inr (0, [.ref q1000, .ref q1001, .null, .int 0, .int 0, .null, .null, .null, .null, .null, .null, .int 0, .null, .null])), (q1000, .inl (c1000, 18, .inl (fun _ => 0))), (q1001, .inl (c1001, 18, .inl (fun _ => 0))), (q1002, .inl (c1002, 3, .inl (fun _ => 0)))] H := hP
  have hD : va_D A [(h0, .inr (0, [.ref q1000, .ref q1001, .null, .int 0, .int 0, .null, .null, .null, .null, .null, .null, .int 0, .null, .null])), (q1000, .inl (c1000, 18, .inl (fun _ => 0))), (q1001, .inl (c1001, 18, .inl (fun _ => 0))), (q1002, .inl (c1002, 3, .inl (fun _ => 0)))] := hD
  have hK : va_K D vwCl [(c1000, .int), (c1001, .int), (c1002, .int)] s := hK
  refine va_putF (D := D) (ci := 0) (v := .ref q1002) (ty := .array .int) (C := RX0) (T := TX0) (N := 14) hx hb hts in_X0 tyX0 tyX0_ok nmX0 hown hK hP hD hS 0 rfl rfl 2 (by decide) (hts _ q32) (fun _ h9 => h9) rfl hin rfl (by decide +kernel) rfl rfl (Nat.le_of_ble_eq_true rfl) dX0_init_24 (fun H locs hP hD hS => ?_)
  have hP : va_P D vwCl [(h0, .inr (0, [.ref q1000, .ref q1001, .ref q1002, .int 0, .int 0, .null, .null, .null, .null, .null, .null, .int 0, .null, .null])), (q1000, .inl (c1000, 18, .inl (fun _ => 0))), (q1001, .inl (c1001, 18, .inl (fun _ => 0))), (q1002, .inl (c1002, 3, .inl (fun _ => 0)))] H := hP
  have hD : va_D A [(h0, .inr (0, [.ref q1000, .ref q1001, .ref q1002, .int 0, .int 0, .null, .null, .null, .null, .null, .null, .int 0, .null, .null])), (q1000, .inl (c1000, 18, .inl (fun _ => 0))), (q1001, .inl (c1001, 18, .inl (fun _ => 0))), (q1002, .inl (c1002, 3, .inl (fun _ => 0)))] := hD
  refine lv_aload_n hx hb dX0_init_27 rfl (lv_at hl 0 rfl) ?_
  refine lv_bipush (v := 8) hx hb dX0_init_28 (by decide) ?_
  refine va_newa (atype := .byte) (ty := .byte) hx hb (hts _ q74) rfl hK hP hD hS hA (n := 8) (N' := 8) (a0 := (8, .inl (fun _ => 0))) (fun _ => rfl) (by decide) (by decide) (by decide) (Nat.le_of_ble_eq_true rfl) (Nat.le_of_ble_eq_true rfl) dX0_init_30 (fun q1005 c1005 H hK hP hD hS => ?_)
  have hP : va_P D vwCl [(h0, .inr (0, [.ref q1000, .ref q1001, .ref q1002, .int 0, .int 0, .null, .null, .null, .null, .null, .null, .int 0, .null, .null])), (q1000, .inl (c1000, 18, .inl (fun _ => 0))), (q1001, .inl (c1001, 18, .inl (fun _ => 0))), (q1002, .inl (c1002, 3, .inl (fun _ => 0))), (q1005, .inl (c1005, 8, .inl (fun _ => 0)))] H := hP
  have hD : va_D A [(h0, .inr (0, [.ref q1000, .ref q1001, .ref q1002, .int 0, .int 0, .null, .null, .null, .null, .null, .null, .int 0, .null, .null])), (q1000, .inl (c1000, 18, .inl (fun _ => 0))), (q1001, .inl (c1001, 18, .inl (fun _ => 0))), (q1002, .inl (c1002, 3, .inl (fun _ => 0))), (q1005, .inl (c1005, 8, .inl (fun _ => 0)))] := hD
  have hK : va_K D vwCl [(c1000, .int), (c1001, .int), (c1002, .int), (c1005, .byte)] s := hK
  refine va_putF (D := D) (ci := 0) (v := .ref q1005) (ty := .array .byte) (C := RX0) (T := TX0) (N := 14) hx hb hts in_X0 tyX0 tyX0_ok nmX0 hown hK hP hD hS 0 rfl rfl 5 (by decide) (hts _ q35) (fun _ h9 => h9) rfl hin rfl (by decide +kernel) rfl rfl (Nat.le_of_ble_eq_true rfl) dX0_init_32 (fun H locs hP hD hS => ?_)
  have hP : va_P D vwCl [(h0, .inr (0, [.ref q1000, .ref q1001, .ref q1002, .int 0, .int 0, .ref q1005, .null, .null, .null, .null, .null, .int 0, .null, .null])), (q1000, .inl (c1000, 18, .inl (fun _ => 0))), (q1001, .inl (c1001, 18, .inl (fun _ => 0))), (q1002, .inl (c1002, 3, .inl (fun _ => 0))), (q1005, .inl (c1005, 8, .inl (fun _ => 0)))] H := hP
  have hD : va_D A [(h0, .inr (0, [.ref q1000, .ref q1001, .ref q1002, .int 0, .int 0, .ref q1005, .null, .null, .null, .null, .null, .int 0, .null, .null])), (q1000, .inl (c1000, 18, .inl (fun _ => 0))), (q1001, .inl (c1001, 18, .inl (fun _ => 0))), (q1002, .inl (c1002, 3, .inl (fun _ => 0))), (q1005, .inl (c1005, 8, .inl (fun _ => 0)))] := hD
  refine lv_aload_n hx hb dX0_init_35 rfl (lv_at hl 0 rfl) ?_
  refine lv_bipush (v := 8) hx hb dX0_init_36 (by decide) ?_
  refine va_newa (atype := .byte) (ty := .byte) hx hb (hts _ q74) rfl hK hP hD hS hA (n := 8) (N' := 8) (a0 := (8, .inl (fun _ => 0))) (fun _ => rfl) (by decide) (by decide) (by decide) (Nat.le_of_ble_eq_true rfl) (Nat.le_of_ble_eq_true rfl) dX0_init_38 (fun q1006 c1006 H hK hP hD hS => ?_)
  have hP : va_P D vwCl [(h0, .inr (0, [.ref q1000, .ref q1001, .ref q1002, .int 0, .int 0, .ref q1005, .null, .null, .null, .null, .null, .int 0, .null, .null])), (q1000, .inl (c1000, 18, .inl (fun _ => 0))), (q1001, .inl (c1001, 18, .inl (fun _ => 0))), (q1002, .inl (c1002, 3, .inl (fun _ => 0))), (q1005, .inl (c1005, 8, .inl (fun _ => 0))), (q1006, .inl (c1006, 8, .inl (fun _ => 0)))] H := hP
  have hD : va_D A [(h0, .inr (0, [.ref q1000, .ref q1001, .ref q1002, .int 0, .int 0, .ref q1005, .null, .null, .null, .null, .null, .int 0, .null, .null])), (q1000, .inl (c1000, 18, .inl (fun _ => 0))), (q1001, .inl (c1001, 18, .inl (fun _ => 0))), (q1002, .inl (c1002, 3, .inl (fun _ => 0))), (q1005, .inl (c1005, 8, .inl (fun _ => 0))), (q1006, .inl (c1006, 8, .inl (fun _ => 0)))] := hD
  have hK : va_K D vwCl [(c1000, .int), (c1001, .int), (c1002, .int), (c1005, .byte), (c1006, .byte)] s := hK
  refine va_putF (D := D) (ci := 0) (v := .ref q1006) (ty := .array .byte) (C := RX0) (T := TX0) (N := 14) hx hb hts in_X0 tyX0 tyX0_ok nmX0 hown hK hP hD hS 0 rfl rfl 6 (by decide) (hts _ q36) (fun _ h9 => h9) rfl hin rfl (by decide +kernel) rfl rfl (Nat.le_of_ble_eq_true rfl) dX0_init_40 (fun H locs hP hD hS => ?_)
  have hP : va_P D vwCl [(h0, .inr (0, [.ref q1000, .ref q1001, .ref q1002, .int 0, .int 0, .ref q1005, .ref q1006, .null, .null, .null, .null, .int 0, .null, .null])), (q1000, .inl (c1000, 18, .inl (fun _ => 0))), (q1001, .inl (c1001, 18, .inl (fun _ => 0))), (q1002, .inl (c1002, 3, .inl (fun _ => 0))), (q1005, .inl (c1005, 8, .inl (fun _ => 0))), (q1006, .inl (c1006, 8, .inl (fun _ => 0)))] H := hP
  have hD : va_D A [(h0, .inr (0, [.ref q1000, .ref q1001, .ref q1002, .int 0, .int 0, .ref q1005, .ref q1006, .null, .null, .null, .null, .int 0, .null, .null])), (q1000, .inl (c1000, 18, .inl (fun _ => 0))), (q1001, .inl (c1001, 18, .inl (fun _ => 0))), (q1002, .inl (c1002, 3, .inl (fun _ => 0))), (q1005, .inl (c1005, 8, .inl (fun _ => 0))), (q1006, .inl (c1006, 8, .inl (fun _ => 0)))] := hD
  refine lv_aload_n hx hb dX0_init_43 rfl (lv_at hl 0 rfl) ?_
  refine lv_bipush (v := 8) hx hb dX0_init_44 (by decide) ?_
  refine va_newa (atype := .byte) (ty := .byte) hx hb (hts _ q74) rfl hK hP hD hS hA (n := 8) (N' := 8) (a0 := (8, .inl (fun _ => 0))) (fun _ => rfl) (by decide) (by decide) (by decide) (Nat.le_of_ble_eq_true rfl) (Nat.le_of_ble_eq_true rfl) dX0_init_46 (fun q1007 c1007 H hK hP hD hS => ?_)
  have hP : va_P D vwCl [(h0, .inr (0, [.ref q1000, .ref q1001, .ref q1002, .int 0, .int 0, .ref q1005, .ref q1006, .null, .null, .null, .null, .int 0, .null, .null])), (q1000, .inl (c1000, 18, .inl (fun _ => 0))), (q1001, .inl (c1001, 18, .inl (fun _ => 0))), (q1002, .inl (c1002, 3, .inl (fun _ => 0))), (q1005, .inl (c1005, 8, .inl (fun _ => 0))), (q1006, .inl (c1006, 8, .inl (fun _ => 0))), (q1007, .inl (c1007, 8, .inl (fun _ => 0)))] H := hP
  have hD : va_D A [(h0, .inr (0, [.ref q1000, .ref q1001, .ref q1002, .int 0, .int 0, .ref q1005, .ref q1006, .null, .null, .null, .null, .int 0, .null, .null])), (q1000, .inl (c1000, 18, .inl (fun _ => 0))), (q1001, .inl (c1001, 18, .inl (fun _ => 0))), (q1002, .inl (c1002, 3, .inl (fun _ => 0))), (q1005, .inl (c1005, 8, .inl (fun _ => 0))), (q1006, .inl (c1006, 8, .inl (fun _ => 0))), (q1007, .inl (c1007, 8, .inl (fun _ => 0)))] := hD
  have hK : va_K D vwCl [(c1000, .int), (c1001, .int), (c1002, .int), (c1005, .byte), (c1006, .byte), (c1007, .byte)] s := hK
  refine va_putF (D := D) (ci := 0) (v := .ref q1007) (ty := .array .byte) (C := RX0) (T := TX0) (N := 14) hx hb hts in_X0 tyX0 tyX0_ok nmX0 hown hK hP hD hS 0 rfl rfl 7 (by decide) (hts _ q37) (fun _ h9 => h9) rfl hin rfl (by decide +kernel) rfl rfl (Nat.le_of_ble_eq_true rfl) dX0_init_48 (fun H locs hP hD hS => ?_)
  have hP : va_P D vwCl [(h0, .inr (0, [.ref q1000, .ref q1001, .ref q1002, .int 0, .int 0, .ref q1005, .ref q1006, .ref q1007, .null, .null, .null, .int 0, .null, .null])), (q1000, .inl (c1000, 18, .inl (fun _ => 0))), (q1001, .inl (c1001, 18, .inl (fun _ => 0))), (q1002, .inl (c1002, 3, .inl (fun _ => 0))), (q1005, .inl (c1005, 8, .inl (fun _ => 0))), (q1006, .inl (c1006, 8, .inl (fun _ => 0))), (q1007, .inl (c1007, 8, .inl (fun _ => 0)))] H := hP
  have hD : va_D A [(h0, .inr (0, [.ref q1000, .ref q1001, .ref q1002, .int 0, .int 0, .ref q1005, .ref q1006, .ref q1007, .null, .null, .null, .int 0, .null, .null])), (q1000, .inl (c1000, 18, .inl (fun _ => 0))), (q1001, .inl (c1001, 18, .inl (fun _ => 0))), (q1002, .inl (c1002, 3, .inl (fun _ => 0))), (q1005, .inl (c1005, 8, .inl (fun _ => 0))), (q1006, .inl (c1006, 8, .inl (fun _ => 0))), (q1007, .inl (c1007, 8, .inl (fun _ => 0)))] := hD
  refine lv_aload_n hx hb dX0_init_51 rfl (lv_at hl 0 rfl) ?_
  refine lv_bipush (v := 8) hx hb dX0_init_52 (by decide) ?_
  refine va_newa (atype := .boolean) (ty := .boolean) hx hb (hts _ q75) rfl hK hP hD hS hA (n := 8) (N' := 8) (a0 := (8, .inl (fun _ => 0))) (fun _ => rfl) (by decide) (by decide) (by decide) (Nat.le_of_ble_eq_true rfl) (Nat.le_of_ble_eq_true rfl) dX0_init_54 (fun q1008 c1008 H hK hP hD hS => ?_)
  have hP : va_P D vwCl [(h0, .inr (0, [.ref q1000, .ref q1001, .ref q1002, .int 0, .int 0, .ref q1005, .ref q1006, .ref q1007, .null, .null, .null, .int 0, .null, .null])), (q1000, .inl (c1000, 18, .inl (fun _ => 0))), (q1001, .inl (c1001, 18, .inl (fun _ => 0))), (q1002, .inl (c1002, 3, .inl (fun _ => 0))), (q1005, .inl (c1005, 8, .inl (fun _ => 0))), (q1006, .inl (c1006, 8, .inl (fun _ => 0))), (q1007, .inl (c1007, 8, .inl (fun _ => 0))), (q1008, .inl (c1008, 8, .inl (fun _ => 0)))] H := hP
  have hD : va_D A [(h0, .inr (0, [.ref q1000, .ref q1001, .ref q1002, .int 0, .int 0, .ref q1005, .ref q1006, .ref q1007, .null, .null, .null, .int 0, .null, .null])), (q1000, .inl (c1000, 18, .inl (fun _ => 0))), (q1001, .inl (c1001, 18, .inl (fun _ => 0))), (q1002, .inl (c1002, 3, .inl (fun _ => 0))), (q1005, .inl (c1005, 8, .inl (fun _ => 0))), (q1006, .inl (c1006, 8, .inl (fun _ => 0))), (q1007, .inl (c1007, 8, .inl (fun _ => 0))), (q1008, .inl (c1008, 8, .inl (fun _ => 0)))] := hD
  have hK : va_K D vwCl [(c1000, .int), (c1001, .int), (c1002, .int), (c1005, .byte), (c1006, .byte), (c1007, .byte), (c1008, .boolean)] s := hK
  refine va_putF (D := D) (ci := 0) (v := .ref q1008) (ty := .array .boolean) (C := RX0) (T := TX0) (N := 14) hx hb hts in_X0 tyX0 tyX0_ok nmX0 hown hK hP hD hS 0 rfl rfl 8 (by decide) (hts _ q38) (fun _ h9 => h9) rfl hin rfl (by decide +kernel) rfl rfl (Nat.le_of_ble_eq_true rfl) dX0_init_56 (fun H locs hP hD hS => ?_)
  have hP : va_P D vwCl [(h0, .inr (0, [.ref q1000, .ref q1001, .ref q1002, .int 0, .int 0, .ref q1005, .ref q1006, .ref q1007, .ref q1008, .null, .null, .int 0, .null, .null])), (q1000, .inl (c1000, 18, .inl (fun _ => 0))), (q1001, .inl (c1001, 18, .inl (fun _ => 0))), (q1002, .inl (c1002, 3, .inl (fun _ => 0))), (q1005, .inl (c1005, 8, .inl (fun _ => 0))), (q1006, .inl (c1006, 8, .inl (fun _ => 0))), (q1007, .inl (c1007, 8, .inl (fun _ => 0))), (q1008, .inl (c1008, 8, .inl (fun _ => 0)))] H := hP
  have hD : va_D A [(h0, .inr (0, [.ref q1000, .ref q1001, .ref q1002, .int 0, .int 0, .ref q1005, .ref q1006, .ref q1007, .ref q1008, .null, .null, .int 0, .null, .null])), (q1000, .inl (c1000, 18, .inl (fun _ => 0))), (q1001, .inl (c1001, 18, .inl (fun _ => 0))), (q1002, .inl (c1002, 3, .inl (fun _ => 0))), (q1005, .inl (c1005, 8, .inl (fun _ => 0))), (q1006, .inl (c1006, 8, .inl (fun _ => 0))), (q1007, .inl (c1007, 8, .inl (fun _ => 0))), (q1008, .inl (c1008, 8, .inl (fun _ => 0)))] := hD
  refine lv_aload_n hx hb dX0_init_59 rfl (lv_at hl 0 rfl) ?_
  refine lv_bipush (v := 8) hx hb dX0_init_60 (by decide) ?_
  refine va_newa (atype := .boolean) (ty := .boolean) hx hb (hts _ q75) rfl hK hP hD hS hA (n := 8) (N' := 8) (a0 := (8, .inl (fun _ => 0))) (fun _ => rfl) (by decide) (by decide) (by decide) (Nat.le_of_ble_eq_true rfl) (Nat.le_of_ble_eq_true rfl) dX0_init_62 (fun q1009 c1009 H hK hP hD hS => ?_)
  have hP : va_P D vwCl [(h0, .inr (0, [.ref q1000, .ref q1001, .ref q1002, .int 0, .int 0, .ref q1005, .ref q1006, .ref q1007, .ref q1008, .null, .null, .int 0, .null, .null])), (q1000, .inl (c1000, 18, .inl (fun _ => 0))), (q1001, .inl (c1001, 18, .inl (fun _ => 0))), (q1002, .inl (c1002, 3, .inl (fun _ => 0))), (q1005, .inl (c1005, 8, .inl (fun _ => 0))), (q1006, .inl (c1006, 8, .inl (fun _ => 0))), (q1007, .inl (c1007, 8, .inl (fun _ => 0))), (q1008, .inl (c1008, 8, .inl (fun _ => 0))), (q1009, .inl (c1009, 8, .inl (fun _ => 0)))] H := hP
  have hD : va_D A [(h0, .inr (0, [.ref q1000, .ref q1001, .ref q1002, .int 0, .int 0, .ref q1005, .ref q1006, .ref q1007, .ref q1008, .null, .null, .int 0, .null, .null])), (q1000, .inl (c1000, 18, .inl (fun _ => 0))), (q1001, .inl (c1001, 18, .inl (fun _ => 0))), (q1002, .inl (c1002, 3, .inl (fun _ => 0))), (q1005, .inl (c1005, 8, .inl (fun _ => 0))), (q1006, .inl (c1006, 8, .inl (fun _ => 0))), (q1007, .inl (c1007, 8, .inl (fun _ => 0))), (q1008, .inl (c1008, 8, .inl (fun _ => 0))), (q1009, .inl (c1009, 8, .inl (fun _ => 0)))] := hD
  have hK : va_K D vwCl [(c1000, .int), (c1001, .int), (c1002, .int), (c1005, .byte), (c1006, .byte), (c1007, .byte), (c1008, .boolean), (c1009, .boolean)] s := hK
  refine va_putF (D := D) (ci := 0) (v := .ref q1009) (ty := .array .boolean) (C := RX0) (T := TX0) (N := 14) hx hb hts in_X0 tyX0 tyX0_ok nmX0 hown hK hP hD hS 0 rfl rfl 9 (by decide) (hts _ q39) (fun _ h9 => h9) rfl hin rfl (by decide +kernel) rfl rfl (Nat.le_of_ble_eq_true rfl) dX0_init_64 (fun H locs hP hD hS => ?_)
  have hP : va_P D vwCl [(h0, .inr (0, [.ref q1000, .ref q1001, .ref q1002, .int 0, .int 0, .ref q1005, .ref q1006, .ref q1007, .ref q1008, .ref q1009, .null, .int 0, .null, .null])), (q1000, .inl (c1000, 18, .inl (fun _ => 0))), (q1001, .inl (c1001, 18, .inl (fun _ => 0))), (q1002, .inl (c1002, 3, .inl (fun _ => 0))), (q1005, .inl (c1005, 8, .inl (fun _ => 0))), (q1006, .inl (c1006, 8, .inl (fun _ => 0))), (q1007, .inl (c1007, 8, .inl (fun _ => 0))), (q1008, .inl (c1008, 8, .inl (fun _ => 0))), (q1009, .inl (c1009, 8, .inl (fun _ => 0)))] H := hP
  have hD : va_D A [(h0, .inr (0, [.ref q1000, .ref q1001, .ref q1002, .int 0, .int 0, .ref q1005, .ref q1006, .ref q1007, .ref q1008, .ref q1009, .null, .int 0, .null, .null])), (q1000, .inl (c1000, 18, .inl (fun _ => 0))), (q1001, .inl (c1001, 18, .inl (fun _ => 0))), (q1002, .inl (c1002, 3, .inl (fun _ => 0))), (q1005, .inl (c1005, 8, .inl (fun _ => 0))), (q1006, .inl (c1006, 8, .inl (fun _ => 0))), (q1007, .inl (c1007, 8, .inl (fun _ => 0))), (q1008, .inl (c1008, 8, .inl (fun _ => 0))), (q1009, .inl (c1009, 8, .inl (fun _ => 0)))] := hD
  refine lv_aload_n hx hb dX0_init_67 rfl (lv_at hl 0 rfl) ?_
  refine lv_bipush (v := 18) hx hb dX0_init_68 (by decide) ?_
  refine va_newa (atype := .int) (ty := .int) hx hb (hts _ q73) rfl hK hP hD hS hA (n := 18) (N' := 18) (a0 := (18, .inl (fun _ => 0))) (fun _ => rfl) (by decide) (by decide) (by decide) (Nat.le_of_ble_eq_true rfl) (Nat.le_of_ble_eq_true rfl) dX0_init_70 (fun q1010 c1010 H hK hP hD hS => ?_)
  have hP : va_P D vwCl [(h0, .inr (0, [.ref q1000, .ref q1001, .ref q1002, .int 0, .int 0, .ref q1005, .ref q1006, .ref q1007, .ref q1008, .ref q1009, .null, .int 0, .null, .null])), (q1000, .inl (c1000, 18, .inl (fun _ => 0))), (q1001, .inl (c1001, 18, .inl (fun _ => 0))), (q1002, .inl (c1002, 3, .inl (fun _ => 0))), (q1005, .inl (c1005, 8, .inl (fun _ => 0))), (q1006, .inl (c1006, 8, .inl (fun _ => 0))), (q1007, .inl (c1007, 8, .inl (fun _ => 0))), (q1008, .inl (c1008, 8, .inl (fun _ => 0))), (q1009, .inl (c1009, 8, .inl (fun _ => 0))), (q1010, .inl (c1010, 18, .inl (fun _ => 0)))] H := hP
  have hD : va_D A [(h0, .inr (0, [.ref q1000, .ref q1001, .ref q1002, .int 0, .int 0, .ref q1005, .ref q1006, .ref q1007, .ref q1008, .ref q1009, .null, .int 0, .null, .null])), (q1000, .inl (c1000, 18, .inl (fun _ => 0))), (q1001, .inl (c1001, 18, .inl (fun _ => 0))), (q1002, .inl (c1002, 3, .inl (fun _ => 0))), (q1005, .inl (c1005, 8, .inl (fun _ => 0))), (q1006, .inl (c1006, 8, .inl (fun _ => 0))), (q1007, .inl (c1007, 8, .inl (fun _ => 0))), (q1008, .inl (c1008, 8, .inl (fun _ => 0))), (q1009, .inl (c1009, 8, .inl (fun _ => 0))), (q1010, .inl (c1010, 18, .inl (fun _ => 0)))] := hD
  have hK : va_K D vwCl [(c1000, .int), (c1001, .int), (c1002, .int), (c1005, .byte), (c1006, .byte), (c1007, .byte), (c1008, .boolean), (c1009, .boolean), (c1010, .int)] s := hK
  refine va_putF (D := D) (ci := 0) (v := .ref q1010) (ty := .array .int) (C := RX0) (T := TX0) (N := 14) hx hb hts in_X0 tyX0 tyX0_ok nmX0 hown hK hP hD hS 0 rfl rfl 10 (by decide) (hts _ q40) (fun _ h9 => h9) rfl hin rfl (by decide +kernel) rfl rfl (Nat.le_of_ble_eq_true rfl) dX0_init_72 (fun H locs hP hD hS => ?_)
  have hP : va_P D vwCl [(h0, .inr (0, [.ref q1000, .ref q1001, .ref q1002, .int 0, .int 0, .ref q1005, .ref q1006, .ref q1007, .ref q1008, .ref q1009, .ref q1010, .int 0, .null, .null])), (q1000, .inl (c1000, 18, .inl (fun _ => 0))), (q1001, .inl (c1001, 18, .inl (fun _ => 0))), (q1002, .inl (c1002, 3, .inl (fun _ => 0))), (q1005, .inl (c1005, 8, .inl (fun _ => 0))), (q1006, .inl (c1006, 8, .inl (fun _ => 0))), (q1007, .inl (c1007, 8, .inl (fun _ => 0))), (q1008, .inl (c1008, 8, .inl (fun _ => 0))), (q1009, .inl (c1009, 8, .inl (fun _ => 0))), (q1010, .inl (c1010, 18, .inl (fun _ => 0)))] H := hP
  have hD : va_D A [(h0, .inr (0, [.ref q1000, .ref q1001, .ref q1002, .int 0, .int 0, .ref q1005, .ref q1006, .ref q1007, .ref q1008, .ref q1009, .ref q1010, .int 0, .null, .null])), (q1000, .inl (c1000, 18, .inl (fun _ => 0))), (q1001, .inl (c1001, 18, .inl (fun _ => 0))), (q1002, .inl (c1002, 3, .inl (fun _ => 0))), (q1005, .inl (c1005, 8, .inl (fun _ => 0))), (q1006, .inl (c1006, 8, .inl (fun _ => 0))), (q1007, .inl (c1007, 8, .inl (fun _ => 0))), (q1008, .inl (c1008, 8, .inl (fun _ => 0))), (q1009, .inl (c1009, 8, .inl (fun _ => 0))), (q1010, .inl (c1010, 18, .inl (fun _ => 0)))] := hD
  refine lv_aload_n hx hb dX0_init_75 rfl (lv_at hl 0 rfl) ?_
  refine lv_bipush (v := 18) hx hb dX0_init_76 (by decide) ?_
  refine va_newa (atype := .byte) (ty := .byte) hx hb (hts _ q74) rfl hK hP hD hS hA (n := 18) (N' := 18) (a0 := (18, .inl (fun _ => 0))) (fun _ => rfl) (by decide) (by decide) (by decide) (Nat.le_of_ble_eq_true rfl) (Nat.le_of_ble_eq_true rfl) dX0_init_78 (fun q1012 c1012 H hK hP hD hS => ?_)
  have hP : va_P D vwCl [(h0, .inr (0, [.ref q1000, .ref q1001, .ref q1002, .int 0, .int 0, .ref q1005, .ref q1006, .ref q1007, .ref q1008, .ref q1009, .ref q1010, .int 0, .null, .null])), (q1000, .inl (c1000, 18, .inl (fun _ => 0))), (q1001, .inl (c1001, 18, .inl (fun _ => 0))), (q1002, .inl (c1002, 3, .inl (fun _ => 0))), (q1005, .inl (c1005, 8, .inl (fun _ => 0))), (q1006, .inl (c1006, 8, .inl (fun _ => 0))), (q1007, .inl (c1007, 8, .inl (fun _ => 0))), (q1008, .inl (c1008, 8, .inl (fun _ => 0))), (q1009, .inl (c1009, 8, .inl (fun _ => 0))), (q1010, .inl (c1010, 18, .inl (fun _ => 0))), (q1012, .inl (c1012, 18, .inl (fun _ => 0)))] H := hP
  have hD : va_D A [(h0, .inr (0, [.ref q1000, .ref q1001, .ref q1002, .int 0, .int 0, .ref q1005, .ref q1006, .ref q1007, .ref q1008, .ref q1009, .ref q1010, .int 0, .null, .null])), (q1000, .inl (c1000, 18, .inl (fun _ => 0))), (q1001, .inl (c1001, 18, .inl (fun _ => 0))), (q1002, .inl (c1002, 3, .inl (fun _ => 0))), (q1005, .inl (c1005, 8, .inl (fun _ => 0))), (q1006, .inl (c1006, 8, .inl (fun _ => 0))), (q1007, .inl (c1007, 8, .inl (fun _ => 0))), (q1008, .inl (c1008, 8, .inl (fun _ => 0))), (q1009, .inl (c1009, 8, .inl (fun _ => 0))), (q1010, .inl (c1010, 18, .inl (fun _ => 0))), (q1012, .inl (c1012, 18, .inl (fun _ => 0)))] := hD
  have hK : va_K D vwCl [(c1000, .int), (c1001, .int), (c1002, .int), (c1005, .byte), (c1006, .byte), (c1007, .byte), (c1008, .boolean), (c1009, .boolean), (c1010, .int), (c1012, .byte)] s := hK
  refine va_putF (D := D) (ci := 0) (v := .ref q1012) (ty := .array .byte) (C := RX0) (T := TX0) (N := 14) hx hb hts in_X0 tyX0 tyX0_ok nmX0 hown hK hP hD hS 0 rfl rfl 12 (by decide) (hts _ q42) (fun _ h9 => h9) rfl hin rfl (by decide +kernel) rfl rfl (Nat.le_of_ble_eq_true rfl) dX0_init_80 (fun H locs hP hD hS => ?_)
  have hP : va_P D vwCl [(h0, .inr (0, [.ref q1000, .ref q1001, .ref q1002, .int 0, .int 0, .ref q1005, .ref q1006, .ref q1007, .ref q1008, .ref q1009, .ref q1010, .int 0, .ref q1012, .null])), (q1000, .inl (c1000, 18, .inl (fun _ => 0))), (q1001, .inl (c1001, 18, .inl (fun _ => 0))), (q1002, .inl (c1002, 3, .inl (fun _ => 0))), (q1005, .inl (c1005, 8, .inl (fun _ => 0))), (q1006, .inl (c1006, 8, .inl (fun _ => 0))), (q1007, .inl (c1007, 8, .inl (fun _ => 0))), (q1008, .inl (c1008, 8, .inl (fun _ => 0))), (q1009, .inl (c1009, 8, .inl (fun _ => 0))), (q1010, .inl (c1010, 18, .inl (fun _ => 0))), (q1012, .inl (c1012, 18, .inl (fun _ => 0)))] H := hP
  have hD : va_D A [(h0, .inr (0, [.ref q1000, .ref q1001, .ref q1002, .int 0, .int 0, .ref q1005, .ref q1006, .ref q1007, .ref q1008, .ref q1009, .ref q1010, .int 0, .ref q1012, .null])), (q1000, .inl (c1000, 18, .inl (fun _ => 0))), (q1001, .inl (c1001, 18, .inl (fun _ => 0))), (q1002, .inl (c1002, 3, .inl (fun _ => 0))), (q1005, .inl (c1005, 8, .inl (fun _ => 0))), (q1006, .inl (c1006, 8, .inl (fun _ => 0))), (q1007, .inl (c1007, 8, .inl (fun _ => 0))), (q1008, .inl (c1008, 8, .inl (fun _ => 0))), (q1009, .inl (c1009, 8, .inl (fun _ => 0))), (q1010, .inl (c1010, 18, .inl (fun _ => 0))), (q1012, .inl (c1012, 18, .inl (fun _ => 0)))] := hD
  refine lv_aload_n hx hb dX0_init_83 rfl (lv_at hl 0 rfl) ?_
  refine lv_bipush (v := 18) hx hb dX0_init_84 (by decide) ?_
  refine va_newa (atype := .int) (ty := .int) hx hb (hts _ q73) rfl hK hP hD hS hA (n := 18) (N' := 18) (a0 := (18, .inl (fun _ => 0))) (fun _ => rfl) (by decide) (by decide) (by decide) (Nat.le_of_ble_eq_true rfl) (Nat.le_of_ble_eq_true rfl) dX0_init_86 (fun q1013 c1013 H hK hP hD hS => ?_)
  have hP : va_P D vwCl [(h0, .inr (0, [.ref q1000, .ref q1001, .ref q1002, .int 0, .int 0, .ref q1005, .ref q1006, .ref q1007, .ref q1008, .ref q1009, .ref q1010, .int 0, .ref q1012, .null])), (q1000, .inl (c1000, 18, .inl (fun _ => 0))), (q1001, .inl (c1001, 18, .inl (fun _ => 0))), (q1002, .inl (c1002, 3, .inl (fun _ => 0))), (q1005, .inl (c1005, 8, .inl (fun _ => 0))), (q1006, .inl (c1006, 8, .inl (fun _ => 0))), (q1007, .inl (c1007, 8, .inl (fun _ => 0))), (q1008, .inl (c1008, 8, .inl (fun _ => 0))), (q1009, .inl (c1009, 8, .inl (fun _ => 0))), (q1010, .inl (c1010, 18, .inl (fun _ => 0))), (q1012, .inl (c1012, 18, .inl (fun _ => 0))), (q1013, .inl (c1013, 18, .inl (fun _ => 0)))] H := hP
  have hD : va_D A [(h0, .inr (0, [.ref q1000, .ref q1001, .ref q1002, .int 0, .int 0, .ref q1005, .ref q1006, .ref q1007, .ref q1008, .ref q1009, .ref q1010, .int 0, .ref q1012, .null])), (q1000, .inl (c1000, 18, .inl (fun _ => 0))), (q1001, .inl (c1001, 18, .inl (fun _ => 0))), (q1002, .inl (c1002, 3, .inl (fun _ => 0))), (q1005, .inl (c1005, 8, .inl (fun _ => 0))), (q1006, .inl (c1006, 8, .inl (fun _ => 0))), (q1007, .inl (c1007, 8, .inl (fun _ => 0))), (q1008, .inl (c1008, 8, .inl (fun _ => 0))), (q1009, .inl (c1009, 8, .inl (fun _ => 0))), (q1010, .inl (c1010, 18, .inl (fun _ => 0))), (q1012, .inl (c1012, 18, .inl (fun _ => 0))), (q1013, .inl (c1013, 18, .inl (fun _ => 0)))] := hD
  have hK : va_K D vwCl [(c1000, .int), (c1001, .int), (c1002, .int), (c1005, .byte), (c1006, .byte), (c1007, .byte), (c1008, .boolean), (c1009, .boolean), (c1010, .int), (c1012, .byte), (c1013, .int)] s := hK
  refine va_putF (D := D) (ci := 0) (v := .ref q1013) (ty := .array .int) (C := RX0) (T := TX0) (N := 14) hx hb hts in_X0 tyX0 tyX0_ok nmX0 hown hK hP hD hS 0 rfl rfl 13 (by decide) (hts _ q43) (fun _ h9 => h9) rfl hin rfl (by decide +kernel) rfl rfl (Nat.le_of_ble_eq_true rfl) dX0_init_88 (fun H locs hP hD hS => ?_)
  have hP : va_P D vwCl [(h0, .inr (0, [.ref q1000, .ref q1001, .ref q1002, .int 0, .int 0, .ref q1005, .ref q1006, .ref q1007, .ref q1008, .ref q1009, .ref q1010, .int 0, .ref q1012, .ref q1013])), (q1000, .inl (c1000, 18, .inl (fun _ => 0))), (q1001, .inl (c1001, 18, .inl (fun _ => 0))), (q1002, .inl (c1002, 3, .inl (fun _ => 0))), (q1005, .inl (c1005, 8, .inl (fun _ => 0))), (q1006, .inl (c1006, 8, .inl (fun _ => 0))), (q1007, .inl (c1007, 8, .inl (fun _ => 0))), (q1008, .inl (c1008, 8, .inl (fun _ => 0))), (q1009, .inl (c1009, 8, .inl (fun _ => 0))), (q1010, .inl (c1010, 18, .inl (fun _ => 0))), (q1012, .inl (c1012, 18, .inl (fun _ => 0))), (q1013, .inl (c1013, 18, .inl (fun _ => 0)))] H := hP
  have hD : va_D A [(h0, .inr (0, [.ref q1000, .ref q1001, .ref q1002, .int 0, .int 0, .ref q1005, .ref q1006, .ref q1007, .ref q1008, .ref q1009, .ref q1010, .int 0, .ref q1012, .ref q1013])), (q1000, .inl (c1000, 18, .inl (fun _ => 0))), (q1001, .inl (c1001, 18, .inl (fun _ => 0))), (q1002, .inl (c1002, 3, .inl (fun _ => 0))), (q1005, .inl (c1005, 8, .inl (fun _ => 0))), (q1006, .inl (c1006, 8, .inl (fun _ => 0))), (q1007, .inl (c1007, 8, .inl (fun _ => 0))), (q1008, .inl (c1008, 8, .inl (fun _ => 0))), (q1009, .inl (c1009, 8, .inl (fun _ => 0))), (q1010, .inl (c1010, 18, .inl (fun _ => 0))), (q1012, .inl (c1012, 18, .inl (fun _ => 0))), (q1013, .inl (c1013, 18, .inl (fun _ => 0)))] := hD
  exact W.vret hx hb hr (fun t ht hW => ⟨⟨(fun k => if k = 0 then q1000 else if k = 1 then q1001 else if k = 2 then q1002 else if k = 5 then q1005 else if k = 6 then q1006 else if k = 7 then q1007 else if k = 8 then q1008 else if k = 9 then q1009 else if k = 10 then q1010 else if k = 12 then q1012 else q1013, fun k => if k = 0 then c1000 else if k = 1 then c1001 else if k = 2 then c1002 else if k = 5 then c1005 else if k = 6 then c1006 else if k = 7 then c1007 else if k = 8 then c1008 else if k = 9 then c1009 else if k = 10 then c1010 else if k = 12 then c1012 else c1013), rfl, trivial, by rw [ht]; exact hP, va_K.moved hW.alike hK, hD⟩, hS.F ht⟩) hS.2.2 dX0_init_91
abbrev ry_o : List Value := [.int 0, .null, .null, .null, .null]
abbrev rr_M_new : Room := { frames := 1, cells := 4, slots := 314, locals := 12 }
def ry_nB (D : va_G) (h0 : Nat) (A : Nat → Prop) (u : (Nat → Nat) × (Nat → ClassId)) (t : State) : Prop := va_P D vwCl (ry_w u.2 h0 u.1 (fun _ _ => 0)) t.heap ∧ va_K D vwCl (ry_t u.2) t ∧ va_D A (ry_w u.2 h0 u.1 (fun _ _ => 0))
set_option maxHeartbeats 4000000 in
set_option maxRecDepth 100000 in
theorem cY_init (l : Launch) (D : va_G) (h0 sz : Nat) : Met l yX1_init (ws_ yX1_init cX1_init 1 none) rr_M_new (va_Pc [.ref h0] (rw_Pre D [] [(h0, .inr (1, ry_o))] sz)) (va_Qv (fun _ : (Nat → Nat) × (Nat → ClassId) => True) (ry_nB D h0 (va_A [(h0, .inr (1, ry_o))] sz)) (va_A [(h0, .inr (1, ry_o))] sz)) 4 314 (va_A [(h0, .inr (1, ry_o))] sz) := by
  refine Met.ofW (cc := cX1_init) (maxL := 1) (ret := none) (by decide) rfl ?_
  intro p e s m args below meth c s₁ B hml hv
  obtain ⟨rfl, hsz, hP, hK, hD0⟩ := hv
  have hx := B.exec
  have hb := B.bytes
  have hr := B.returns
  have hts := atoms_spec (ws := ws_ yX1_init cX1_init 1 none) B.pre
  have hts : ∀ w ∈ lw_all, w.before _ s = true := fun w h => hts w (List.mem_cons_of_mem _ h)
  have hown : s.vm.findClass RX1 = some m.cls := findClass_of_methodNamed B.named
  have hlocks := B.notSynchronized
  have hin : meth.name = "<init>" := (name_of_methodNamed B.named B.method).1
  subst hsz
  have hD := hD0.self (sz := s.heap.size)
  generalize hAe : va_A [(h0, .inr (1, ry_o))] s.heap.size = A at hD ⊢
  have hA : ∀ q : Nat, s.heap.size ≤ q → A q := fun q h => by rw [← hAe]; exact Or.inr h
  have hS : va_S A s.heap s.heap [] := va_S.rf
  have hl := lv_entry ([.ref h0]) (n := 1) (Nat.le_of_ble_eq_true rfl)
  rw [lg_entry_eq]
  generalize (lg_sl ([.ref h0]) ++ List.replicate (1 - (lg_sl ([.ref h0])).length) Slot.unset).toArray = ls at hl ⊢
  have hl : lv_has ls 1 [(0, .ref h0)] := hl
  refine lv_aload_n hx hb dX1_init_0 rfl (lv_at hl 0 rfl) ?_
  refine W.objInit hx hb hown (hts _ q163) (hts _ q28) (hts _ q29) rfl (by rw [hml]; exact hl.1) rfl dX1_init_1 (Nat.le_of_ble_eq_true rfl) (Nat.le_of_ble_eq_true rfl) ?_
  refine W.eq (g2 := F0 m 4 ls []) rfl ?_
  refine lv_aload_n hx hb dX1_init_4 rfl (lv_at hl 0 rfl) ?_
  refine lv_iconst (v := 0) hx hb dX1_init_5 (by decide) ?_
  refine va_put (D := D) (ci := 1) (v := .int 0) (ty := .int) (C := RX1) (T := TX1) (N := 5) hx hb hts in_X1 tyX1 tyX1_ok nmX1 hown hK hP hD hS 0 rfl rfl 0 (by decide) (hts _ q164) (fun _ h9 => h9) rfl (by decide +kernel) rfl rfl (Nat.le_of_ble_eq_true rfl) dX1_init_6 (fun H locs hP hD hS => ?_)
  have hP : va_P D vwCl [(h0, .inr (1, [.int 0, .null, .null, .null, .null]))] H := hP
  have hD : va_D A [(h0, .inr (1, [.int 0, .null, .null, .null, .null]))] := hD
  refine lv_aload_n hx hb dX1_init_9 rfl (lv_at hl 0 rfl) ?_
  refine lv_sipush (v := 144) hx hb dX1_init_10 (by decide) ?_
  refine va_newa (atype := .int) (ty := .int) hx hb (hts _ q73) rfl hK hP hD hS hA (n := 144) (N' := 144) (a0 := (144, .inl (fun _ => 0))) (fun _ => rfl) (by decide) (by decide) (by decide) (Nat.le_of_ble_eq_true rfl) (Nat.le_of_ble_eq_true rfl) dX1_init_13 (fun q1001 c1001 H hK hP hD hS => ?_)
  have hP : va_P D vwCl [(h0, .inr (1, [.int 0, .null, .null, .null, .null])), (q1001, .inl (c1001, 144, .inl (fun _ => 0)))] H := hP
  have hD : va_D A [(h0, .inr (1, [.int 0, .null, .null, .null, .null])), (q1001, .inl (c1001, 144, .inl (fun _ => 0)))] := hD
  have hK : va_K D vwCl [(c1001, .int)] s := hK
  refine va_put (D := D) (ci := 1) (v := .ref q1001) (ty := .array .int) (C := RX1) (T := TX1) (N := 5) hx hb hts in_X1 tyX1 tyX1_ok nmX1 hown hK hP hD hS 0 rfl rfl 1 (by decide) (hts _ q165) (fun _ h9 => h9) rfl (by decide +kernel) rfl rfl (Nat.le_of_ble_eq_true rfl) dX1_init_15 (fun H locs hP hD hS => ?_)
  have hP : va_P D vwCl [(h0, .inr (1, [.int 0, .ref q1001, .null, .null, .null])), (q1001, .inl (c1001, 144, .inl (fun _ => 0)))] H := hP
  have hD : va_D A [(h0, .inr (1, [.int 0, .ref q1001, .null, .null, .null])), (q1001, .inl (c1001, 144, .inl (fun _ => 0)))] := hD
  refine lv_aload_n hx hb dX1_init_18 rfl (lv_at hl 0 rfl) ?_
  refine lv_sipush (v := 144) hx hb dX1_init_19 (by decide) ?_
  refine va_newa (atype := .int) (ty := .int) hx hb (hts _ q73) rfl hK hP hD hS hA (n := 144) (N' := 144) (a0 := (144, .inl (fun _ => 0))) (fun _ => rfl) (by decide) (by decide) (by decide) (Nat.le_of_ble_eq_true rfl) (Nat.le_of_ble_eq_true rfl) dX1_init_22 (fun q1002 c1002 H hK hP hD hS => ?_)
  have hP : va_P D vwCl [(h0, .inr (1, [.int 0, .ref q1001, .null, .null, .null])), (q1001, .inl (c1001, 144, .inl (fun _ => 0))), (q1002, .inl (c1002, 144, .inl (fun _ => 0)))] H := hP
  have hD : va_D A [(h0, .inr (1, [.int 0, .ref q1001, .null, .null, .null])), (q1001, .inl (c1001, 144, .inl (fun _ => 0))), (q1002, .inl (c1002, 144, .inl (fun _ => 0)))] := hD
  have hK : va_K D vwCl [(c1001, .int), (c1002, .int)] s := hK
  refine va_put (D := D) (ci := 1) (v := .ref q1002) (ty := .array .int) (C := RX1) (T := TX1) (N := 5) hx hb hts in_X1 tyX1 tyX1_ok nmX1 hown hK hP hD hS 0 rfl rfl 2 (by decide) (hts _ q166) (fun _ h9 => h9) rfl (by decide +kernel) rfl rfl (Nat.le_of_ble_eq_true rfl) dX1_init_24 (fun H locs hP hD hS => ?_)
  have hP : va_P D vwCl [(h0, .inr (1, [.int 0, .ref q1001, .ref q1002, .null, .null])), (q1001, .inl (c1001, 144, .inl (fun _ => 0))), (q1002, .inl (c1002, 144, .inl (fun _ => 0)))] H := hP
  have hD : va_D A [(h0, .inr (1, [.int 0, .ref q1001, .ref q1002, .null, .null])), (q1001, .inl (c1001, 144, .inl (fun _ => 0))), (q1002, .inl (c1002, 144, .inl (fun _ => 0)))] := hD
  refine lv_aload_n hx hb dX1_init_27 rfl (lv_at hl 0 rfl) ?_
  refine lv_bipush (v := 8) hx hb dX1_init_28 (by decide) ?_
  refine va_newa (atype := .int) (ty := .int) hx hb (hts _ q73) rfl hK hP hD hS hA (n := 8) (N' := 8) (a0 := (8, .inl (fun _ => 0))) (fun _ => rfl) (by decide) (by decide) (by decide) (Nat.le_of_ble_eq_true rfl) (Nat.le_of_ble_eq_true rfl) dX1_init_30 (fun q1003 c1003 H hK hP hD hS => ?_)
  have hP : va_P D vwCl [(h0, .inr (1, [.int 0, .ref q1001, .ref q1002, .null, .null])), (q1001, .inl (c1001, 144, .inl (fun _ => 0))), (q1002, .inl (c1002, 144, .inl (fun _ => 0))), (q1003, .inl (c1003, 8, .inl (fun _ => 0)))] H := hP
  have hD : va_D A [(h0, .inr (1, [.int 0, .ref q1001, .ref q1002, .null, .null])), (q1001, .inl (c1001, 144, .inl (fun _ => 0))), (q1002, .inl (c1002, 144, .inl (fun _ => 0))), (q1003, .inl (c1003, 8, .inl (fun _ => 0)))] := hD
  have hK : va_K D vwCl [(c1001, .int), (c1002, .int), (c1003, .int)] s := hK
  refine va_put (D := D) (ci := 1) (v := .ref q1003) (ty := .array .int) (C := RX1) (T := TX1) (N := 5) hx hb hts in_X1 tyX1 tyX1_ok nmX1 hown hK hP hD hS 0 rfl rfl 3 (by decide) (hts _ q167) (fun _ h9 => h9) rfl (by decide +kernel) rfl rfl (Nat.le_of_ble_eq_true rfl) dX1_init_32 (fun H locs hP hD hS => ?_)
  have hP : va_P D vwCl [(h0, .inr (1, [.int 0, .ref q1001, .ref q1002, .ref q1003, .null])), (q1001, .inl (c1001, 144, .inl (fun _ => 0))), (q1002, .inl (c1002, 144, .inl (fun _ => 0))), (q1003, .inl (c1003, 8, .inl (fun _ => 0)))] H := hP
  have hD : va_D A [(h0, .inr (1, [.int 0, .ref q1001, .ref q1002, .ref q1003, .null])), (q1001, .inl (c1001, 144, .inl (fun _ => 0))), (q1002, .inl (c1002, 144, .inl (fun _ => 0))), (q1003, .inl (c1003, 8, .inl (fun _ => 0)))] := hD
  refine lv_aload_n hx hb dX1_init_35 rfl (lv_at hl 0 rfl) ?_
  refine lv_bipush (v := 18) hx hb dX1_init_36 (by decide) ?_
  refine va_newa (atype := .int) (ty := .int) hx hb (hts _ q73) rfl hK hP hD hS hA (n := 18) (N' := 18) (a0 := (18, .inl (fun _ => 0))) (fun _ => rfl) (by decide) (by decide) (by decide) (Nat.le_of_ble_eq_true rfl) (Nat.le_of_ble_eq_true rfl) dX1_init_38 (fun q1004 c1004 H hK hP hD hS => ?_)
  have hP : va_P D vwCl [(h0, .inr (1, [.int 0, .ref q1001, .ref q1002, .ref q1003, .null])), (q1001, .inl (c1001, 144, .inl (fun _ => 0))), (q1002, .inl (c1002, 144, .inl (fun _ => 0))), (q1003, .inl (c1003, 8, .inl (fun _ => 0))), (q1004, .inl (c1004, 18, .inl (fun _ => 0)))] H := hP
  have hD : va_D A [(h0, .inr (1, [.int 0, .ref q1001, .ref q1002, .ref q1003, .null])), (q1001, .inl (c1001, 144, .inl (fun _ => 0))), (q1002, .inl (c1002, 144, .inl (fun _ => 0))), (q1003, .inl (c1003, 8, .inl (fun _ => 0))), (q1004, .inl (c1004, 18, .inl (fun _ => 0)))] := hD
  have hK : va_K D vwCl [(c1001, .int), (c1002, .int), (c1003, .int), (c1004, .int)] s := hK
  refine va_put (D := D) (ci := 1) (v := .ref q1004) (ty := .array .int) (C := RX1) (T := TX1) (N := 5) hx hb hts in_X1 tyX1 tyX1_ok nmX1 hown hK hP hD hS 0 rfl rfl 4 (by decide) (hts _ q168) (fun _ h9 => h9) rfl (by decide +kernel) rfl rfl (Nat.le_of_ble_eq_true rfl) dX1_init_40 (fun H locs hP hD hS => ?_)
  have hP : va_P D vwCl [(h0, .inr (1, [.int 0, .ref q1001, .ref q1002, .ref q1003, .ref q1004])), (q1001, .inl (c1001, 144, .inl (fun _ => 0))), (q1002, .inl (c1002, 144, .inl (fun _ => 0))), (q1003, .inl (c1003, 8, .inl (fun _ => 0))), (q1004, .inl (c1004, 18, .inl (fun _ => 0)))] H := hP
  have hD : va_D A [(h0, .inr (1, [.int 0, .ref q1001, .ref q1002, .ref q1003, .ref q1004])), (q1001, .inl (c1001, 144, .inl (fun _ => 0))), (q1002, .inl (c1002, 144, .inl (fun _ => 0))), (q1003, .inl (c1003, 8, .inl (fun _ => 0))), (q1004, .inl (c1004, 18, .inl (fun _ => 0)))] := hD
  exact W.vret hx hb hr (fun t ht hW => ⟨⟨(fun k => if k = 1 then q1001 else if k = 2 then q1002 else if k = 3 then q1003 else q1004, fun k => if k = 1 then c1001 else if k = 2 then c1002 else if k = 3 then c1003 else c1004), rfl, trivial, by rw [ht]; exact hP, va_K.moved hW.alike hK, hD⟩, hS.F ht⟩) hS.2.2 dX1_init_43
end
section
/-! THE CLAIM OUT OF ONE WALK OF THE LAW'S BODY. Your part is whole_start (and what it stands on); all else here is the same for every law, but numbers. -/
def R_law : String := "RelationTuplesLaw"
def lw_P (b : Addr) (xs : List Int32) (args : Array Value) (s : State) : Prop := args = #[.ref b] ∧ s.IntsAt b xs ∧ xs.length ≤ 256 ∧ (Jvm.Cond.and given_1 narrow_1).before args s = true
def lw_Q (_ : Array Value) (s : State) (o : Outcome) (t : State) : Prop := o = .returned (some (.int 1)) ∧ Framed s o t [] 600000 7290000
def lw_Z (below : List Frame) (a : Array Value) (s : State) : State → Prop := fun t => ∃ o, t.status = .running ∧ Ended t below o ∧ lw_Q a s o t
/-- the law's own end, with 1 on the stack, nothing written that was there before, its room as the claim has it -/
theorem lw_ret {p : Program} {l : Launch} {e : Env} {s : State} {m : MethodId} {below : List Frame} {meth : Method} {c : Code} {b : Nat} (hx : p.tables.exec = Jvm.exec) (hb : c.code = code) (hr : meth.sig.returnType = ret) (hlocks : meth.locks = false) {pc : Nat} {H : Heap} {ls : Array Slot} (hdg : decode code pc = .ok (.ireturn, 1)) : W p l e room_1 s m #[Value.ref b] below meth c H [] 600000 7290000 (lw_Z below #[Value.ref b] s) (F0 m pc ls [.int 1]) := by
  intro T hT X
  obtain ⟨fs, hret, hrun, hended, hW, hframe⟩ := X.leave (v := some (.int 1)) (hlocks := hlocks) (fun h => by rw [hr] at h; cases h)
  have hmeth' : T.vm.method? m = some meth := X.method'
  refine ⟨T.setFrames fs, ?_, .returned (some (.int 1)), hrun, hended, rfl, ⟨_, rfl⟩, hW, hframe⟩
  jvm_step X.here [X.here.top, hx, hb, hdg, hmeth', hr, ret, narrow_b1]
  (try refine ⟨rfl, ?_⟩); (try refine ⟨rfl, ?_⟩)
  first | (intro acts; rw [hret _ acts rfl rfl rfl]) | rw [hret _ _ rfl rfl rfl]
  exact Steps.refl _
/-- what holds at the law's entry: the machine, the code, the tables' words (any of lw_tbl by 'hts w (by decide +kernel)'), the script of L ints xs at the cell b, what the Statement gives of the start (any of its parts by flat_of_before) -/
def lw_At (p : Program) (s : State) (m : MethodId) (meth : Method) (c : Code) (b L : Nat) (xs : Nat → Int32) : Prop :=
  p.tables.exec = Jvm.exec ∧ c.code = code ∧ meth.sig.returnType = ret ∧ c.maxLocals = 4 ∧ s.vm.findClass R_law = some m.cls ∧ (∀ w ∈ lw_tbl, w.before #[Value.ref b] s = true) ∧ va_X b L xs s s.heap ∧ b < s.heap.size ∧ meth.locks = false ∧ (Jvm.Cond.and given_1 narrow_1).before #[Value.ref b] s = true
end
section
/-! the law: both objects in one world, the loop over the script -/
set_option maxRecDepth 100000
section RL
variable {p : Program} {l : Launch} {e : Env} {R : Room} {s : State} {m : MethodId} {args : Array Value} {below : List Frame} {meth : Method} {c : Code} {D : va_G} {A : Nat → Prop} {tys : List (ClassId × FieldType)} {cc : ByteArray} {nL : Nat} {own : String} {kc ks : Nat} {Q : State → Prop} {wd : va_W} {lv : List (Option Value)} {pc : Nat} {rest : List Value} {b L : Nat} {xs : Nat → Int32} {dA dB : Nat → ClassId} {hx hy : Nat} {ad bd : Nat → Nat} {stx sty : rt_S}
theorem rl_ld {i : Int32} {j : Nat} (F : rw_F p s m args meth c D A tys cc nL own) (hX : va_X b L xs s s.heap) (hbl : b < s.heap.size) (hbA : ¬ A b) (hi : i = nI j) (hj : j < L) (hL : L < 2 ^ 31) (hd : decode cc pc = .ok (.iaload, 1)) (kk : rw_W p l e R s m args below meth c D A nL kc ks Q wd lv (pc + 1) (.int (xs j) :: rest)) : rw_W p l e R s m args below meth c D A nL kc ks Q wd lv pc (.int i :: .ref b :: rest) := by
  subst hi
  exact fun H locs ls hP hD hS hl => va_sld F.1 F.2.1 hX hbl hbA hS (vp_in_nI hj hL) hd (by rw [nI_clamp (by omega)]; exact kk H locs ls hP hD hS hl)
theorem rl_len (F : rw_F p s m args meth c D A tys cc nL own) (hX : va_X b L xs s s.heap) (hbl : b < s.heap.size) (hbA : ¬ A b) (hd : decode cc pc = .ok (.arraylength, 1)) (kk : rw_W p l e R s m args below meth c D A nL kc ks Q wd lv (pc + 1) (.int (nI L) :: rest)) : rw_W p l e R s m args below meth c D A nL kc ks Q wd lv pc (.ref b :: rest) := fun H locs ls hP hD hS hl => va_slen F.1 F.2.1 hX hbl hbA hS hd (kk H locs ls hP hD hS hl)
theorem rl_tabIn {dflt lo hi off : Int} {offs : Array Int} {len tgt : Nat} {x : Int32} (F : rw_F p s m args meth c D A tys cc nL own) (hd : decode cc pc = .ok (.tableswitch dflt lo hi offs, len)) (h1 : ¬ x.toInt < lo) (h2 : ¬ hi < x.toInt) (ho : offs[(x.toInt - lo).toNat]? = some off) (ht : (pc : Int) + off = (tgt : Int)) (kk : rw_W p l e R s m args below meth c D A nL kc ks Q wd lv tgt rest) : rw_W p l e R s m args below meth c D A nL kc ks Q wd lv pc (.int x :: rest) := fun H locs ls hP hD hS hl => lv_tableIn F.1 F.2.1 hd h1 h2 ho ht (kk H locs ls hP hD hS hl)
theorem rl_tabOut {dflt lo hi : Int} {offs : Array Int} {len tgt : Nat} {x : Int32} (F : rw_F p s m args meth c D A tys cc nL own) (hd : decode cc pc = .ok (.tableswitch dflt lo hi offs, len)) (h : x.toInt < lo ∨ hi < x.toInt) (ht : (pc : Int) + dflt = (tgt : Int)) (kk : rw_W p l e R s m args below meth c D A nL kc ks Q wd lv tgt rest) : rw_W p l e R s m args below meth c D A nL kc ks Q wd lv pc (.int x :: rest) := fun H locs ls hP hD hS hl => lv_tableOut F.1 F.2.1 hd h ht (kk H locs ls hP hD hS hl)
set_option maxHeartbeats 4000000 in
theorem rl_callx {y : MethodName} {cc2 : ByteArray} {nL2 n idx : Nat} {ret : Option FieldType} {rm : Room} {As : List Value} {post : Int32 → rt_S → Prop} {stk : List Value}
    (F : rw_F p s m args meth c D A (rx_t dA ++ ry_t dB) cc nL own) (hM : rw_Mi l D (rx_t dA) (rx_w dA hx ad) y cc2 nL2 ret rm hx As stx post) (cw : CallW R s args own RX0 idx y cc2 nL2 ret (ws_ y cc2 nL2 ret) rm 0 0 n)
    (hn : As.length = n) (hstk : stk = As.reverse ++ .ref hx :: rest) (hW : (rest.map fun v => v.category).sum ≤ 8) (hd : decode cc pc = .ok (.invokevirtual idx, 3)) (hf : kc ≤ R.cells ∧ ks ≤ R.slots)
    (kk : ∀ (r : Int32) (u : rt_S), post r u → rw_W p l e R s m args below meth c D A nL kc ks Q (rx_w dA hx ad u ++ ry_w dB hy bd sty) lv (pc + 3) (.int r :: rest)) : rw_W p l e R s m args below meth c D A nL kc ks Q (rx_w dA hx ad stx ++ ry_w dB hy bd sty) lv pc stk := by
  intro H locs ls hP hD hS hl
  have hK := F.2.2.2.2.2.1
  have hA := F.2.2.2.2.2.2.1
  have hPc := hP.sub (ws' := rx_w dA hx ad stx) [0, 1, 2, 3, 4, 5, 6, 7, 8, 9, 10, 11] rfl
  have hDc := hD.sub (ws' := rx_w dA hx ad stx) [0, 1, 2, 3, 4, 5, 6, 7, 8, 9, 10, 11] (by decide) rfl
  have hKc := hK.sub (tys' := rx_t dA) [0, 1, 2, 3, 4, 5, 6, 7, 8, 9, 10] rfl
  have hFc := va_free (wc := rx_w dA hx ad stx) hD hS hA [0, 1, 2, 3, 4, 5, 6, 7, 8, 9, 10, 11] rfl
  refine va_calli (va_runV (As := As) (rest := rest) ⟨F.1, F.2.1, F.2.2.1, F.2.2.2.1, F.2.2.2.2.1⟩ (hM H.size) cw ⟨fun a U g mk q => ?_, va_recv hKc hPc (ci := 0) (q0 := 0) rfl rfl, fun U hU hW => ⟨rfl, by rw [hU], by rw [hU]; exact hPc, va_K.moved hW.alike hKc, hDc.weaken (fun _ _ _ _ => trivial)⟩⟩ rfl hn hl.1 hstk (lv_room hW) hd hf) hS (fun q _ h => hFc q h) hFc (fun r u t H1 locs1 ht hvm hp hB hz1 hk1 hS1 => ?_)
  · obtain ⟨q0, q1, qP, qK, qD⟩ := q
    exact ⟨q0, q1, qP, va_K.moved (u := U) (U := U.calling g mk a) (Vm.Alike.refl U.vm) qK, qD⟩
  · obtain ⟨hP1, hK1, hD1⟩ := hB
    rw [ht] at hP1
    obtain ⟨hP2, hD2⟩ := va_join (wr := ry_w dB hy bd sty) (w1 := rx_w dA hx ad u) hP hD [0, 1, 2, 3, 4, 5, 6, 7, 8, 9, 10, 11] [12, 13, 14, 15, 16] rfl rfl (by decide) (by decide) hk1 hFc hP1 hD1
    exact kk r u hp H1 locs1 ls (hP2.sub [5, 6, 7, 8, 9, 10, 11, 12, 13, 14, 15, 16, 0, 1, 2, 3, 4] rfl) (hD2.sub [5, 6, 7, 8, 9, 10, 11, 12, 13, 14, 15, 16, 0, 1, 2, 3, 4] (by decide) rfl) hS1 hl
set_option maxHeartbeats 4000000 in
theorem rl_cally {y : MethodName} {cc2 : ByteArray} {nL2 n idx : Nat} {ret : Option FieldType} {rm : Room} {As : List Value} {post : Int32 → rt_S → Prop} {stk : List Value}
    (F : rw_F p s m args meth c D A (rx_t dA ++ ry_t dB) cc nL own) (hM : rw_Mi l D (ry_t dB) (ry_w dB hy bd) y cc2 nL2 ret rm hy As sty post) (cw : CallW R s args own RX1 idx y cc2 nL2 ret (ws_ y cc2 nL2 ret) rm 0 0 n)
    (hn : As.length = n) (hstk : stk = As.reverse ++ .ref hy :: rest) (hW : (rest.map fun v => v.category).sum ≤ 8) (hd : decode cc pc = .ok (.invokevirtual idx, 3)) (hf : kc ≤ R.cells ∧ ks ≤ R.slots)
    (kk : ∀ (r : Int32) (u : rt_S), post r u → rw_W p l e R s m args below meth c D A nL kc ks Q (rx_w dA hx ad stx ++ ry_w dB hy bd u) lv (pc + 3) (.int r :: rest)) : rw_W p l e R s m args below meth c D A nL kc ks Q (rx_w dA hx ad stx ++ ry_w dB hy bd sty) lv pc stk := by
  intro H locs ls hP hD hS hl
  have hK := F.2.2.2.2.2.1
  have hA := F.2.2.2.2.2.2.1
  have hPc := hP.sub (ws' := ry_w dB hy bd sty) [12, 13, 14, 15, 16] rfl
  have hDc := hD.sub (ws' := ry_w dB hy bd sty) [12, 13, 14, 15, 16] (by decide) rfl
  have hKc := hK.sub (tys' := ry_t dB) [11, 12, 13, 14] rfl
  have hFc := va_free (wc := ry_w dB hy bd sty) hD hS hA [12, 13, 14, 15, 16] rfl
  refine va_calli (va_runV (As := As) (rest := rest) ⟨F.1, F.2.1, F.2.2.1, F.2.2.2.1, F.2.2.2.2.1⟩ (hM H.size) cw ⟨fun a U g mk q => ?_, va_recv hKc hPc (ci := 1) (q0 := 0) rfl rfl, fun U hU hW => ⟨rfl, by rw [hU], by rw [hU]; exact hPc, va_K.moved hW.alike hKc, hDc.weaken (fun _ _ _ _ => trivial)⟩⟩ rfl hn hl.1 hstk (lv_room hW) hd hf) hS (fun q _ h => hFc q h) hFc (fun r u t H1 locs1 ht hvm hp hB hz1 hk1 hS1 => ?_)
  · obtain ⟨q0, q1, qP, qK, qD⟩ := q
    exact ⟨q0, q1, qP, va_K.moved (u := U) (U := U.calling g mk a) (Vm.Alike.refl U.vm) qK, qD⟩
  · obtain ⟨hP1, hK1, hD1⟩ := hB
    rw [ht] at hP1
    obtain ⟨hP2, hD2⟩ := va_join (wr := rx_w dA hx ad stx) (w1 := ry_w dB hy bd u) hP hD [12, 13, 14, 15, 16] [0, 1, 2, 3, 4, 5, 6, 7, 8, 9, 10, 11] rfl rfl (by decide) (by decide) hk1 hFc hP1 hD1
    exact kk r u hp H1 locs1 ls hP2 hD2 hS1 hl
theorem sp_L_le (ok : Bool) (n : Nat) : sp_L ok n ≤ n + 1 := by cases ok <;> simp [sp_L]
set_option maxHeartbeats 4000000 in
set_option maxRecDepth 100000 in
/-- the law's loop at its head: i ints read, at most i states; class and reference hold the same states -/
theorem rl_loop (F : rw_F p s m #[Value.ref b] meth c D A (rx_t dA ++ ry_t dB) cL_law 4 R_law) (hL : L ≤ 256) (hX : va_X b L xs s s.heap) (hbl : b < s.heap.size) (hbA : ¬ A b)
    (hend : ∀ (ux uy : rt_S) (i : Nat), rw_W p l e room_1 s m #[Value.ref b] below meth c D A 4 17 466 Q (rx_w dA hx ad ux ++ ry_w dB hy bd uy) [some (.ref b), some (.ref hx), some (.ref hy), some (.int (nI i))] 502 []) :
    ∀ (n i : Nat) (hist : Nat → rt_S) (N : Nat) (ux uy : rt_S), i ≤ L → L < i + 4 * n → N ≤ i → rx_E hist N ux → ry_I hist N uy → rw_W p l e room_1 s m #[Value.ref b] below meth c D A 4 17 466 Q (rx_w dA hx ad ux ++ ry_w dB hy bd uy) [some (.ref b), some (.ref hx), some (.ref hy), some (.int (nI i))] 18 [] := by
  intro n
  induction n with
  | zero =>
    intro i hist N ux uy hi hn
    exact absurd hn (by omega)
  | succ n ih =>
    intro i hist N ux uy hi hn hN hE hI
    refine rw_iload_n F dL_law_18 rfl ?_
    refine rw_aload_n F dL_law_19 rfl ?_
    refine rl_len F hX hbl hbA dL_law_20 ?_
    refine rw_iconst (v := nI 4) F dL_law_21 (by decide) ?_
    refine rw_isub F dL_law_22 ?_
    refine rw_icmp_gt (tgt := 502) F dL_law_23 (by decide) (fun c23 => ?_) (fun c23 => ?_)
    · exact hend ux uy i
    have hc : ¬ L < i + 4 := fun z => c23 ((rt_lt_sub (by omega) (by omega) (by omega)).mpr z)
    have next : ∀ (hist2 : Nat → rt_S) (N2 : Nat) (ux2 uy2 : rt_S), N2 ≤ i + 4 → rx_E hist2 N2 ux2 → ry_I hist2 N2 uy2 → rw_W p l e room_1 s m #[Value.ref b] below meth c D A 4 17 466 Q (rx_w dA hx ad ux2 ++ ry_w dB hy bd uy2) [some (.ref b), some (.ref hx), some (.ref hy), some (.int (nI i))] 496 [] := by
      intro hist2 N2 ux2 uy2 hN2 hE2 hI2
      refine rw_iinc F dL_law_496 rfl (show _ = nI (i + 4) from nI_add i 4) (by decide) ?_
      refine rw_goto (tgt := 18) F dL_law_499 (by decide) ?_
      exact ih (i + 4) hist2 N2 ux2 uy2 (by omega) (by omega) hN2 hE2 hI2
    refine rw_aload_n F dL_law_26 rfl ?_
    refine rw_iload_n F dL_law_27 rfl ?_
    refine rl_ld F hX hbl hbA (j := i) rfl (by omega) (by omega) dL_law_28 ?_
    refine rw_bipush (v := nI 15) F dL_law_29 (by decide) ?_
    refine rw_iand F dL_law_31 ?_
    obtain ⟨j, hj, ej⟩ := pk_andE (xs i) (m := nI 15) 4 (by decide)
    refine rw_as ej ?_
    rcases (show j = 0 ∨ j = 1 ∨ j = 2 ∨ j = 3 ∨ j = 4 ∨ j = 5 ∨ j = 6 ∨ j = 7 ∨ j = 8 ∨ j = 9 ∨ 10 ≤ j by omega) with rfl | rfl | rfl | rfl | rfl | rfl | rfl | rfl | rfl | rfl | hj10
    · refine rl_tabIn (off := 56) (tgt := 88) F dL_law_32 (by decide) (by decide) (by decide) (by decide) ?_
      refine rw_aload_n F dL_law_88 rfl ?_
      refine rw_aload_n F dL_law_89 rfl ?_
      refine rw_iload_n F dL_law_90 rfl ?_
      refine rw_iconst (v := nI 1) F dL_law_91 (by decide) ?_
      refine rw_iadd F dL_law_92 ?_
      refine rl_ld F hX hbl hbA (nI_add i 1) (by omega) (by omega) dL_law_93 ?_
      refine rw_aload_n F dL_law_94 rfl ?_
      refine rw_iload_n F dL_law_95 rfl ?_
      refine rw_iconst (v := nI 2) F dL_law_96 (by decide) ?_
      refine rw_iadd F dL_law_97 ?_
      refine rl_ld F hX hbl hbA (nI_add i 2) (by omega) (by omega) dL_law_98 ?_
      refine rw_aload_n F dL_law_99 rfl ?_
      refine rw_iload_n F dL_law_100 rfl ?_
      refine rw_iconst (v := nI 3) F dL_law_101 (by decide) ?_
      refine rw_iadd F dL_law_102 ?_
      refine rl_ld F hX hbl hbA (nI_add i 3) (by omega) (by omega) dL_law_103 ?_
      refine rw_bool F dL_law_104 dL_law_107 dL_law_108 dL_law_111 rfl rfl (by decide) (by decide) rfl (decide (¬ xs (i + 3) = 0)) decide_eq_true_iff ?_
      refine rl_callx F (cX_enter hE (by omega) (xs (i + 1)) (xs (i + 2)) (decide (¬ xs (i + 3) = 0))) (cwV 3 F.2.2.2.2.1 (lw_V q76 q77 q78 q20 q79) rfl rfl rfl dd_X_enter ⟨Nat.le_of_ble_eq_true rfl, Nat.le_of_ble_eq_true rfl⟩) rfl rfl (Nat.le_of_ble_eq_true rfl) dL_law_112 ⟨Nat.le_of_ble_eq_true rfl, Nat.le_of_ble_eq_true rfl⟩ (fun r112 u112 h112 => ?_)
      refine rw_aload_n F dL_law_115 rfl ?_
      refine rw_aload_n F dL_law_116 rfl ?_
      refine rw_iload_n F dL_law_117 rfl ?_
      refine rw_iconst (v := nI 1) F dL_law_118 (by decide) ?_
      refine rw_iadd F dL_law_119 ?_
      refine rl_ld F hX hbl hbA (nI_add i 1) (by omega) (by omega) dL_law_120 ?_
      refine rw_aload_n F dL_law_121 rfl ?_
      refine rw_iload_n F dL_law_122 rfl ?_
      refine rw_iconst (v := nI 2) F dL_law_123 (by decide) ?_
      refine rw_iadd F dL_law_124 ?_
      refine rl_ld F hX hbl hbA (nI_add i 2) (by omega) (by omega) dL_law_125 ?_
      refine rw_aload_n F dL_law_126 rfl ?_
      refine rw_iload_n F dL_law_127 rfl ?_
      refine rw_iconst (v := nI 3) F dL_law_128 (by decide) ?_
      refine rw_iadd F dL_law_129 ?_
      refine rl_ld F hX hbl hbA (nI_add i 3) (by omega) (by omega) dL_law_130 ?_
      refine rw_bool F dL_law_131 dL_law_134 dL_law_135 dL_law_138 rfl rfl (by decide) (by decide) rfl (decide (¬ xs (i + 3) = 0)) decide_eq_true_iff ?_
      refine rl_cally F (cY_enter hI (by omega) (xs (i + 1)) (xs (i + 2)) (decide (¬ xs (i + 3) = 0))) (cwV 3 F.2.2.2.2.1 (lw_V q180 q181 q182 q21 q183) rfl rfl rfl dd_M_enter ⟨Nat.le_of_ble_eq_true rfl, Nat.le_of_ble_eq_true rfl⟩) rfl rfl (Nat.le_of_ble_eq_true rfl) dL_law_139 ⟨Nat.le_of_ble_eq_true rfl, Nat.le_of_ble_eq_true rfl⟩ (fun r139 u139 h139 => ?_)
      refine rw_icmp_eq (tgt := 496) F dL_law_142 (by decide) (fun c142 => ?_) (fun c142 => ?_)
      · exact next _ _ u112 u139 (Nat.le_trans (sp_L_le _ N) (by omega)) h112.2 h139.2
      · exact absurd (h112.1.trans h139.1.symm) c142
    · refine rl_tabIn (off := 115) (tgt := 147) F dL_law_32 (by decide) (by decide) (by decide) (by decide) ?_
      refine rw_aload_n F dL_law_147 rfl ?_
      refine rw_aload_n F dL_law_148 rfl ?_
      refine rw_iload_n F dL_law_149 rfl ?_
      refine rw_iconst (v := nI 1) F dL_law_150 (by decide) ?_
      refine rw_iadd F dL_law_151 ?_
      refine rl_ld F hX hbl hbA (nI_add i 1) (by omega) (by omega) dL_law_152 ?_
      refine rw_aload_n F dL_law_153 rfl ?_
      refine rw_iload_n F dL_law_154 rfl ?_
      refine rw_iconst (v := nI 2) F dL_law_155 (by decide) ?_
      refine rw_iadd F dL_law_156 ?_
      refine rl_ld F hX hbl hbA (nI_add i 2) (by omega) (by omega) dL_law_157 ?_
      refine rw_aload_n F dL_law_158 rfl ?_
      refine rw_iload_n F dL_law_159 rfl ?_
      refine rw_iconst (v := nI 3) F dL_law_160 (by decide) ?_
      refine rw_iadd F dL_law_161 ?_
      refine rl_ld F hX hbl hbA (nI_add i 3) (by omega) (by omega) dL_law_162 ?_
      refine rw_bool F dL_law_163 dL_law_166 dL_law_167 dL_law_170 rfl rfl (by decide) (by decide) rfl (decide (¬ xs (i + 3) = 0)) decide_eq_true_iff ?_
      refine rl_callx F (cX_nest hE (by omega) (xs (i + 1)) (xs (i + 2)) (decide (¬ xs (i + 3) = 0))) (cwV 3 F.2.2.2.2.1 (lw_V q100 q101 q102 q20 q103) rfl rfl rfl dd_X_nest ⟨Nat.le_of_ble_eq_true rfl, Nat.le_of_ble_eq_true rfl⟩) rfl rfl (Nat.le_of_ble_eq_true rfl) dL_law_171 ⟨Nat.le_of_ble_eq_true rfl, Nat.le_of_ble_eq_true rfl⟩ (fun r171 u171 h171 => ?_)
      refine rw_aload_n F dL_law_174 rfl ?_
      refine rw_aload_n F dL_law_175 rfl ?_
      refine rw_iload_n F dL_law_176 rfl ?_
      refine rw_iconst (v := nI 1) F dL_law_177 (by decide) ?_
      refine rw_iadd F dL_law_178 ?_
      refine rl_ld F hX hbl hbA (nI_add i 1) (by omega) (by omega) dL_law_179 ?_
      refine rw_aload_n F dL_law_180 rfl ?_
      refine rw_iload_n F dL_law_181 rfl ?_
      refine rw_iconst (v := nI 2) F dL_law_182 (by decide) ?_
      refine rw_iadd F dL_law_183 ?_
      refine rl_ld F hX hbl hbA (nI_add i 2) (by omega) (by omega) dL_law_184 ?_
      refine rw_aload_n F dL_law_185 rfl ?_
      refine rw_iload_n F dL_law_186 rfl ?_
      refine rw_iconst (v := nI 3) F dL_law_187 (by decide) ?_
      refine rw_iadd F dL_law_188 ?_
      refine rl_ld F hX hbl hbA (nI_add i 3) (by omega) (by omega) dL_law_189 ?_
      refine rw_bool F dL_law_190 dL_law_193 dL_law_194 dL_law_197 rfl rfl (by decide) (by decide) rfl (decide (¬ xs (i + 3) = 0)) decide_eq_true_iff ?_
      refine rl_cally F (cY_nest hI (by omega) (xs (i + 1)) (xs (i + 2)) (decide (¬ xs (i + 3) = 0))) (cwV 3 F.2.2.2.2.1 (lw_V q200 q201 q202 q21 q203) rfl rfl rfl dd_M_nest ⟨Nat.le_of_ble_eq_true rfl, Nat.le_of_ble_eq_true rfl⟩) rfl rfl (Nat.le_of_ble_eq_true rfl) dL_law_198 ⟨Nat.le_of_ble_eq_true rfl, Nat.le_of_ble_eq_true rfl⟩ (fun r198 u198 h198 => ?_)
      refine rw_icmp_eq (tgt := 496) F dL_law_201 (by decide) (fun c201 => ?_) (fun c201 => ?_)
      · exact next _ _ u171 u198 (Nat.le_trans (sp_L_le _ N) (by omega)) h171.2 h198.2
      · exact absurd (h171.1.trans h198.1.symm) c201
    · refine rl_tabIn (off := 174) (tgt := 206) F dL_law_32 (by decide) (by decide) (by decide) (by decide) ?_
      refine rw_aload_n F dL_law_206 rfl ?_
      refine rw_aload_n F dL_law_207 rfl ?_
      refine rw_iload_n F dL_law_208 rfl ?_
      refine rw_iconst (v := nI 1) F dL_law_209 (by decide) ?_
      refine rw_iadd F dL_law_210 ?_
      refine rl_ld F hX hbl hbA (nI_add i 1) (by omega) (by omega) dL_law_211 ?_
      refine rw_aload_n F dL_law_212 rfl ?_
      refine rw_iload_n F dL_law_213 rfl ?_
      refine rw_iconst (v := nI 2) F dL_law_214 (by decide) ?_
      refine rw_iadd F dL_law_215 ?_
      refine rl_ld F hX hbl hbA (nI_add i 2) (by omega) (by omega) dL_law_216 ?_
      refine rw_aload_n F dL_law_217 rfl ?_
      refine rw_iload_n F dL_law_218 rfl ?_
      refine rw_iconst (v := nI 3) F dL_law_219 (by decide) ?_
      refine rw_iadd F dL_law_220 ?_
      refine rl_ld F hX hbl hbA (nI_add i 3) (by omega) (by omega) dL_law_221 ?_
      refine rw_bool F dL_law_222 dL_law_225 dL_law_226 dL_law_229 rfl rfl (by decide) (by decide) rfl (decide (¬ xs (i + 3) = 0)) decide_eq_true_iff ?_
      refine rl_callx F (cX_rule hE (by omega) (xs (i + 1)) (xs (i + 2)) (decide (¬ xs (i + 3) = 0))) (cwV 3 F.2.2.2.2.1 (lw_V q104 q105 q106 q20 q107) rfl rfl rfl dd_X_rule ⟨Nat.le_of_ble_eq_true rfl, Nat.le_of_ble_eq_true rfl⟩) rfl rfl (Nat.le_of_ble_eq_true rfl) dL_law_230 ⟨Nat.le_of_ble_eq_true rfl, Nat.le_of_ble_eq_true rfl⟩ (fun r230 u230 h230 => ?_)
      refine rw_aload_n F dL_law_233 rfl ?_
      refine rw_aload_n F dL_law_234 rfl ?_
      refine rw_iload_n F dL_law_235 rfl ?_
      refine rw_iconst (v := nI 1) F dL_law_236 (by decide) ?_
      refine rw_iadd F dL_law_237 ?_
      refine rl_ld F hX hbl hbA (nI_add i 1) (by omega) (by omega) dL_law_238 ?_
      refine rw_aload_n F dL_law_239 rfl ?_
      refine rw_iload_n F dL_law_240 rfl ?_
      refine rw_iconst (v := nI 2) F dL_law_241 (by decide) ?_
      refine rw_iadd F dL_law_242 ?_
      refine rl_ld F hX hbl hbA (nI_add i 2) (by omega) (by omega) dL_law_243 ?_
      refine rw_aload_n F dL_law_244 rfl ?_
      refine rw_iload_n F dL_law_245 rfl ?_
      refine rw_iconst (v := nI 3) F dL_law_246 (by decide) ?_
      refine rw_iadd F dL_law_247 ?_
      refine rl_ld F hX hbl hbA (nI_add i 3) (by omega) (by omega) dL_law_248 ?_
      refine rw_bool F dL_law_249 dL_law_252 dL_law_253 dL_law_256 rfl rfl (by decide) (by decide) rfl (decide (¬ xs (i + 3) = 0)) decide_eq_true_iff ?_
      refine rl_cally F (cY_rule hI (by omega) (xs (i + 1)) (xs (i + 2)) (decide (¬ xs (i + 3) = 0))) (cwV 3 F.2.2.2.2.1 (lw_V q204 q205 q206 q21 q207) rfl rfl rfl dd_M_rule ⟨Nat.le_of_ble_eq_true rfl, Nat.le_of_ble_eq_true rfl⟩) rfl rfl (Nat.le_of_ble_eq_true rfl) dL_law_257 ⟨Nat.le_of_ble_eq_true rfl, Nat.le_of_ble_eq_true rfl⟩ (fun r257 u257 h257 => ?_)
      refine rw_icmp_eq (tgt := 496) F dL_law_260 (by decide) (fun c260 => ?_) (fun c260 => ?_)
      · exact next _ _ u230 u257 (Nat.le_trans (sp_L_le _ N) (by omega)) h230.2 h257.2
      · exact absurd (h230.1.trans h257.1.symm) c260
    · refine rl_tabIn (off := 233) (tgt := 265) F dL_law_32 (by decide) (by decide) (by decide) (by decide) ?_
      refine rw_aload_n F dL_law_265 rfl ?_
      refine rl_callx F cX_latest (cwV 0 F.2.2.2.2.1 (lw_V q108 q109 q110 q20 q111) rfl rfl rfl dd_X_latest ⟨Nat.le_of_ble_eq_true rfl, Nat.le_of_ble_eq_true rfl⟩) rfl rfl (Nat.le_of_ble_eq_true rfl) dL_law_266 ⟨Nat.le_of_ble_eq_true rfl, Nat.le_of_ble_eq_true rfl⟩ (fun r266 u266 h266 => ?_)
      refine rw_aload_n F dL_law_269 rfl ?_
      refine rl_cally F cY_latest (cwV 0 F.2.2.2.2.1 (lw_V q208 q209 q210 q21 q211) rfl rfl rfl dd_M_latest ⟨Nat.le_of_ble_eq_true rfl, Nat.le_of_ble_eq_true rfl⟩) rfl rfl (Nat.le_of_ble_eq_true rfl) dL_law_270 ⟨Nat.le_of_ble_eq_true rfl, Nat.le_of_ble_eq_true rfl⟩ (fun r270 u270 h270 => ?_)
      refine rw_icmp_eq (tgt := 496) F dL_law_273 (by decide) (fun c273 => ?_) (fun c273 => ?_)
      · exact next hist N u266 u270 (by omega) (h266.2 ▸ hE) (h270.2 ▸ hI)
      · obtain ⟨Ld, hI0⟩ := hE
        exact absurd (h266.1.trans ((rx_I4 hI0).trans (hI.2.1.symm.trans h270.1.symm))) c273
    · refine rl_tabIn (off := 246) (tgt := 278) F dL_law_32 (by decide) (by decide) (by decide) (by decide) ?_
      refine rw_aload_n F dL_law_278 rfl ?_
      refine rw_aload_n F dL_law_279 rfl ?_
      refine rw_iload_n F dL_law_280 rfl ?_
      refine rw_iconst (v := nI 1) F dL_law_281 (by decide) ?_
      refine rw_iadd F dL_law_282 ?_
      refine rl_ld F hX hbl hbA (nI_add i 1) (by omega) (by omega) dL_law_283 ?_
      refine rw_aload_n F dL_law_284 rfl ?_
      refine rw_iload_n F dL_law_285 rfl ?_
      refine rw_iconst (v := nI 2) F dL_law_286 (by decide) ?_
      refine rw_iadd F dL_law_287 ?_
      refine rl_ld F hX hbl hbA (nI_add i 2) (by omega) (by omega) dL_law_288 ?_
      refine rw_aload_n F dL_law_289 rfl ?_
      refine rw_iload_n F dL_law_290 rfl ?_
      refine rw_iconst (v := nI 3) F dL_law_291 (by decide) ?_
      refine rw_iadd F dL_law_292 ?_
      refine rl_ld F hX hbl hbA (nI_add i 3) (by omega) (by omega) dL_law_293 ?_
      refine rl_callx F (cX_check hE (xs (i + 1)) (xs (i + 2)) (xs (i + 3))) (cwV 3 F.2.2.2.2.1 (lw_V q112 q113 q114 q20 q115) rfl rfl rfl dd_X_check ⟨Nat.le_of_ble_eq_true rfl, Nat.le_of_ble_eq_true rfl⟩) rfl rfl (Nat.le_of_ble_eq_true rfl) dL_law_294 ⟨Nat.le_of_ble_eq_true rfl, Nat.le_of_ble_eq_true rfl⟩ (fun r294 u294 h294 => ?_)
      refine rw_aload_n F dL_law_297 rfl ?_
      refine rw_aload_n F dL_law_298 rfl ?_
      refine rw_iload_n F dL_law_299 rfl ?_
      refine rw_iconst (v := nI 1) F dL_law_300 (by decide) ?_
      refine rw_iadd F dL_law_301 ?_
      refine rl_ld F hX hbl hbA (nI_add i 1) (by omega) (by omega) dL_law_302 ?_
      refine rw_aload_n F dL_law_303 rfl ?_
      refine rw_iload_n F dL_law_304 rfl ?_
      refine rw_iconst (v := nI 2) F dL_law_305 (by decide) ?_
      refine rw_iadd F dL_law_306 ?_
      refine rl_ld F hX hbl hbA (nI_add i 2) (by omega) (by omega) dL_law_307 ?_
      refine rw_aload_n F dL_law_308 rfl ?_
      refine rw_iload_n F dL_law_309 rfl ?_
      refine rw_iconst (v := nI 3) F dL_law_310 (by decide) ?_
      refine rw_iadd F dL_law_311 ?_
      refine rl_ld F hX hbl hbA (nI_add i 3) (by omega) (by omega) dL_law_312 ?_
      refine rl_cally F (cY_check hI (xs (i + 1)) (xs (i + 2)) (xs (i + 3))) (cwV 3 F.2.2.2.2.1 (lw_V q212 q213 q214 q21 q215) rfl rfl rfl dd_M_check ⟨Nat.le_of_ble_eq_true rfl, Nat.le_of_ble_eq_true rfl⟩) rfl rfl (Nat.le_of_ble_eq_true rfl) dL_law_313 ⟨Nat.le_of_ble_eq_true rfl, Nat.le_of_ble_eq_true rfl⟩ (fun r313 u313 h313 => ?_)
      refine rw_icmp_eq (tgt := 496) F dL_law_316 (by decide) (fun c316 => ?_) (fun c316 => ?_)
      · exact next hist N u294 u313 (by omega) h294.2 h313.2
      · exact absurd (h294.1.trans h313.1.symm) c316
    · refine rl_tabIn (off := 289) (tgt := 321) F dL_law_32 (by decide) (by decide) (by decide) (by decide) ?_
      refine rw_aload_n F dL_law_321 rfl ?_
      refine rw_aload_n F dL_law_322 rfl ?_
      refine rw_iload_n F dL_law_323 rfl ?_
      refine rw_iconst (v := nI 1) F dL_law_324 (by decide) ?_
      refine rw_iadd F dL_law_325 ?_
      refine rl_ld F hX hbl hbA (nI_add i 1) (by omega) (by omega) dL_law_326 ?_
      refine rw_aload_n F dL_law_327 rfl ?_
      refine rw_iload_n F dL_law_328 rfl ?_
      refine rw_iconst (v := nI 2) F dL_law_329 (by decide) ?_
      refine rw_iadd F dL_law_330 ?_
      refine rl_ld F hX hbl hbA (nI_add i 2) (by omega) (by omega) dL_law_331 ?_
      refine rl_callx F (cX_members hE (xs (i + 1)) (xs (i + 2))) (cwV 2 F.2.2.2.2.1 (lw_V q138 q139 q140 q20 q141) rfl rfl rfl dd_X_members ⟨Nat.le_of_ble_eq_true rfl, Nat.le_of_ble_eq_true rfl⟩) rfl rfl (Nat.le_of_ble_eq_true rfl) dL_law_332 ⟨Nat.le_of_ble_eq_true rfl, Nat.le_of_ble_eq_true rfl⟩ (fun r332 u332 h332 => ?_)
      refine rw_aload_n F dL_law_335 rfl ?_
      refine rw_aload_n F dL_law_336 rfl ?_
      refine rw_iload_n F dL_law_337 rfl ?_
      refine rw_iconst (v := nI 1) F dL_law_338 (by decide) ?_
      refine rw_iadd F dL_law_339 ?_
      refine rl_ld F hX hbl hbA (nI_add i 1) (by omega) (by omega) dL_law_340 ?_
      refine rw_aload_n F dL_law_341 rfl ?_
      refine rw_iload_n F dL_law_342 rfl ?_
      refine rw_iconst (v := nI 2) F dL_law_343 (by decide) ?_
      refine rw_iadd F dL_law_344 ?_
      refine rl_ld F hX hbl hbA (nI_add i 2) (by omega) (by omega) dL_law_345 ?_
      refine rl_cally F (cY_members hI (xs (i + 1)) (xs (i + 2))) (cwV 2 F.2.2.2.2.1 (lw_V q236 q237 q238 q21 q239) rfl rfl rfl dd_M_members ⟨Nat.le_of_ble_eq_true rfl, Nat.le_of_ble_eq_true rfl⟩) rfl rfl (Nat.le_of_ble_eq_true rfl) dL_law_346 ⟨Nat.le_of_ble_eq_true rfl, Nat.le_of_ble_eq_true rfl⟩ (fun r346 u346 h346 => ?_)
      refine rw_icmp_eq (tgt := 496) F dL_law_349 (by decide) (fun c349 => ?_) (fun c349 => ?_)
      · exact next hist N u332 u346 (by omega) h332.2 h346.2
      · exact absurd (h332.1.trans h346.1.symm) c349
    · refine rl_tabIn (off := 322) (tgt := 354) F dL_law_32 (by decide) (by decide) (by decide) (by decide) ?_
      refine rw_aload_n F dL_law_354 rfl ?_
      refine rw_aload_n F dL_law_355 rfl ?_
      refine rw_iload_n F dL_law_356 rfl ?_
      refine rw_iconst (v := nI 1) F dL_law_357 (by decide) ?_
      refine rw_iadd F dL_law_358 ?_
      refine rl_ld F hX hbl hbA (nI_add i 1) (by omega) (by omega) dL_law_359 ?_
      refine rw_aload_n F dL_law_360 rfl ?_
      refine rw_iload_n F dL_law_361 rfl ?_
      refine rw_iconst (v := nI 2) F dL_law_362 (by decide) ?_
      refine rw_iadd F dL_law_363 ?_
      refine rl_ld F hX hbl hbA (nI_add i 2) (by omega) (by omega) dL_law_364 ?_
      refine rl_callx F (cX_groups hE (xs (i + 1)) (xs (i + 2))) (cwV 2 F.2.2.2.2.1 (lw_V q142 q143 q144 q20 q145) rfl rfl rfl dd_X_groups ⟨Nat.le_of_ble_eq_true rfl, Nat.le_of_ble_eq_true rfl⟩) rfl rfl (Nat.le_of_ble_eq_true rfl) dL_law_365 ⟨Nat.le_of_ble_eq_true rfl, Nat.le_of_ble_eq_true rfl⟩ (fun r365 u365 h365 => ?_)
      refine rw_aload_n F dL_law_368 rfl ?_
      refine rw_aload_n F dL_law_369 rfl ?_
      refine rw_iload_n F dL_law_370 rfl ?_
      refine rw_iconst (v := nI 1) F dL_law_371 (by decide) ?_
      refine rw_iadd F dL_law_372 ?_
      refine rl_ld F hX hbl hbA (nI_add i 1) (by omega) (by omega) dL_law_373 ?_
      refine rw_aload_n F dL_law_374 rfl ?_
      refine rw_iload_n F dL_law_375 rfl ?_
      refine rw_iconst (v := nI 2) F dL_law_376 (by decide) ?_
      refine rw_iadd F dL_law_377 ?_
      refine rl_ld F hX hbl hbA (nI_add i 2) (by omega) (by omega) dL_law_378 ?_
      refine rl_cally F (cY_groups hI (xs (i + 1)) (xs (i + 2))) (cwV 2 F.2.2.2.2.1 (lw_V q240 q241 q242 q21 q243) rfl rfl rfl dd_M_groups ⟨Nat.le_of_ble_eq_true rfl, Nat.le_of_ble_eq_true rfl⟩) rfl rfl (Nat.le_of_ble_eq_true rfl) dL_law_379 ⟨Nat.le_of_ble_eq_true rfl, Nat.le_of_ble_eq_true rfl⟩ (fun r379 u379 h379 => ?_)
      refine rw_icmp_eq (tgt := 496) F dL_law_382 (by decide) (fun c382 => ?_) (fun c382 => ?_)
      · exact next hist N u365 u379 (by omega) h365.2 h379.2
      · exact absurd (h365.1.trans h379.1.symm) c382
    · refine rl_tabIn (off := 355) (tgt := 387) F dL_law_32 (by decide) (by decide) (by decide) (by decide) ?_
      refine rw_aload_n F dL_law_387 rfl ?_
      refine rw_aload_n F dL_law_388 rfl ?_
      refine rw_iload_n F dL_law_389 rfl ?_
      refine rw_iconst (v := nI 1) F dL_law_390 (by decide) ?_
      refine rw_iadd F dL_law_391 ?_
      refine rl_ld F hX hbl hbA (nI_add i 1) (by omega) (by omega) dL_law_392 ?_
      refine rw_aload_n F dL_law_393 rfl ?_
      refine rw_iload_n F dL_law_394 rfl ?_
      refine rw_iconst (v := nI 2) F dL_law_395 (by decide) ?_
      refine rw_iadd F dL_law_396 ?_
      refine rl_ld F hX hbl hbA (nI_add i 2) (by omega) (by omega) dL_law_397 ?_
      refine rl_callx F (cX_sources hE (xs (i + 1)) (xs (i + 2))) (cwV 2 F.2.2.2.2.1 (lw_V q146 q147 q148 q20 q149) rfl rfl rfl dd_X_sources ⟨Nat.le_of_ble_eq_true rfl, Nat.le_of_ble_eq_true rfl⟩) rfl rfl (Nat.le_of_ble_eq_true rfl) dL_law_398 ⟨Nat.le_of_ble_eq_true rfl, Nat.le_of_ble_eq_true rfl⟩ (fun r398 u398 h398 => ?_)
      refine rw_aload_n F dL_law_401 rfl ?_
      refine rw_aload_n F dL_law_402 rfl ?_
      refine rw_iload_n F dL_law_403 rfl ?_
      refine rw_iconst (v := nI 1) F dL_law_404 (by decide) ?_
      refine rw_iadd F dL_law_405 ?_
      refine rl_ld F hX hbl hbA (nI_add i 1) (by omega) (by omega) dL_law_406 ?_
      refine rw_aload_n F dL_law_407 rfl ?_
      refine rw_iload_n F dL_law_408 rfl ?_
      refine rw_iconst (v := nI 2) F dL_law_409 (by decide) ?_
      refine rw_iadd F dL_law_410 ?_
      refine rl_ld F hX hbl hbA (nI_add i 2) (by omega) (by omega) dL_law_411 ?_
      refine rl_cally F (cY_sources hI (xs (i + 1)) (xs (i + 2))) (cwV 2 F.2.2.2.2.1 (lw_V q244 q245 q246 q21 q247) rfl rfl rfl dd_M_sources ⟨Nat.le_of_ble_eq_true rfl, Nat.le_of_ble_eq_true rfl⟩) rfl rfl (Nat.le_of_ble_eq_true rfl) dL_law_412 ⟨Nat.le_of_ble_eq_true rfl, Nat.le_of_ble_eq_true rfl⟩ (fun r412 u412 h412 => ?_)
      refine rw_icmp_eq (tgt := 496) F dL_law_415 (by decide) (fun c415 => ?_) (fun c415 => ?_)
      · exact next hist N u398 u412 (by omega) h398.2 h412.2
      · exact absurd (h398.1.trans h412.1.symm) c415
    · refine rl_tabIn (off := 388) (tgt := 420) F dL_law_32 (by decide) (by decide) (by decide) (by decide) ?_
      refine rw_aload_n F dL_law_420 rfl ?_
      refine rw_aload_n F dL_law_421 rfl ?_
      refine rw_iload_n F dL_law_422 rfl ?_
      refine rw_iconst (v := nI 1) F dL_law_423 (by decide) ?_
      refine rw_iadd F dL_law_424 ?_
      refine rl_ld F hX hbl hbA (nI_add i 1) (by omega) (by omega) dL_law_425 ?_
      refine rw_aload_n F dL_law_426 rfl ?_
      refine rw_iload_n F dL_law_427 rfl ?_
      refine rw_iconst (v := nI 2) F dL_law_428 (by decide) ?_
      refine rw_iadd F dL_law_429 ?_
      refine rl_ld F hX hbl hbA (nI_add i 2) (by omega) (by omega) dL_law_430 ?_
      refine rl_callx F (cX_changed hE (xs (i + 1)) (xs (i + 2))) (cwV 2 F.2.2.2.2.1 (lw_V q150 q151 q152 q20 q153) rfl rfl rfl dd_X_changed ⟨Nat.le_of_ble_eq_true rfl, Nat.le_of_ble_eq_true rfl⟩) rfl rfl (Nat.le_of_ble_eq_true rfl) dL_law_431 ⟨Nat.le_of_ble_eq_true rfl, Nat.le_of_ble_eq_true rfl⟩ (fun r431 u431 h431 => ?_)
      refine rw_aload_n F dL_law_434 rfl ?_
      refine rw_aload_n F dL_law_435 rfl ?_
      refine rw_iload_n F dL_law_436 rfl ?_
      refine rw_iconst (v := nI 1) F dL_law_437 (by decide) ?_
      refine rw_iadd F dL_law_438 ?_
      refine rl_ld F hX hbl hbA (nI_add i 1) (by omega) (by omega) dL_law_439 ?_
      refine rw_aload_n F dL_law_440 rfl ?_
      refine rw_iload_n F dL_law_441 rfl ?_
      refine rw_iconst (v := nI 2) F dL_law_442 (by decide) ?_
      refine rw_iadd F dL_law_443 ?_
      refine rl_ld F hX hbl hbA (nI_add i 2) (by omega) (by omega) dL_law_444 ?_
      refine rl_cally F (cY_changed hI (xs (i + 1)) (xs (i + 2))) (cwV 2 F.2.2.2.2.1 (lw_V q248 q249 q250 q21 q251) rfl rfl rfl dd_M_changed ⟨Nat.le_of_ble_eq_true rfl, Nat.le_of_ble_eq_true rfl⟩) rfl rfl (Nat.le_of_ble_eq_true rfl) dL_law_445 ⟨Nat.le_of_ble_eq_true rfl, Nat.le_of_ble_eq_true rfl⟩ (fun r445 u445 h445 => ?_)
      refine rw_icmp_eq (tgt := 496) F dL_law_448 (by decide) (fun c448 => ?_) (fun c448 => ?_)
      · exact next hist N u431 u445 (by omega) h431.2 h445.2
      · exact absurd (h431.1.trans h445.1.symm) c448
    · refine rl_tabIn (off := 421) (tgt := 453) F dL_law_32 (by decide) (by decide) (by decide) (by decide) ?_
      refine rw_aload_n F dL_law_453 rfl ?_
      refine rw_aload_n F dL_law_454 rfl ?_
      refine rw_iload_n F dL_law_455 rfl ?_
      refine rw_iconst (v := nI 1) F dL_law_456 (by decide) ?_
      refine rw_iadd F dL_law_457 ?_
      refine rl_ld F hX hbl hbA (nI_add i 1) (by omega) (by omega) dL_law_458 ?_
      refine rw_aload_n F dL_law_459 rfl ?_
      refine rw_iload_n F dL_law_460 rfl ?_
      refine rw_iconst (v := nI 2) F dL_law_461 (by decide) ?_
      refine rw_iadd F dL_law_462 ?_
      refine rl_ld F hX hbl hbA (nI_add i 2) (by omega) (by omega) dL_law_463 ?_
      refine rw_aload_n F dL_law_464 rfl ?_
      refine rw_iload_n F dL_law_465 rfl ?_
      refine rw_iconst (v := nI 3) F dL_law_466 (by decide) ?_
      refine rw_iadd F dL_law_467 ?_
      refine rl_ld F hX hbl hbA (nI_add i 3) (by omega) (by omega) dL_law_468 ?_
      refine rl_callx F (cX_since hE (xs (i + 1)) (xs (i + 2)) (xs (i + 3))) (cwV 3 F.2.2.2.2.1 (lw_V q154 q155 q156 q20 q157) rfl rfl rfl dd_X_since ⟨Nat.le_of_ble_eq_true rfl, Nat.le_of_ble_eq_true rfl⟩) rfl rfl (Nat.le_of_ble_eq_true rfl) dL_law_469 ⟨Nat.le_of_ble_eq_true rfl, Nat.le_of_ble_eq_true rfl⟩ (fun r469 u469 h469 => ?_)
      refine rw_aload_n F dL_law_472 rfl ?_
      refine rw_aload_n F dL_law_473 rfl ?_
      refine rw_iload_n F dL_law_474 rfl ?_
      refine rw_iconst (v := nI 1) F dL_law_475 (by decide) ?_
      refine rw_iadd F dL_law_476 ?_
      refine rl_ld F hX hbl hbA (nI_add i 1) (by omega) (by omega) dL_law_477 ?_
      refine rw_aload_n F dL_law_478 rfl ?_
      refine rw_iload_n F dL_law_479 rfl ?_
      refine rw_iconst (v := nI 2) F dL_law_480 (by decide) ?_
      refine rw_iadd F dL_law_481 ?_
      refine rl_ld F hX hbl hbA (nI_add i 2) (by omega) (by omega) dL_law_482 ?_
      refine rw_aload_n F dL_law_483 rfl ?_
      refine rw_iload_n F dL_law_484 rfl ?_
      refine rw_iconst (v := nI 3) F dL_law_485 (by decide) ?_
      refine rw_iadd F dL_law_486 ?_
      refine rl_ld F hX hbl hbA (nI_add i 3) (by omega) (by omega) dL_law_487 ?_
      refine rl_cally F (cY_since hI (xs (i + 1)) (xs (i + 2)) (xs (i + 3))) (cwV 3 F.2.2.2.2.1 (lw_V q253 q254 q255 q21 q256) rfl rfl rfl dd_M_since ⟨Nat.le_of_ble_eq_true rfl, Nat.le_of_ble_eq_true rfl⟩) rfl rfl (Nat.le_of_ble_eq_true rfl) dL_law_488 ⟨Nat.le_of_ble_eq_true rfl, Nat.le_of_ble_eq_true rfl⟩ (fun r488 u488 h488 => ?_)
      refine rw_icmp_eq (tgt := 496) F dL_law_491 (by decide) (fun c491 => ?_) (fun c491 => ?_)
      · exact next hist N u469 u488 (by omega) h469.2 h488.2
      · exact absurd (h469.1.trans h488.1.symm) c491
    · refine rl_tabOut (tgt := 496) F dL_law_32 (Or.inr (by rw [nI_toInt (by omega)]; omega)) (by decide) ?_
      exact next hist N ux uy (by omega) hE hI
end RL
end
section
/-! the law from its entry -/
set_option maxRecDepth 100000
theorem rt_start_x : rx_E (fun _ _ _ => 0) 0 (fun _ _ => 0) := ⟨0, ⟨by omega, Nat.le_refl 0, by omega, rt_n0.symm, fun _ _ _ => rfl, fun k hk => by omega, fun k _ => ⟨fun _ _ _ _ => b_0 _, fun _ _ _ _ => b_0 _⟩, fun g _ => Or.inl rfl⟩, rt_n0.symm⟩
theorem rt_start_y : ry_I (fun _ _ _ => 0) 0 (fun _ _ => 0) := ⟨by omega, rt_n0.symm, fun k _ _ => ⟨fun g _ => ⟨rfl, rfl⟩, fun r t _ _ => (b_0 _).trans (b_0 _).symm⟩⟩
theorem rx_o_ok : ∀ j, j < 14 → defaultValue (tyX0 j) = vp_V rx_o j := fun j hj => by
  rcases (show j = 0 ∨ j = 1 ∨ j = 2 ∨ j = 3 ∨ j = 4 ∨ j = 5 ∨ j = 6 ∨ j = 7 ∨ j = 8 ∨ j = 9 ∨ j = 10 ∨ j = 11 ∨ j = 12 ∨ j = 13 by omega) with rfl | rfl | rfl | rfl | rfl | rfl | rfl | rfl | rfl | rfl | rfl | rfl | rfl | rfl <;> rfl
theorem ry_o_ok : ∀ j, j < 5 → defaultValue (tyX1 j) = vp_V ry_o j := fun j hj => by
  rcases (show j = 0 ∨ j = 1 ∨ j = 2 ∨ j = 3 ∨ j = 4 by omega) with rfl | rfl | rfl | rfl | rfl <;> rfl
set_option maxHeartbeats 4000000 in
set_option maxRecDepth 100000 in
/-- from the entry, for every script of at most 256 ints, the law comes to its end with true -/
theorem whole_start {p : Program} {e : Env} {s : State} {m : MethodId} {below : List Frame} {meth : Method} {c : Code} (l : Launch) {b L : Nat} {xs : Nat → Int32} (hL : L ≤ 256) (C0 : lw_At p s m meth c b L xs) : W p l e room_1 s m #[Value.ref b] below meth c s.heap [] 0 0 (lw_Z below #[Value.ref b] s) (entryFrame m ([Value.ref b] : List Value).toArray 4) := by
  obtain ⟨hx, hb, hr, hml, hown, hts0, hX, hbl, hlocks, hgv⟩ := C0
  have hts : ∀ w ∈ lw_all, w.before #[Value.ref b] s = true := fun w h => hts0 w (lw_all_tbl h)
  have hA : ∀ q : Nat, s.heap.size ≤ q → (fun q : Nat => s.heap.size ≤ q) q := fun _ h => h
  have hbA : ¬ (fun q : Nat => s.heap.size ≤ q) b := Nat.not_le.mpr hbl
  obtain ⟨c0, iS0, hKn0⟩ := u_known (C := RX0) (T := TX0) (N := 14) (n := 14) hts in_X0 (hts _ q23)
  obtain ⟨c1, iS1, hKn1⟩ := u_known (C := RX1) (T := TX1) (N := 5) (n := 5) hts in_X1 (hts _ q159)
  obtain ⟨D, hKc⟩ : ∃ D : va_G, ∀ (k : Nat) (q : vw_C), vwCl[k]? = some q → u_Kn s q.1 q.2.1 q.2.2 (D.1 k) (D.2 k) := by
    refine ⟨(fun k => if k = 0 then c0 else c1, fun k => if k = 0 then iS0 else iS1), ?_⟩
    intro k q hq
    match k, hq with
    | 0, hq => cases hq; exact hKn0
    | 1, hq => cases hq; exact hKn1
    | k + 2, hq => simp [vwCl] at hq
  have hS : va_S (fun q : Nat => s.heap.size ≤ q) s.heap s.heap [] := va_S.rf
  have hK : va_K D vwCl [] s := ⟨hKc, fun k q h => by simp at h⟩
  have hP : va_P D vwCl [] s.heap := fun k q h => by simp at h
  have hD : va_D (fun q : Nat => s.heap.size ≤ q) [] := ⟨fun i j p q h => by simp at h, fun k q h => by simp at h⟩
  have hl := lv_entry ([.ref b]) (n := 4) (Nat.le_of_ble_eq_true rfl)
  rw [lg_entry_eq]
  generalize (lg_sl ([.ref b]) ++ List.replicate (4 - (lg_sl ([.ref b])).length) Slot.unset).toArray = ls at hl ⊢
  have hl : lv_has ls 4 [(0, .ref b)] := hl
  refine va_new (ci := 0) (fs := rx_o) (C := RX0) (T := TX0) (N := 14) hx hb hts in_X0 tyX0 tyX0_ok hown (hts _ q22) (hts _ q23) (hts _ q20) hK hP hD hS hA rfl rx_o_ok (Nat.le_of_ble_eq_true rfl) (Nat.le_of_ble_eq_true rfl) dL_law_0 (fun qx H hP hD hS => ?_)
  have hP : va_P D vwCl [(qx, .inr (0, rx_o))] H := hP
  have hD : va_D (fun q : Nat => s.heap.size ≤ q) [(qx, .inr (0, rx_o))] := hD
  refine lv_dup hx hb dL_law_3 rfl ?_
  have hFc := va_free (wc := [(qx, .inr (0, rx_o))]) hD hS hA [0] rfl
  refine va_callv (va_runI (As := []) (rest := [.ref qx]) ⟨hx, hb, hml, hown, hts⟩ (cX_init l D qx H.size) (cwI 0 hts (lw_meth q26) rfl rfl rfl (hts _ q20) (hts _ q24) (hts _ q25) rfl (by decide +kernel) ⟨Nat.le_of_ble_eq_true rfl, Nat.le_of_ble_eq_true rfl⟩) ⟨fun a U g mk q => by obtain ⟨q0, q1, qP, qK, qD⟩ := q; exact ⟨q0, q1, qP, va_K.moved (u := U) (U := U.calling g mk a) (Vm.Alike.refl U.vm) qK, qD⟩, fun U hU hW => ⟨rfl, by rw [hU], by rw [hU]; exact hP, va_K.moved hW.alike hK, hD.weaken (fun _ _ _ _ => trivial)⟩⟩ rfl rfl hl.1 rfl (lv_room (Nat.le_of_ble_eq_true rfl)) dL_law_4 ⟨Nat.le_of_ble_eq_true rfl, Nat.le_of_ble_eq_true rfl⟩) hS (fun q _ h => hFc q h) hFc (fun u t H1 locs ht hvm hw1 hB hz1 hk1 hS => ?_)
  obtain ⟨ad, dA⟩ := u
  obtain ⟨hP1, hK1, hD1⟩ := hB
  rw [ht] at hP1
  have hK : va_K D vwCl (rx_t dA) s := va_K.moved hvm.symm hK1
  have hP : va_P D vwCl (rx_w dA qx ad (fun _ _ => 0)) H1 := hP1
  have hD : va_D (fun q : Nat => s.heap.size ≤ q) (rx_w dA qx ad (fun _ _ => 0)) := hD1.weaken (fun k q _ h => hFc q.1 h)
  refine lv_astore_n (lv' := [(1, .ref qx), (0, .ref b)]) hx hb dL_law_7 rfl hl (by decide) rfl (fun ls hl => ?_)
  refine va_new (ci := 1) (fs := ry_o) (C := RX1) (T := TX1) (N := 5) hx hb hts in_X1 tyX1 tyX1_ok hown (hts _ q158) (hts _ q159) (hts _ q21) hK hP hD hS hA rfl ry_o_ok (Nat.le_of_ble_eq_true rfl) (Nat.le_of_ble_eq_true rfl) dL_law_8 (fun qy H hP hD hS => ?_)
  refine lv_dup hx hb dL_law_11 rfl ?_
  have hPc := hP.sub (ws' := [(qy, .inr (1, ry_o))]) [12] rfl
  have hDc := hD.sub (ws' := [(qy, .inr (1, ry_o))]) [12] (by decide) rfl
  have hKc := hK.sub (tys' := []) [] rfl
  have hFc := va_free (wc := [(qy, .inr (1, ry_o))]) hD hS hA [12] rfl
  refine va_callv (va_runI (As := []) (rest := [.ref qy]) ⟨hx, hb, hml, hown, hts⟩ (cY_init l D qy H.size) (cwI 0 hts (lw_meth q162) rfl rfl rfl (hts _ q21) (hts _ q160) (hts _ q161) rfl (by decide +kernel) ⟨Nat.le_of_ble_eq_true rfl, Nat.le_of_ble_eq_true rfl⟩) ⟨fun a U g mk q => by obtain ⟨q0, q1, qP, qK, qD⟩ := q; exact ⟨q0, q1, qP, va_K.moved (u := U) (U := U.calling g mk a) (Vm.Alike.refl U.vm) qK, qD⟩, fun U hU hW => ⟨rfl, by rw [hU], by rw [hU]; exact hPc, va_K.moved hW.alike hKc, hDc.weaken (fun _ _ _ _ => trivial)⟩⟩ rfl rfl hl.1 rfl (lv_room (Nat.le_of_ble_eq_true rfl)) dL_law_12 ⟨Nat.le_of_ble_eq_true rfl, Nat.le_of_ble_eq_true rfl⟩) hS (fun q _ h => hFc q h) hFc (fun u t H1 locs ht hvm hw1 hB hz1 hk1 hS => ?_)
  obtain ⟨bd, dB⟩ := u
  obtain ⟨hP1, hK1, hD1⟩ := hB
  rw [ht] at hP1
  have hK1 := va_K.moved hvm.symm hK1
  obtain ⟨hP, hD⟩ := va_join (wr := rx_w dA qx ad (fun _ _ => 0)) (w1 := ry_w dB qy bd (fun _ _ => 0)) hP hD [12] [0, 1, 2, 3, 4, 5, 6, 7, 8, 9, 10, 11] rfl rfl (by decide) (by decide) hk1 hFc hP1 hD1
  have hK : va_K D vwCl (rx_t dA ++ ry_t dB) s := hK.app hK1
  refine lv_astore_n (lv' := [(2, .ref qy), (1, .ref qx), (0, .ref b)]) hx hb dL_law_15 rfl hl (by decide) rfl (fun ls hl => ?_)
  refine lv_iconst (v := nI 0) hx hb dL_law_16 (by decide) ?_
  refine lv_istore_n (lv' := [(3, .int (nI 0)), (2, .ref qy), (1, .ref qx), (0, .ref b)]) hx hb dL_law_17 rfl hl (by decide) rfl (fun ls hl => ?_)
  have hlv : rw_lv ls 4 [some (.ref b), some (.ref qx), some (.ref qy), some (.int (nI 0))] := by
    refine ⟨hl.1, hl.2.1, fun i v h => ?_⟩
    match i, h with
    | 0, h => cases h; exact ⟨lv_at hl 3 rfl, rfl⟩
    | 1, h => cases h; exact ⟨lv_at hl 2 rfl, rfl⟩
    | 2, h => cases h; exact ⟨lv_at hl 1 rfl, rfl⟩
    | 3, h => cases h; exact ⟨lv_at hl 0 rfl, rfl⟩
    | i + 4, h => simp at h
  refine rl_loop (hx := qx) (hy := qy) (ad := ad) (bd := bd) (dA := dA) (dB := dB) ⟨hx, hb, hml, hown, hts, hK, hA, hlocks⟩ hL hX hbl hbA (fun ux uy i H locs ls hP hD hS hl => ?_) (L + 1) 0 (fun _ _ _ => 0) 0 (fun _ _ => 0) (fun _ _ => 0) (by omega) (by omega) (by omega) rt_start_x rt_start_y H1 locs ls hP hD hS hlv
  refine lv_iconst (v := 1) hx hb dL_law_502 (by decide) ?_
  refine va_forget hS.2.2 ?_
  refine W.widen (k := 600000) (n := 7290000) (by omega) (by omega) ?_
  exact lw_ret hx hb hr hlocks dL_law_503
end
section
set_option maxHeartbeats 4000000 in
theorem lw_walk (l : Launch) (b : Addr) (xs : List Int32) : MetFree l x (headSpec (Jvm.Cond.code x code maxLocals ret :: tables_1) room_1) (lw_P b xs) (fun _ _ _ _ _ => True) lw_Q := by
  refine MetFree.of_bodyS (code := code) (maxLocals := maxLocals) (ret := ret) (by decide) ?_ ?_
  · intro args s m h hn
    obtain ⟨meth, c, h1, h2, h3, h4, h5, h6, -, -⟩ := Cond.code_spec hn (atoms_spec (ws := Jvm.Cond.code x code maxLocals ret :: tables_1) h _ List.mem_cons_self)
    exact ⟨meth, c, h1, h2, h3, h4, h5, h6⟩
  · intro p e s m args below meth c s₁ B hml0 hP _
    obtain ⟨rfl, hx, hbd, hgv⟩ := hP
    obtain ⟨scr, harrAt, hlist, hof, hsmall⟩ := hx
    obtain ⟨hcb, hkn, -, -⟩ := State.arrayAt?_spec harrAt
    have hown : s.vm.findClass R_law = some m.cls := findClass_of_methodNamed B.named
    have hts0 : ∀ c ∈ (Jvm.Cond.code x code maxLocals ret :: tables_1), c.before #[Value.ref b] s = true := atoms_spec (ws := Jvm.Cond.code x code maxLocals ret :: tables_1) B.pre
    have hts : ∀ w ∈ lw_tbl, w.before #[Value.ref b] s = true := k2_hts_sels lw_privs (fun w hw => hts0 w (List.mem_cons_of_mem _ hw)) lw_privs_ok
    have hml : c.maxLocals = 4 := B.maxLocals_eq (hts0 _ List.mem_cons_self)
    have X₀ : Stand p l e room_1 s m #[Value.ref b] below meth c s₁ [] 0 0 := Stand.of_body B
    have hh0 : s₁.heap = s.heap := by rw [B.state]; rfl
    have hsz : scr.slots.size = xs.length := by rw [← Array.length_toList, hlist, List.length_map]
    have hval : ∀ j : Nat, j < xs.length → scr.slots[j]? = some (.int (xs.getD j 0)) := fun j hj => by
      rw [← Array.getElem?_toList, hlist]
      simp [hj]
    have hbl : b < s.heap.size := (Array.getElem?_eq_some_iff.mp hcb).1
    have hX : va_X b xs.length (fun j => xs.getD j 0) s s.heap := ⟨scr, hcb, hof, hkn, hsz, hval⟩
    have K : W p l e room_1 s m #[Value.ref b] below meth c s₁.heap [] 0 0 (lw_Z below #[Value.ref b] s) (entryFrame m ([Value.ref b] : List Value).toArray 4) := by
      rw [hh0]
      exact whole_start l hbd ⟨B.exec, B.bytes, B.returns, hml, hown, hts, hX, hbl, B.notSynchronized, hgv⟩
    obtain ⟨t, a1, o, b1, b2, b3⟩ := K s₁ rfl X₀
    exact ⟨t, o, a1, b1, b2, b3⟩
theorem lw_pre_spec {args : Array Value} {s : State} (h : (Jvm.Cond.and given_1 narrow_1).before args s = true) (hr : rest_1_c.before args s = true) : ∃ (b : Addr) (xs : List Int32), lw_P b xs args s := by
  have hs := flat_of_before _ h
  have hq := flat_of_before _ hr
  have hc : (Cond.count 1).before args s = true := hs _ (by decide +kernel)
  have harr : (Cond.arrayOf (.arg 0) .int).before args s = true := hs _ (by decide +kernel)
  have hle : (Cond.le (.length (.arg 0)) (.int 256)).before args s = true := hs _ (by decide +kernel)
  have hlen : (Cond.isInt (.length (.arg 0))).before args s = true := hq _ (by decide +kernel)
  have hall : (Cond.all (.arg 0) (.isInt (.elem (.arg 0) (.index 0)))).before args s = true := hq _ (by decide +kernel)
  obtain ⟨b, xs, hb, hx⟩ := State.ints_of_pre rfl harr hlen hall
  have hsm : xs.length < 2 ^ 31 := hx.choose_spec.2.2.2
  have hev : (Term.length (.arg 0)).eval args s none [] s = some (.int xs.length.toInt32) := hx.length_eval hb
  have hv := Cond.le_ints hev (show (Term.int 256).eval args s none [] s = some (.int 256) from rfl)
  have hd : xs.length.toInt32 ≤ 256 := by
    simpa [Cond.before, Cond.holds, hv] using hle
  have hN : xs.length ≤ 256 := (Int32.ofNat_le_ofNat hsm (by decide)).mp (show Int32.ofNat xs.length ≤ Int32.ofNat 256 from hd)
  exact ⟨b, xs, Cond.one_arg hc (show args[0]? = some (.ref b) from hb), hx, hN, h⟩
theorem lw_comes (l : Launch) : Comes l x (Jvm.Cond.code x code maxLocals ret :: tables_1) room_1 (fun tb e args s => Calls_1 tb e args s ∧ rest_1 tb e args s ∧ Pre_1 tb e args s)
    (fun _ _ args s o t => lw_Q args s o t) := by
  intro p e ha hc hk s m args below hf hfit hheap happ hpre
  obtain ⟨b, xs, hP⟩ := lw_pre_spec hpre.2.2 hpre.2.1
  obtain ⟨k, o, h1, h2, h3, hQ⟩ := lw_walk l b xs p e ha hc hk s m args below hf ((Spec.applies_iff_loose hf).mp happ).1 hP trivial
  exact ⟨k, o, h1, h2, h3, hQ⟩
theorem lw_frame {s t : State} {o : Outcome} {args : Array Value} (h : Framed s o t [] 600000 7290000) :
    Framed s o t (fieldLocs frame_1_writes args s ++ arrayLocs frame_1_arrays args s ++ staticLocs frame_1_statics s) 600000 7290000 := h
theorem lw_limb (L : Cond) (hL : ∀ (args : Array Value) (s t : State), L.after args s (.returned (some (.int 1))) t = true) :
    ArmFor flags0 classFile x code maxLocals ret World_1 tables_1 room_1 Calls_1 rest_1 Pre_1
      (fun tb e a s o t => postC L tb e a s o t ∧ Framed s o t (fieldLocs frame_1_writes a s ++ arrayLocs frame_1_arrays a s ++ staticLocs frame_1_statics s) 600000 7290000) := by
  intro l _ _ _ p e ha hc hk s m args below hf hfit hheap happ hpre
  obtain ⟨k, o, h1, h2, h3, rfl, hF⟩ := lw_comes l p e ha hc hk s m args below hf hfit hheap happ hpre
  exact ⟨k, _, h1, h2, h3, hL args s _, lw_frame hF⟩
theorem i_vc : Claimed_1_1 ∧ Claimed_1_2 := ⟨lw_limb limb_1_1 (fun args s t => by simp [limb_1_1, Cond.after, Cond.holds, Cond.value]), lw_limb limb_1_2 (fun args s t => Cond.after_iff.mpr (by
  first | (rw [show limb_1_2 = Cond.eq .result (.int 1) from rfl, Cond.eq_ints (x := 1) (y := 1) rfl rfl]; simp; done) | (simp [limb_1_2, Cond.value, Term.eval]; done)))⟩
end
