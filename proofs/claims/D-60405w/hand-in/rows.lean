section
-- ===== PART A: goes FIRST, ahead of the names: the tables' words, and 'selects' of the private methods out of them =====
/-- a private method of a class that the tables say can be made, by its rows of tables_1 -/
def lw_okq (q : MethodName × Nat) : Prop := (q.1.cls ≠ "java/lang/invoke/MethodHandle" ∧ q.1.cls ≠ "java/lang/invoke/VarHandle") ∧ Cond.instantiable q.1.cls q.2 ∈ tables_1 ∧ Cond.privateMethod q.1 ∈ tables_1 ∧ Cond.instanceMethod q.1 ∈ tables_1
set_option maxRecDepth 100000
theorem lw_t1 {w : Cond} (h : w ∈ tables_1_1) : w ∈ tables_1 := List.mem_append_left _ h
theorem lw_t2 {w : Cond} (h : w ∈ tables_1_2) : w ∈ tables_1 := List.mem_append_right _ h
theorem lw_p0 : lw_okq (⟨"SimilarDelta", "restored", "(II)I"⟩, 19) := ⟨⟨by decide +kernel, by decide +kernel⟩, lw_t1 (List.mem_of_getElem? (i := 4) rfl), lw_t1 (List.mem_of_getElem? (i := 96) rfl), lw_t1 (List.mem_of_getElem? (i := 97) rfl)⟩
theorem lw_p1 : lw_okq (⟨"SimilarDelta", "writeOut", "(I)V"⟩, 19) := ⟨⟨by decide +kernel, by decide +kernel⟩, lw_t1 (List.mem_of_getElem? (i := 4) rfl), lw_t1 (List.mem_of_getElem? (i := 100) rfl), lw_t1 (List.mem_of_getElem? (i := 101) rfl)⟩
theorem lw_p2 : lw_okq (⟨"SimilarDelta", "runProgram", "(I)V"⟩, 19) := ⟨⟨by decide +kernel, by decide +kernel⟩, lw_t1 (List.mem_of_getElem? (i := 4) rfl), lw_t1 (List.mem_of_getElem? (i := 104) rfl), lw_t1 (List.mem_of_getElem? (i := 105) rfl)⟩
theorem lw_p3 : lw_okq (⟨"SimilarDelta", "copyBytes", "(III)I"⟩, 19) := ⟨⟨by decide +kernel, by decide +kernel⟩, lw_t1 (List.mem_of_getElem? (i := 4) rfl), lw_t1 (List.mem_of_getElem? (i := 108) rfl), lw_t1 (List.mem_of_getElem? (i := 109) rfl)⟩
theorem lw_p4 : lw_okq (⟨"SimilarDelta", "boundary", "(II)Z"⟩, 19) := ⟨⟨by decide +kernel, by decide +kernel⟩, lw_t1 (List.mem_of_getElem? (i := 4) rfl), lw_t1 (List.mem_of_getElem? (i := 128) rfl), lw_t1 (List.mem_of_getElem? (i := 129) rfl)⟩
theorem lw_p5 : lw_okq (⟨"SimilarDelta", "keepChunk", "(II)I"⟩, 19) := ⟨⟨by decide +kernel, by decide +kernel⟩, lw_t1 (List.mem_of_getElem? (i := 4) rfl), lw_t1 (List.mem_of_getElem? (i := 132) rfl), lw_t1 (List.mem_of_getElem? (i := 133) rfl)⟩
theorem lw_p6 : lw_okq (⟨"SimilarDelta", "findEqual", "(II)I"⟩, 19) := ⟨⟨by decide +kernel, by decide +kernel⟩, lw_t1 (List.mem_of_getElem? (i := 4) rfl), lw_t1 (List.mem_of_getElem? (i := 136) rfl), lw_t1 (List.mem_of_getElem? (i := 137) rfl)⟩
theorem lw_p7 : lw_okq (⟨"SimilarDelta", "outIsFresh", "(I)Z"⟩, 19) := ⟨⟨by decide +kernel, by decide +kernel⟩, lw_t1 (List.mem_of_getElem? (i := 4) rfl), lw_t1 (List.mem_of_getElem? (i := 140) rfl), lw_t1 (List.mem_of_getElem? (i := 141) rfl)⟩
theorem lw_p8 : lw_okq (⟨"SimilarDelta", "leastWindow", "(III)I"⟩, 19) := ⟨⟨by decide +kernel, by decide +kernel⟩, lw_t1 (List.mem_of_getElem? (i := 4) rfl), lw_t1 (List.mem_of_getElem? (i := 145) rfl), lw_t1 (List.mem_of_getElem? (i := 146) rfl)⟩
theorem lw_p9 : lw_okq (⟨"SimilarDelta", "findSimilar", "(III)I"⟩, 19) := ⟨⟨by decide +kernel, by decide +kernel⟩, lw_t1 (List.mem_of_getElem? (i := 4) rfl), lw_t1 (List.mem_of_getElem? (i := 151) rfl), lw_t1 (List.mem_of_getElem? (i := 152) rfl)⟩
theorem lw_p10 : lw_okq (⟨"SimilarDelta", "basesBelow", "(I)I"⟩, 19) := ⟨⟨by decide +kernel, by decide +kernel⟩, lw_t1 (List.mem_of_getElem? (i := 4) rfl), lw_t1 (List.mem_of_getElem? (i := 155) rfl), lw_t1 (List.mem_of_getElem? (i := 156) rfl)⟩
theorem lw_p11 : lw_okq (⟨"SimilarDelta", "storeAgainst", "(III)V"⟩, 19) := ⟨⟨by decide +kernel, by decide +kernel⟩, lw_t1 (List.mem_of_getElem? (i := 4) rfl), lw_t1 (List.mem_of_getElem? (i := 159) rfl), lw_t1 (List.mem_of_getElem? (i := 160) rfl)⟩
theorem lw_p12 : lw_okq (⟨"SimilarDelta", "makeProgram", "(II)V"⟩, 19) := ⟨⟨by decide +kernel, by decide +kernel⟩, lw_t1 (List.mem_of_getElem? (i := 4) rfl), lw_t1 (List.mem_of_getElem? (i := 163) rfl), lw_t1 (List.mem_of_getElem? (i := 164) rfl)⟩
theorem lw_p13 : lw_okq (⟨"SimilarDelta", "matchLength", "(IIII)I"⟩, 19) := ⟨⟨by decide +kernel, by decide +kernel⟩, lw_t1 (List.mem_of_getElem? (i := 4) rfl), lw_t1 (List.mem_of_getElem? (i := 167) rfl), lw_t1 (List.mem_of_getElem? (i := 168) rfl)⟩
theorem lw_p14 : lw_okq (⟨"SimilarDelta", "release", "(I)V"⟩, 19) := ⟨⟨by decide +kernel, by decide +kernel⟩, lw_t1 (List.mem_of_getElem? (i := 4) rfl), lw_t1 (List.mem_of_getElem? (i := 175) rfl), lw_t1 (List.mem_of_getElem? (i := 176) rfl)⟩
theorem lw_p15 : lw_okq (⟨"SimilarDelta", "makeRaw", "(I)V"⟩, 19) := ⟨⟨by decide +kernel, by decide +kernel⟩, lw_t1 (List.mem_of_getElem? (i := 4) rfl), lw_t1 (List.mem_of_getElem? (i := 179) rfl), lw_t1 (List.mem_of_getElem? (i := 180) rfl)⟩
def lw_privs_1 : List (MethodName × Nat) := [(⟨"SimilarDelta", "restored", "(II)I"⟩, 19), (⟨"SimilarDelta", "writeOut", "(I)V"⟩, 19), (⟨"SimilarDelta", "runProgram", "(I)V"⟩, 19), (⟨"SimilarDelta", "copyBytes", "(III)I"⟩, 19), (⟨"SimilarDelta", "boundary", "(II)Z"⟩, 19), (⟨"SimilarDelta", "keepChunk", "(II)I"⟩, 19), (⟨"SimilarDelta", "findEqual", "(II)I"⟩, 19), (⟨"SimilarDelta", "outIsFresh", "(I)Z"⟩, 19), (⟨"SimilarDelta", "leastWindow", "(III)I"⟩, 19), (⟨"SimilarDelta", "findSimilar", "(III)I"⟩, 19), (⟨"SimilarDelta", "basesBelow", "(I)I"⟩, 19), (⟨"SimilarDelta", "storeAgainst", "(III)V"⟩, 19), (⟨"SimilarDelta", "makeProgram", "(II)V"⟩, 19), (⟨"SimilarDelta", "matchLength", "(IIII)I"⟩, 19), (⟨"SimilarDelta", "release", "(I)V"⟩, 19), (⟨"SimilarDelta", "makeRaw", "(I)V"⟩, 19)]
theorem lw_r1 : ∀ q ∈ lw_privs_1, lw_okq q := List.forall_mem_cons.mpr ⟨lw_p0, List.forall_mem_cons.mpr ⟨lw_p1, List.forall_mem_cons.mpr ⟨lw_p2, List.forall_mem_cons.mpr ⟨lw_p3, List.forall_mem_cons.mpr ⟨lw_p4, List.forall_mem_cons.mpr ⟨lw_p5, List.forall_mem_cons.mpr ⟨lw_p6, List.forall_mem_cons.mpr ⟨lw_p7, List.forall_mem_cons.mpr ⟨lw_p8, List.forall_mem_cons.mpr ⟨lw_p9, List.forall_mem_cons.mpr ⟨lw_p10, List.forall_mem_cons.mpr ⟨lw_p11, List.forall_mem_cons.mpr ⟨lw_p12, List.forall_mem_cons.mpr ⟨lw_p13, List.forall_mem_cons.mpr ⟨lw_p14, List.forall_mem_cons.mpr ⟨lw_p15, fun _ h => absurd h List.not_mem_nil⟩⟩⟩⟩⟩⟩⟩⟩⟩⟩⟩⟩⟩⟩⟩⟩
theorem lw_p16 : lw_okq (⟨"SimilarDeltaModel", "missing", "(I)I"⟩, 5) := ⟨⟨by decide +kernel, by decide +kernel⟩, lw_t1 (List.mem_of_getElem? (i := 204) rfl), lw_t2 (List.mem_of_getElem? (i := 3) rfl), lw_t2 (List.mem_of_getElem? (i := 4) rfl)⟩
def lw_privs_2 : List (MethodName × Nat) := [(⟨"SimilarDeltaModel", "missing", "(I)I"⟩, 5)]
theorem lw_r2 : ∀ q ∈ lw_privs_2, lw_okq q := List.forall_mem_cons.mpr ⟨lw_p16, fun _ h => absurd h List.not_mem_nil⟩
def lw_privs : List (MethodName × Nat) := lw_privs_1 ++ (lw_privs_2)
def lw_tbl : List Cond := k2_sels lw_privs ++ tables_1
theorem lw_privs_ok : ∀ q ∈ lw_privs, lw_okq q := by
  show ∀ q ∈ lw_privs_1 ++ (lw_privs_2), lw_okq q
  exact List.forall_mem_append.mpr ⟨lw_r1, lw_r2⟩
-- ===== ONE list of words for every method: the tables' words that hold all through a run =====
def lw_all : List Cond := lw_tbl.filter goodWord
/-- a word of the tables by its place: claim/WORDS.tsv -/
theorem lw_w {w : Cond} (i : Nat) (h : lw_tbl[i]? = some w) (g : goodWord w = true) : w ∈ lw_all := List.mem_filter.mpr ⟨List.mem_of_getElem? h, g⟩
theorem lw_all_tbl {w : Cond} (h : w ∈ lw_all) : w ∈ lw_tbl := (List.mem_filter.mp h).1
theorem lw_self : GoodIn lw_all lw_all := fun w h => ⟨h, good_of_word (List.mem_filter.mp h).2⟩
/-- a class's field words, by their places -/
theorem lw_in (ws : List Cond) (ps : List Nat) (hp : ws = ps.filterMap (fun i => lw_tbl[i]?)) (hg : ws.all goodWord = true) : ∀ w ∈ ws, w ∈ lw_all := by
  intro w h
  have h1 := List.all_eq_true.mp hg w h
  rw [hp] at h
  obtain ⟨i, -, hi⟩ := List.mem_filterMap.mp h
  exact lw_w i hi h1
/-- the words of a contract for the method y with code b, L locals, answer r -/
abbrev ws_ (y : MethodName) (b : ByteArray) (L : Nat) (r : Option FieldType) : List Cond := Cond.code y b L r :: lw_all
theorem lw_meth {y : MethodName} {b : ByteArray} {L : Nat} {r : Option FieldType} (h : Cond.code y b L r ∈ lw_all) : GoodIn lw_all (ws_ y b L r) := by
  intro w hw
  rcases List.mem_cons.mp hw with e | e
  · rw [e]
    exact lw_self _ h
  · exact lw_self _ e
theorem lw_app {a c : List Cond} (ha : ∀ w ∈ a, w ∈ lw_all) (hc : GoodIn lw_all c) : GoodIn lw_all (a ++ c) := by
  intro w hw
  rcases List.mem_append.mp hw with e | e
  · exact lw_self w (ha w e)
  · exact hc w e
/-- what a call through an object asks: cwV n hts (lw_V ..) -/
theorem lw_V {own : String} {idx : Nat} {C : String} {y : MethodName} {b : ByteArray} {L : Nat} {r : Option FieldType} (h1 : Cond.methodLink own idx y ∈ lw_all) (h2 : Cond.instanceMethod y ∈ lw_all) (h3 : Cond.selects C y y ∈ lw_all) (h4 : Cond.initialized C ∈ lw_all) (h5 : Cond.code y b L r ∈ lw_all) : GoodIn lw_all (wsV own idx C y (ws_ y b L r)) := by
  refine lw_app ?_ (lw_meth h5)
  intro w hw
  simp only [List.mem_cons, List.not_mem_nil, or_false] at hw
  rcases hw with e | e | e | e
  · rw [e]; exact h1
  · rw [e]; exact h2
  · rw [e]; exact h3
  · rw [e]; exact h4
/-- what a static call asks: va_cwS n hts (lw_S ..) -/
theorem lw_S {own : String} {idx : Nat} {y : MethodName} {b : ByteArray} {L : Nat} {r : Option FieldType} (h1 : Cond.methodLink own idx y ∈ lw_all) (h2 : Cond.static y ∈ lw_all) (h3 : Cond.initialized y.cls ∈ lw_all) (h4 : Cond.code y b L r ∈ lw_all) : GoodIn lw_all (va_wsS own idx y (ws_ y b L r)) := by
  refine lw_app ?_ (lw_meth h4)
  intro w hw
  simp only [List.mem_cons, List.not_mem_nil, or_false] at hw
  rcases hw with e | e | e
  · rw [e]; exact h1
  · rw [e]; exact h2
  · rw [e]; exact h3
/-- the words of a contract for a method WITH HANDLERS (hh: its table) -/
abbrev wsW_ (y : MethodName) (b : ByteArray) (L : Nat) (r : Option FieldType) (hh : List (Nat × Nat × Nat × Nat)) : List Cond := Cond.codeWith y b L r hh :: lw_all
theorem lw_methW {y : MethodName} {b : ByteArray} {L : Nat} {r : Option FieldType} {hh : List (Nat × Nat × Nat × Nat)} (h : Cond.codeWith y b L r hh ∈ lw_all) : GoodIn lw_all (wsW_ y b L r hh) := by
  intro w hw
  rcases List.mem_cons.mp hw with e | e
  · rw [e]
    exact lw_self _ h
  · exact lw_self _ e
/-- any list of words by their places (lw_in), good -/
theorem lw_good {ws : List Cond} (h : ∀ w ∈ ws, w ∈ lw_all) : GoodIn lw_all ws := fun w hw => lw_self w (h w hw)
/-- what a call of a method with handlers asks: vx_cwVW n hts (lw_VW ..), vx_cwSW n hts (lw_SW ..) -/
theorem lw_VW {own : String} {idx : Nat} {C : String} {y : MethodName} {b : ByteArray} {L : Nat} {r : Option FieldType} {hh : List (Nat × Nat × Nat × Nat)} (h1 : Cond.methodLink own idx y ∈ lw_all) (h2 : Cond.instanceMethod y ∈ lw_all) (h3 : Cond.selects C y y ∈ lw_all) (h4 : Cond.initialized C ∈ lw_all) (h5 : Cond.codeWith y b L r hh ∈ lw_all) : GoodIn lw_all (wsV own idx C y (wsW_ y b L r hh)) := by
  refine lw_app ?_ (lw_methW h5)
  intro w hw
  simp only [List.mem_cons, List.not_mem_nil, or_false] at hw
  rcases hw with e | e | e | e
  · rw [e]; exact h1
  · rw [e]; exact h2
  · rw [e]; exact h3
  · rw [e]; exact h4
theorem lw_SW {own : String} {idx : Nat} {y : MethodName} {b : ByteArray} {L : Nat} {r : Option FieldType} {hh : List (Nat × Nat × Nat × Nat)} (h1 : Cond.methodLink own idx y ∈ lw_all) (h2 : Cond.static y ∈ lw_all) (h3 : Cond.initialized y.cls ∈ lw_all) (h4 : Cond.codeWith y b L r hh ∈ lw_all) : GoodIn lw_all (va_wsS own idx y (wsW_ y b L r hh)) := by
  refine lw_app ?_ (lw_methW h4)
  intro w hw
  simp only [List.mem_cons, List.not_mem_nil, or_false] at hw
  rcases hw with e | e | e
  · rw [e]; exact h1
  · rw [e]; exact h2
  · rw [e]; exact h3
/-- a word by its place in its run of the tables -/
theorem lw_at {r : List Cond} (hr : ∀ w ∈ r, w ∈ lw_tbl) {w : Cond} (i : Nat) (h : r[i]? = some w) : w ∈ lw_tbl := hr w (List.mem_of_getElem? h)
theorem lw_g {w : Cond} (h : w ∈ lw_tbl) (g : goodWord w = true) : w ∈ lw_all := List.mem_filter.mpr ⟨h, g⟩
theorem lw_ms : ∀ w ∈ k2_sels lw_privs, w ∈ lw_tbl := fun w h => show w ∈ k2_sels lw_privs ++ tables_1 from List.mem_append_left _ h
theorem lw_m1 : ∀ w ∈ tables_1_1, w ∈ lw_tbl := fun w h => show w ∈ k2_sels lw_privs ++ tables_1 from List.mem_append_right (k2_sels lw_privs) (show w ∈ tables_1 from List.mem_append_left _ h)
theorem lw_m2 : ∀ w ∈ tables_1_2, w ∈ lw_tbl := fun w h => show w ∈ k2_sels lw_privs ++ tables_1 from List.mem_append_right (k2_sels lw_privs) (show w ∈ tables_1 from List.mem_append_right _ h)
theorem qs0 : (Cond.selects "SimilarDelta" ⟨"SimilarDelta", "restored", "(II)I"⟩ ⟨"SimilarDelta", "restored", "(II)I"⟩) ∈ lw_all := lw_g (lw_at lw_ms 0 rfl) rfl
theorem qs1 : (Cond.selects "SimilarDelta" ⟨"SimilarDelta", "writeOut", "(I)V"⟩ ⟨"SimilarDelta", "writeOut", "(I)V"⟩) ∈ lw_all := lw_g (lw_at lw_ms 1 rfl) rfl
theorem qs2 : (Cond.selects "SimilarDelta" ⟨"SimilarDelta", "runProgram", "(I)V"⟩ ⟨"SimilarDelta", "runProgram", "(I)V"⟩) ∈ lw_all := lw_g (lw_at lw_ms 2 rfl) rfl
theorem qs3 : (Cond.selects "SimilarDelta" ⟨"SimilarDelta", "copyBytes", "(III)I"⟩ ⟨"SimilarDelta", "copyBytes", "(III)I"⟩) ∈ lw_all := lw_g (lw_at lw_ms 3 rfl) rfl
theorem qs4 : (Cond.selects "SimilarDelta" ⟨"SimilarDelta", "boundary", "(II)Z"⟩ ⟨"SimilarDelta", "boundary", "(II)Z"⟩) ∈ lw_all := lw_g (lw_at lw_ms 4 rfl) rfl
theorem qs5 : (Cond.selects "SimilarDelta" ⟨"SimilarDelta", "keepChunk", "(II)I"⟩ ⟨"SimilarDelta", "keepChunk", "(II)I"⟩) ∈ lw_all := lw_g (lw_at lw_ms 5 rfl) rfl
theorem qs6 : (Cond.selects "SimilarDelta" ⟨"SimilarDelta", "findEqual", "(II)I"⟩ ⟨"SimilarDelta", "findEqual", "(II)I"⟩) ∈ lw_all := lw_g (lw_at lw_ms 6 rfl) rfl
theorem qs7 : (Cond.selects "SimilarDelta" ⟨"SimilarDelta", "outIsFresh", "(I)Z"⟩ ⟨"SimilarDelta", "outIsFresh", "(I)Z"⟩) ∈ lw_all := lw_g (lw_at lw_ms 7 rfl) rfl
theorem qs8 : (Cond.selects "SimilarDelta" ⟨"SimilarDelta", "leastWindow", "(III)I"⟩ ⟨"SimilarDelta", "leastWindow", "(III)I"⟩) ∈ lw_all := lw_g (lw_at lw_ms 8 rfl) rfl
theorem qs9 : (Cond.selects "SimilarDelta" ⟨"SimilarDelta", "findSimilar", "(III)I"⟩ ⟨"SimilarDelta", "findSimilar", "(III)I"⟩) ∈ lw_all := lw_g (lw_at lw_ms 9 rfl) rfl
theorem qs10 : (Cond.selects "SimilarDelta" ⟨"SimilarDelta", "basesBelow", "(I)I"⟩ ⟨"SimilarDelta", "basesBelow", "(I)I"⟩) ∈ lw_all := lw_g (lw_at lw_ms 10 rfl) rfl
theorem qs11 : (Cond.selects "SimilarDelta" ⟨"SimilarDelta", "storeAgainst", "(III)V"⟩ ⟨"SimilarDelta", "storeAgainst", "(III)V"⟩) ∈ lw_all := lw_g (lw_at lw_ms 11 rfl) rfl
theorem qs12 : (Cond.selects "SimilarDelta" ⟨"SimilarDelta", "makeProgram", "(II)V"⟩ ⟨"SimilarDelta", "makeProgram", "(II)V"⟩) ∈ lw_all := lw_g (lw_at lw_ms 12 rfl) rfl
theorem qs13 : (Cond.selects "SimilarDelta" ⟨"SimilarDelta", "matchLength", "(IIII)I"⟩ ⟨"SimilarDelta", "matchLength", "(IIII)I"⟩) ∈ lw_all := lw_g (lw_at lw_ms 13 rfl) rfl
theorem qs14 : (Cond.selects "SimilarDelta" ⟨"SimilarDelta", "release", "(I)V"⟩ ⟨"SimilarDelta", "release", "(I)V"⟩) ∈ lw_all := lw_g (lw_at lw_ms 14 rfl) rfl
theorem qs15 : (Cond.selects "SimilarDelta" ⟨"SimilarDelta", "makeRaw", "(I)V"⟩ ⟨"SimilarDelta", "makeRaw", "(I)V"⟩) ∈ lw_all := lw_g (lw_at lw_ms 15 rfl) rfl
theorem qs16 : (Cond.selects "SimilarDeltaModel" ⟨"SimilarDeltaModel", "missing", "(I)I"⟩ ⟨"SimilarDeltaModel", "missing", "(I)I"⟩) ∈ lw_all := lw_g (lw_at lw_ms 16 rfl) rfl
end
section
set_option maxRecDepth 100000
/-! java/lang/Object -/
def RJ0 : String := "java/lang/Object"
abbrev cJ0_init : ByteArray := object_method_1_code
def yJ0_init : MethodName := ⟨RJ0, "<init>", "()V"⟩
theorem q26 : (Jvm.Cond.instanceMethod ({ cls := "java/lang/Object", name := "<init>", desc := "()V" } : Jvm.MethodName)) ∈ lw_all := lw_g (lw_at lw_m1 9 rfl) rfl
theorem q27 : (Jvm.Cond.code ({ cls := "java/lang/Object", name := "<init>", desc := "()V" } : Jvm.MethodName) object_method_1_code (1 : Nat) (Option.none : Option Jvm.ClassFile.FieldType)) ∈ lw_all := lw_g (lw_at lw_m1 10 rfl) rfl
/-! SimilarDelta -/
def RX0 : String := "SimilarDelta"
def TX0 : u_T := fun k => match k with
  | 0 => ("SimilarDelta", "staged", "I", false)
  | 1 => ("SimilarDelta", "stage", "[I", true)
  | 2 => ("SimilarDelta", "saved", "[Z", true)
  | 3 => ("SimilarDelta", "parts", "[I", true)
  | 4 => ("SimilarDelta", "part", "[I", true)
  | 5 => ("SimilarDelta", "refs", "[I", true)
  | 6 => ("SimilarDelta", "size", "[I", true)
  | 7 => ("SimilarDelta", "base", "[I", true)
  | 8 => ("SimilarDelta", "cells", "[I", true)
  | 9 => ("SimilarDelta", "payload", "[I", true)
  | 10 => ("SimilarDelta", "print", "[I", true)
  | 11 => ("SimilarDelta", "featA", "[I", true)
  | 12 => ("SimilarDelta", "featB", "[I", true)
  | 13 => ("SimilarDelta", "fresh", "[I", true)
  | 14 => ("SimilarDelta", "out", "[I", true)
  | 15 => ("SimilarDelta", "under", "[I", true)
  | 16 => ("SimilarDelta", "program", "[I", true)
  | 17 => ("SimilarDelta", "programLen", "I", false)
  | _ => ("SimilarDelta", "chain", "[I", true)
def tyX0 : Nat → FieldType := fun k => match k with
  | 0 => .int
  | 1 => .array .int
  | 2 => .array .boolean
  | 3 => .array .int
  | 4 => .array .int
  | 5 => .array .int
  | 6 => .array .int
  | 7 => .array .int
  | 8 => .array .int
  | 9 => .array .int
  | 10 => .array .int
  | 11 => .array .int
  | 12 => .array .int
  | 13 => .array .int
  | 14 => .array .int
  | 15 => .array .int
  | 16 => .array .int
  | 17 => .int
  | _ => .array .int
abbrev wsX00 : List Cond := u_ws RX0 TX0 19
set_option maxRecDepth 100000 in
theorem nmX0 : ∀ a, a < 19 → ∀ b, b < 19 → a ≠ b → (TX0 a).2.1 ≠ (TX0 b).2.1 := by decide +kernel
set_option maxRecDepth 100000 in
theorem tyX0_ok : ∀ k, k < 19 → parseFieldDescriptor (TX0 k).2.2.1 = some (tyX0 k) := by decide +kernel
abbrev cX0_init : ByteArray := prog_1_method_1_code
def yX0_init : MethodName := ⟨RX0, "<init>", "()V"⟩
abbrev cX0_begin : ByteArray := prog_1_method_2_code
def yX0_begin : MethodName := ⟨RX0, "begin", "()V"⟩
abbrev cX0_feed : ByteArray := prog_1_method_3_code
def yX0_feed : MethodName := ⟨RX0, "feed", "(I)I"⟩
abbrev cX0_feedRun : ByteArray := prog_1_method_4_code
def yX0_feedRun : MethodName := ⟨RX0, "feedRun", "(III)I"⟩
abbrev cX0_feedFrom : ByteArray := prog_1_method_5_code
def yX0_feedFrom : MethodName := ⟨RX0, "feedFrom", "(III)I"⟩
abbrev cX0_length : ByteArray := prog_1_method_29_code
def yX0_length : MethodName := ⟨RX0, "length", "(I)I"⟩
abbrev cX0_badSlot : ByteArray := prog_1_method_9_code
def yX0_badSlot : MethodName := ⟨RX0, "badSlot", "(I)Z"⟩
abbrev cX0_restored : ByteArray := prog_1_method_30_code
def yX0_restored : MethodName := ⟨RX0, "restored", "(II)I"⟩
abbrev cX0_writeOut : ByteArray := prog_1_method_21_code
def yX0_writeOut : MethodName := ⟨RX0, "writeOut", "(I)V"⟩
abbrev cX0_runProgram : ByteArray := prog_1_method_22_code
def yX0_runProgram : MethodName := ⟨RX0, "runProgram", "(I)V"⟩
abbrev cX0_copyBytes : ByteArray := prog_1_method_23_code
def yX0_copyBytes : MethodName := ⟨RX0, "copyBytes", "(III)I"⟩
abbrev cX0_poke : ByteArray := prog_1_method_6_code
def yX0_poke : MethodName := ⟨RX0, "poke", "(II)I"⟩
abbrev cX0_insert : ByteArray := prog_1_method_7_code
def yX0_insert : MethodName := ⟨RX0, "insert", "(II)I"⟩
abbrev cX0_cut : ByteArray := prog_1_method_8_code
def yX0_cut : MethodName := ⟨RX0, "cut", "(II)I"⟩
abbrev cX0_save : ByteArray := prog_1_method_10_code
def yX0_save : MethodName := ⟨RX0, "save", "(I)I"⟩
abbrev cX0_boundary : ByteArray := prog_1_method_11_code
def yX0_boundary : MethodName := ⟨RX0, "boundary", "(II)Z"⟩
abbrev cX0_keepChunk : ByteArray := prog_1_method_12_code
def yX0_keepChunk : MethodName := ⟨RX0, "keepChunk", "(II)I"⟩
abbrev cX0_findEqual : ByteArray := prog_1_method_13_code
def yX0_findEqual : MethodName := ⟨RX0, "findEqual", "(II)I"⟩
abbrev cX0_outIsFresh : ByteArray := prog_1_method_14_code
def yX0_outIsFresh : MethodName := ⟨RX0, "outIsFresh", "(I)Z"⟩
abbrev cX0_leastWindow : ByteArray := prog_1_method_15_code
def yX0_leastWindow : MethodName := ⟨RX0, "leastWindow", "(III)I"⟩
abbrev cX0_findSimilar : ByteArray := prog_1_method_16_code
def yX0_findSimilar : MethodName := ⟨RX0, "findSimilar", "(III)I"⟩
abbrev cX0_basesBelow : ByteArray := prog_1_method_17_code
def yX0_basesBelow : MethodName := ⟨RX0, "basesBelow", "(I)I"⟩
abbrev cX0_storeAgainst : ByteArray := prog_1_method_18_code
def yX0_storeAgainst : MethodName := ⟨RX0, "storeAgainst", "(III)V"⟩
abbrev cX0_makeProgram : ByteArray := prog_1_method_19_code
def yX0_makeProgram : MethodName := ⟨RX0, "makeProgram", "(II)V"⟩
abbrev cX0_matchLength : ByteArray := prog_1_method_20_code
def yX0_matchLength : MethodName := ⟨RX0, "matchLength", "(IIII)I"⟩
abbrev cX0_drop : ByteArray := prog_1_method_24_code
def yX0_drop : MethodName := ⟨RX0, "drop", "(I)I"⟩
abbrev cX0_release : ByteArray := prog_1_method_25_code
def yX0_release : MethodName := ⟨RX0, "release", "(I)V"⟩
abbrev cX0_makeRaw : ByteArray := prog_1_method_26_code
def yX0_makeRaw : MethodName := ⟨RX0, "makeRaw", "(I)V"⟩
abbrev cX0_stageLength : ByteArray := prog_1_method_27_code
def yX0_stageLength : MethodName := ⟨RX0, "stageLength", "()I"⟩
abbrev cX0_stageByte : ByteArray := prog_1_method_28_code
def yX0_stageByte : MethodName := ⟨RX0, "stageByte", "(I)I"⟩
abbrev cX0_byteAt : ByteArray := prog_1_method_31_code
def yX0_byteAt : MethodName := ⟨RX0, "byteAt", "(II)I"⟩
abbrev cX0_sum : ByteArray := prog_1_method_32_code
def yX0_sum : MethodName := ⟨RX0, "sum", "(I)I"⟩
abbrev cX0_commonStart : ByteArray := prog_1_method_33_code
def yX0_commonStart : MethodName := ⟨RX0, "commonStart", "(II)I"⟩
theorem q18 : (Jvm.Cond.initialized "SimilarDelta") ∈ lw_all := lw_g (lw_at lw_m1 1 rfl) rfl
theorem q21 : (Jvm.Cond.instantiable "SimilarDelta" (19 : Nat)) ∈ lw_all := lw_g (lw_at lw_m1 4 rfl) rfl
theorem q23 : (Jvm.Cond.instanceMethod ({ cls := "SimilarDelta", name := "<init>", desc := "()V" } : Jvm.MethodName)) ∈ lw_all := lw_g (lw_at lw_m1 6 rfl) rfl
theorem q24 : (Jvm.Cond.code ({ cls := "SimilarDelta", name := "<init>", desc := "()V" } : Jvm.MethodName) prog_1_method_1_code (1 : Nat) (Option.none : Option Jvm.ClassFile.FieldType)) ∈ lw_all := lw_g (lw_at lw_m1 7 rfl) rfl
theorem q25 : (Jvm.Cond.methodLink "SimilarDelta" (1 : Nat) ({ cls := "java/lang/Object", name := "<init>", desc := "()V" } : Jvm.MethodName)) ∈ lw_all := lw_g (lw_at lw_m1 8 rfl) rfl
theorem q28 : (Jvm.Cond.fieldLink "SimilarDelta" (62 : Nat) "SimilarDelta" "staged" "I") ∈ lw_all := lw_g (lw_at lw_m1 11 rfl) rfl
theorem q29 : (Jvm.Cond.fieldLink "SimilarDelta" (7 : Nat) "SimilarDelta" "stage" "[I") ∈ lw_all := lw_g (lw_at lw_m1 12 rfl) rfl
theorem q30 : (Jvm.Cond.fieldLink "SimilarDelta" (13 : Nat) "SimilarDelta" "saved" "[Z") ∈ lw_all := lw_g (lw_at lw_m1 13 rfl) rfl
theorem q31 : (Jvm.Cond.fieldLink "SimilarDelta" (17 : Nat) "SimilarDelta" "parts" "[I") ∈ lw_all := lw_g (lw_at lw_m1 14 rfl) rfl
theorem q32 : (Jvm.Cond.fieldLink "SimilarDelta" (20 : Nat) "SimilarDelta" "part" "[I") ∈ lw_all := lw_g (lw_at lw_m1 15 rfl) rfl
theorem q33 : (Jvm.Cond.fieldLink "SimilarDelta" (23 : Nat) "SimilarDelta" "refs" "[I") ∈ lw_all := lw_g (lw_at lw_m1 16 rfl) rfl
theorem q34 : (Jvm.Cond.fieldLink "SimilarDelta" (26 : Nat) "SimilarDelta" "size" "[I") ∈ lw_all := lw_g (lw_at lw_m1 17 rfl) rfl
theorem q35 : (Jvm.Cond.fieldLink "SimilarDelta" (29 : Nat) "SimilarDelta" "base" "[I") ∈ lw_all := lw_g (lw_at lw_m1 18 rfl) rfl
theorem q36 : (Jvm.Cond.fieldLink "SimilarDelta" (32 : Nat) "SimilarDelta" "cells" "[I") ∈ lw_all := lw_g (lw_at lw_m1 19 rfl) rfl
theorem q37 : (Jvm.Cond.fieldLink "SimilarDelta" (35 : Nat) "SimilarDelta" "payload" "[I") ∈ lw_all := lw_g (lw_at lw_m1 20 rfl) rfl
theorem q38 : (Jvm.Cond.fieldLink "SimilarDelta" (38 : Nat) "SimilarDelta" "print" "[I") ∈ lw_all := lw_g (lw_at lw_m1 21 rfl) rfl
theorem q39 : (Jvm.Cond.fieldLink "SimilarDelta" (41 : Nat) "SimilarDelta" "featA" "[I") ∈ lw_all := lw_g (lw_at lw_m1 22 rfl) rfl
theorem q40 : (Jvm.Cond.fieldLink "SimilarDelta" (44 : Nat) "SimilarDelta" "featB" "[I") ∈ lw_all := lw_g (lw_at lw_m1 23 rfl) rfl
theorem q41 : (Jvm.Cond.fieldLink "SimilarDelta" (47 : Nat) "SimilarDelta" "fresh" "[I") ∈ lw_all := lw_g (lw_at lw_m1 24 rfl) rfl
theorem q42 : (Jvm.Cond.fieldLink "SimilarDelta" (50 : Nat) "SimilarDelta" "out" "[I") ∈ lw_all := lw_g (lw_at lw_m1 25 rfl) rfl
theorem q43 : (Jvm.Cond.fieldLink "SimilarDelta" (53 : Nat) "SimilarDelta" "under" "[I") ∈ lw_all := lw_g (lw_at lw_m1 26 rfl) rfl
theorem q44 : (Jvm.Cond.fieldLink "SimilarDelta" (56 : Nat) "SimilarDelta" "program" "[I") ∈ lw_all := lw_g (lw_at lw_m1 27 rfl) rfl
theorem q45 : (Jvm.Cond.fieldLink "SimilarDelta" (119 : Nat) "SimilarDelta" "programLen" "I") ∈ lw_all := lw_g (lw_at lw_m1 28 rfl) rfl
theorem q46 : (Jvm.Cond.fieldLink "SimilarDelta" (59 : Nat) "SimilarDelta" "chain" "[I") ∈ lw_all := lw_g (lw_at lw_m1 29 rfl) rfl
theorem q47 : (Jvm.Cond.lays "SimilarDelta" "SimilarDelta" "staged" "I") ∈ lw_all := lw_g (lw_at lw_m1 30 rfl) rfl
theorem q48 : (Jvm.Cond.soleField "SimilarDelta" "staged") ∈ lw_all := lw_g (lw_at lw_m1 31 rfl) rfl
theorem q49 : (Jvm.Cond.laysFinal "SimilarDelta" "SimilarDelta" "stage" "[I") ∈ lw_all := lw_g (lw_at lw_m1 32 rfl) rfl
theorem q50 : (Jvm.Cond.soleField "SimilarDelta" "stage") ∈ lw_all := lw_g (lw_at lw_m1 33 rfl) rfl
theorem q51 : (Jvm.Cond.laysFinal "SimilarDelta" "SimilarDelta" "saved" "[Z") ∈ lw_all := lw_g (lw_at lw_m1 34 rfl) rfl
theorem q52 : (Jvm.Cond.soleField "SimilarDelta" "saved") ∈ lw_all := lw_g (lw_at lw_m1 35 rfl) rfl
theorem q53 : (Jvm.Cond.laysFinal "SimilarDelta" "SimilarDelta" "parts" "[I") ∈ lw_all := lw_g (lw_at lw_m1 36 rfl) rfl
theorem q54 : (Jvm.Cond.soleField "SimilarDelta" "parts") ∈ lw_all := lw_g (lw_at lw_m1 37 rfl) rfl
theorem q55 : (Jvm.Cond.laysFinal "SimilarDelta" "SimilarDelta" "part" "[I") ∈ lw_all := lw_g (lw_at lw_m1 38 rfl) rfl
theorem q56 : (Jvm.Cond.soleField "SimilarDelta" "part") ∈ lw_all := lw_g (lw_at lw_m1 39 rfl) rfl
theorem q57 : (Jvm.Cond.laysFinal "SimilarDelta" "SimilarDelta" "refs" "[I") ∈ lw_all := lw_g (lw_at lw_m1 40 rfl) rfl
theorem q58 : (Jvm.Cond.soleField "SimilarDelta" "refs") ∈ lw_all := lw_g (lw_at lw_m1 41 rfl) rfl
theorem q59 : (Jvm.Cond.laysFinal "SimilarDelta" "SimilarDelta" "size" "[I") ∈ lw_all := lw_g (lw_at lw_m1 42 rfl) rfl
theorem q60 : (Jvm.Cond.soleField "SimilarDelta" "size") ∈ lw_all := lw_g (lw_at lw_m1 43 rfl) rfl
theorem q61 : (Jvm.Cond.laysFinal "SimilarDelta" "SimilarDelta" "base" "[I") ∈ lw_all := lw_g (lw_at lw_m1 44 rfl) rfl
theorem q62 : (Jvm.Cond.soleField "SimilarDelta" "base") ∈ lw_all := lw_g (lw_at lw_m1 45 rfl) rfl
theorem q63 : (Jvm.Cond.laysFinal "SimilarDelta" "SimilarDelta" "cells" "[I") ∈ lw_all := lw_g (lw_at lw_m1 46 rfl) rfl
theorem q64 : (Jvm.Cond.soleField "SimilarDelta" "cells") ∈ lw_all := lw_g (lw_at lw_m1 47 rfl) rfl
theorem q65 : (Jvm.Cond.laysFinal "SimilarDelta" "SimilarDelta" "payload" "[I") ∈ lw_all := lw_g (lw_at lw_m1 48 rfl) rfl
theorem q66 : (Jvm.Cond.soleField "SimilarDelta" "payload") ∈ lw_all := lw_g (lw_at lw_m1 49 rfl) rfl
theorem q67 : (Jvm.Cond.laysFinal "SimilarDelta" "SimilarDelta" "print" "[I") ∈ lw_all := lw_g (lw_at lw_m1 50 rfl) rfl
theorem q68 : (Jvm.Cond.soleField "SimilarDelta" "print") ∈ lw_all := lw_g (lw_at lw_m1 51 rfl) rfl
theorem q69 : (Jvm.Cond.laysFinal "SimilarDelta" "SimilarDelta" "featA" "[I") ∈ lw_all := lw_g (lw_at lw_m1 52 rfl) rfl
theorem q70 : (Jvm.Cond.soleField "SimilarDelta" "featA") ∈ lw_all := lw_g (lw_at lw_m1 53 rfl) rfl
theorem q71 : (Jvm.Cond.laysFinal "SimilarDelta" "SimilarDelta" "featB" "[I") ∈ lw_all := lw_g (lw_at lw_m1 54 rfl) rfl
theorem q72 : (Jvm.Cond.soleField "SimilarDelta" "featB") ∈ lw_all := lw_g (lw_at lw_m1 55 rfl) rfl
theorem q73 : (Jvm.Cond.laysFinal "SimilarDelta" "SimilarDelta" "fresh" "[I") ∈ lw_all := lw_g (lw_at lw_m1 56 rfl) rfl
theorem q74 : (Jvm.Cond.soleField "SimilarDelta" "fresh") ∈ lw_all := lw_g (lw_at lw_m1 57 rfl) rfl
theorem q75 : (Jvm.Cond.laysFinal "SimilarDelta" "SimilarDelta" "out" "[I") ∈ lw_all := lw_g (lw_at lw_m1 58 rfl) rfl
theorem q76 : (Jvm.Cond.soleField "SimilarDelta" "out") ∈ lw_all := lw_g (lw_at lw_m1 59 rfl) rfl
theorem q77 : (Jvm.Cond.laysFinal "SimilarDelta" "SimilarDelta" "under" "[I") ∈ lw_all := lw_g (lw_at lw_m1 60 rfl) rfl
theorem q78 : (Jvm.Cond.soleField "SimilarDelta" "under") ∈ lw_all := lw_g (lw_at lw_m1 61 rfl) rfl
theorem q79 : (Jvm.Cond.laysFinal "SimilarDelta" "SimilarDelta" "program" "[I") ∈ lw_all := lw_g (lw_at lw_m1 62 rfl) rfl
theorem q80 : (Jvm.Cond.soleField "SimilarDelta" "program") ∈ lw_all := lw_g (lw_at lw_m1 63 rfl) rfl
theorem q81 : (Jvm.Cond.lays "SimilarDelta" "SimilarDelta" "programLen" "I") ∈ lw_all := lw_g (lw_at lw_m1 64 rfl) rfl
theorem q82 : (Jvm.Cond.soleField "SimilarDelta" "programLen") ∈ lw_all := lw_g (lw_at lw_m1 65 rfl) rfl
theorem q83 : (Jvm.Cond.laysFinal "SimilarDelta" "SimilarDelta" "chain" "[I") ∈ lw_all := lw_g (lw_at lw_m1 66 rfl) rfl
theorem q84 : (Jvm.Cond.soleField "SimilarDelta" "chain") ∈ lw_all := lw_g (lw_at lw_m1 67 rfl) rfl
theorem q85 : (Jvm.Cond.superclass "SimilarDelta" "java/lang/Object") ∈ lw_all := lw_g (lw_at lw_m1 68 rfl) rfl
theorem q89 : (Jvm.Cond.instanceMethod ({ cls := "SimilarDelta", name := "begin", desc := "()V" } : Jvm.MethodName)) ∈ lw_all := lw_g (lw_at lw_m1 72 rfl) rfl
theorem q90 : (Jvm.Cond.selects "SimilarDelta" ({ cls := "SimilarDelta", name := "begin", desc := "()V" } : Jvm.MethodName) ({ cls := "SimilarDelta", name := "begin", desc := "()V" } : Jvm.MethodName)) ∈ lw_all := lw_g (lw_at lw_m1 73 rfl) rfl
theorem q91 : (Jvm.Cond.code ({ cls := "SimilarDelta", name := "begin", desc := "()V" } : Jvm.MethodName) prog_1_method_2_code (1 : Nat) (Option.none : Option Jvm.ClassFile.FieldType)) ∈ lw_all := lw_g (lw_at lw_m1 74 rfl) rfl
theorem q93 : (Jvm.Cond.instanceMethod ({ cls := "SimilarDelta", name := "feed", desc := "(I)I" } : Jvm.MethodName)) ∈ lw_all := lw_g (lw_at lw_m1 76 rfl) rfl
theorem q94 : (Jvm.Cond.selects "SimilarDelta" ({ cls := "SimilarDelta", name := "feed", desc := "(I)I" } : Jvm.MethodName) ({ cls := "SimilarDelta", name := "feed", desc := "(I)I" } : Jvm.MethodName)) ∈ lw_all := lw_g (lw_at lw_m1 77 rfl) rfl
theorem q95 : (Jvm.Cond.code ({ cls := "SimilarDelta", name := "feed", desc := "(I)I" } : Jvm.MethodName) prog_1_method_3_code (2 : Nat) (Option.some Jvm.ClassFile.FieldType.int)) ∈ lw_all := lw_g (lw_at lw_m1 78 rfl) rfl
theorem q97 : (Jvm.Cond.instanceMethod ({ cls := "SimilarDelta", name := "feedRun", desc := "(III)I" } : Jvm.MethodName)) ∈ lw_all := lw_g (lw_at lw_m1 80 rfl) rfl
theorem q98 : (Jvm.Cond.selects "SimilarDelta" ({ cls := "SimilarDelta", name := "feedRun", desc := "(III)I" } : Jvm.MethodName) ({ cls := "SimilarDelta", name := "feedRun", desc := "(III)I" } : Jvm.MethodName)) ∈ lw_all := lw_g (lw_at lw_m1 81 rfl) rfl
theorem q99 : (Jvm.Cond.code ({ cls := "SimilarDelta", name := "feedRun", desc := "(III)I" } : Jvm.MethodName) prog_1_method_4_code (7 : Nat) (Option.some Jvm.ClassFile.FieldType.int)) ∈ lw_all := lw_g (lw_at lw_m1 82 rfl) rfl
theorem q100 : (Jvm.Cond.methodLink "SimilarDelta" (66 : Nat) ({ cls := "SimilarDelta", name := "feed", desc := "(I)I" } : Jvm.MethodName)) ∈ lw_all := lw_g (lw_at lw_m1 83 rfl) rfl
theorem q102 : (Jvm.Cond.instanceMethod ({ cls := "SimilarDelta", name := "feedFrom", desc := "(III)I" } : Jvm.MethodName)) ∈ lw_all := lw_g (lw_at lw_m1 85 rfl) rfl
theorem q103 : (Jvm.Cond.selects "SimilarDelta" ({ cls := "SimilarDelta", name := "feedFrom", desc := "(III)I" } : Jvm.MethodName) ({ cls := "SimilarDelta", name := "feedFrom", desc := "(III)I" } : Jvm.MethodName)) ∈ lw_all := lw_g (lw_at lw_m1 86 rfl) rfl
theorem q104 : (Jvm.Cond.code ({ cls := "SimilarDelta", name := "feedFrom", desc := "(III)I" } : Jvm.MethodName) prog_1_method_5_code (7 : Nat) (Option.some Jvm.ClassFile.FieldType.int)) ∈ lw_all := lw_g (lw_at lw_m1 87 rfl) rfl
theorem q105 : (Jvm.Cond.methodLink "SimilarDelta" (70 : Nat) ({ cls := "SimilarDelta", name := "length", desc := "(I)I" } : Jvm.MethodName)) ∈ lw_all := lw_g (lw_at lw_m1 88 rfl) rfl
theorem q106 : (Jvm.Cond.instanceMethod ({ cls := "SimilarDelta", name := "length", desc := "(I)I" } : Jvm.MethodName)) ∈ lw_all := lw_g (lw_at lw_m1 89 rfl) rfl
theorem q107 : (Jvm.Cond.selects "SimilarDelta" ({ cls := "SimilarDelta", name := "length", desc := "(I)I" } : Jvm.MethodName) ({ cls := "SimilarDelta", name := "length", desc := "(I)I" } : Jvm.MethodName)) ∈ lw_all := lw_g (lw_at lw_m1 90 rfl) rfl
theorem q108 : (Jvm.Cond.code ({ cls := "SimilarDelta", name := "length", desc := "(I)I" } : Jvm.MethodName) prog_1_method_29_code (4 : Nat) (Option.some Jvm.ClassFile.FieldType.int)) ∈ lw_all := lw_g (lw_at lw_m1 91 rfl) rfl
theorem q109 : (Jvm.Cond.methodLink "SimilarDelta" (77 : Nat) ({ cls := "SimilarDelta", name := "badSlot", desc := "(I)Z" } : Jvm.MethodName)) ∈ lw_all := lw_g (lw_at lw_m1 92 rfl) rfl
theorem q110 : (Jvm.Cond.static ({ cls := "SimilarDelta", name := "badSlot", desc := "(I)Z" } : Jvm.MethodName)) ∈ lw_all := lw_g (lw_at lw_m1 93 rfl) rfl
theorem q111 : (Jvm.Cond.code ({ cls := "SimilarDelta", name := "badSlot", desc := "(I)Z" } : Jvm.MethodName) prog_1_method_9_code (1 : Nat) (Option.some Jvm.ClassFile.FieldType.boolean)) ∈ lw_all := lw_g (lw_at lw_m1 94 rfl) rfl
theorem q112 : (Jvm.Cond.methodLink "SimilarDelta" (73 : Nat) ({ cls := "SimilarDelta", name := "restored", desc := "(II)I" } : Jvm.MethodName)) ∈ lw_all := lw_g (lw_at lw_m1 95 rfl) rfl
theorem q113 : (Jvm.Cond.privateMethod ({ cls := "SimilarDelta", name := "restored", desc := "(II)I" } : Jvm.MethodName)) ∈ lw_tbl := lw_at lw_m1 96 rfl
theorem q114 : (Jvm.Cond.instanceMethod ({ cls := "SimilarDelta", name := "restored", desc := "(II)I" } : Jvm.MethodName)) ∈ lw_all := lw_g (lw_at lw_m1 97 rfl) rfl
theorem q115 : (Jvm.Cond.code ({ cls := "SimilarDelta", name := "restored", desc := "(II)I" } : Jvm.MethodName) prog_1_method_30_code (6 : Nat) (Option.some Jvm.ClassFile.FieldType.int)) ∈ lw_all := lw_g (lw_at lw_m1 98 rfl) rfl
theorem q116 : (Jvm.Cond.methodLink "SimilarDelta" (103 : Nat) ({ cls := "SimilarDelta", name := "writeOut", desc := "(I)V" } : Jvm.MethodName)) ∈ lw_all := lw_g (lw_at lw_m1 99 rfl) rfl
theorem q117 : (Jvm.Cond.privateMethod ({ cls := "SimilarDelta", name := "writeOut", desc := "(I)V" } : Jvm.MethodName)) ∈ lw_tbl := lw_at lw_m1 100 rfl
theorem q118 : (Jvm.Cond.instanceMethod ({ cls := "SimilarDelta", name := "writeOut", desc := "(I)V" } : Jvm.MethodName)) ∈ lw_all := lw_g (lw_at lw_m1 101 rfl) rfl
theorem q119 : (Jvm.Cond.code ({ cls := "SimilarDelta", name := "writeOut", desc := "(I)V" } : Jvm.MethodName) prog_1_method_21_code (5 : Nat) (Option.none : Option Jvm.ClassFile.FieldType)) ∈ lw_all := lw_g (lw_at lw_m1 102 rfl) rfl
theorem q120 : (Jvm.Cond.methodLink "SimilarDelta" (126 : Nat) ({ cls := "SimilarDelta", name := "runProgram", desc := "(I)V" } : Jvm.MethodName)) ∈ lw_all := lw_g (lw_at lw_m1 103 rfl) rfl
theorem q121 : (Jvm.Cond.privateMethod ({ cls := "SimilarDelta", name := "runProgram", desc := "(I)V" } : Jvm.MethodName)) ∈ lw_tbl := lw_at lw_m1 104 rfl
theorem q122 : (Jvm.Cond.instanceMethod ({ cls := "SimilarDelta", name := "runProgram", desc := "(I)V" } : Jvm.MethodName)) ∈ lw_all := lw_g (lw_at lw_m1 105 rfl) rfl
theorem q123 : (Jvm.Cond.code ({ cls := "SimilarDelta", name := "runProgram", desc := "(I)V" } : Jvm.MethodName) prog_1_method_22_code (5 : Nat) (Option.none : Option Jvm.ClassFile.FieldType)) ∈ lw_all := lw_g (lw_at lw_m1 106 rfl) rfl
theorem q124 : (Jvm.Cond.methodLink "SimilarDelta" (129 : Nat) ({ cls := "SimilarDelta", name := "copyBytes", desc := "(III)I" } : Jvm.MethodName)) ∈ lw_all := lw_g (lw_at lw_m1 107 rfl) rfl
theorem q125 : (Jvm.Cond.privateMethod ({ cls := "SimilarDelta", name := "copyBytes", desc := "(III)I" } : Jvm.MethodName)) ∈ lw_tbl := lw_at lw_m1 108 rfl
theorem q126 : (Jvm.Cond.instanceMethod ({ cls := "SimilarDelta", name := "copyBytes", desc := "(III)I" } : Jvm.MethodName)) ∈ lw_all := lw_g (lw_at lw_m1 109 rfl) rfl
theorem q127 : (Jvm.Cond.code ({ cls := "SimilarDelta", name := "copyBytes", desc := "(III)I" } : Jvm.MethodName) prog_1_method_23_code (6 : Nat) (Option.some Jvm.ClassFile.FieldType.int)) ∈ lw_all := lw_g (lw_at lw_m1 110 rfl) rfl
theorem q129 : (Jvm.Cond.instanceMethod ({ cls := "SimilarDelta", name := "poke", desc := "(II)I" } : Jvm.MethodName)) ∈ lw_all := lw_g (lw_at lw_m1 112 rfl) rfl
theorem q130 : (Jvm.Cond.selects "SimilarDelta" ({ cls := "SimilarDelta", name := "poke", desc := "(II)I" } : Jvm.MethodName) ({ cls := "SimilarDelta", name := "poke", desc := "(II)I" } : Jvm.MethodName)) ∈ lw_all := lw_g (lw_at lw_m1 113 rfl) rfl
theorem q131 : (Jvm.Cond.code ({ cls := "SimilarDelta", name := "poke", desc := "(II)I" } : Jvm.MethodName) prog_1_method_6_code (4 : Nat) (Option.some Jvm.ClassFile.FieldType.int)) ∈ lw_all := lw_g (lw_at lw_m1 114 rfl) rfl
theorem q133 : (Jvm.Cond.instanceMethod ({ cls := "SimilarDelta", name := "insert", desc := "(II)I" } : Jvm.MethodName)) ∈ lw_all := lw_g (lw_at lw_m1 116 rfl) rfl
theorem q134 : (Jvm.Cond.selects "SimilarDelta" ({ cls := "SimilarDelta", name := "insert", desc := "(II)I" } : Jvm.MethodName) ({ cls := "SimilarDelta", name := "insert", desc := "(II)I" } : Jvm.MethodName)) ∈ lw_all := lw_g (lw_at lw_m1 117 rfl) rfl
theorem q135 : (Jvm.Cond.code ({ cls := "SimilarDelta", name := "insert", desc := "(II)I" } : Jvm.MethodName) prog_1_method_7_code (4 : Nat) (Option.some Jvm.ClassFile.FieldType.int)) ∈ lw_all := lw_g (lw_at lw_m1 118 rfl) rfl
theorem q137 : (Jvm.Cond.instanceMethod ({ cls := "SimilarDelta", name := "cut", desc := "(II)I" } : Jvm.MethodName)) ∈ lw_all := lw_g (lw_at lw_m1 120 rfl) rfl
theorem q138 : (Jvm.Cond.selects "SimilarDelta" ({ cls := "SimilarDelta", name := "cut", desc := "(II)I" } : Jvm.MethodName) ({ cls := "SimilarDelta", name := "cut", desc := "(II)I" } : Jvm.MethodName)) ∈ lw_all := lw_g (lw_at lw_m1 121 rfl) rfl
theorem q139 : (Jvm.Cond.code ({ cls := "SimilarDelta", name := "cut", desc := "(II)I" } : Jvm.MethodName) prog_1_method_8_code (4 : Nat) (Option.some Jvm.ClassFile.FieldType.int)) ∈ lw_all := lw_g (lw_at lw_m1 122 rfl) rfl
theorem q141 : (Jvm.Cond.instanceMethod ({ cls := "SimilarDelta", name := "save", desc := "(I)I" } : Jvm.MethodName)) ∈ lw_all := lw_g (lw_at lw_m1 124 rfl) rfl
theorem q142 : (Jvm.Cond.selects "SimilarDelta" ({ cls := "SimilarDelta", name := "save", desc := "(I)I" } : Jvm.MethodName) ({ cls := "SimilarDelta", name := "save", desc := "(I)I" } : Jvm.MethodName)) ∈ lw_all := lw_g (lw_at lw_m1 125 rfl) rfl
theorem q143 : (Jvm.Cond.code ({ cls := "SimilarDelta", name := "save", desc := "(I)I" } : Jvm.MethodName) prog_1_method_10_code (5 : Nat) (Option.some Jvm.ClassFile.FieldType.int)) ∈ lw_all := lw_g (lw_at lw_m1 126 rfl) rfl
theorem q144 : (Jvm.Cond.methodLink "SimilarDelta" (81 : Nat) ({ cls := "SimilarDelta", name := "boundary", desc := "(II)Z" } : Jvm.MethodName)) ∈ lw_all := lw_g (lw_at lw_m1 127 rfl) rfl
theorem q145 : (Jvm.Cond.privateMethod ({ cls := "SimilarDelta", name := "boundary", desc := "(II)Z" } : Jvm.MethodName)) ∈ lw_tbl := lw_at lw_m1 128 rfl
theorem q146 : (Jvm.Cond.instanceMethod ({ cls := "SimilarDelta", name := "boundary", desc := "(II)Z" } : Jvm.MethodName)) ∈ lw_all := lw_g (lw_at lw_m1 129 rfl) rfl
theorem q147 : (Jvm.Cond.code ({ cls := "SimilarDelta", name := "boundary", desc := "(II)Z" } : Jvm.MethodName) prog_1_method_11_code (5 : Nat) (Option.some Jvm.ClassFile.FieldType.boolean)) ∈ lw_all := lw_g (lw_at lw_m1 130 rfl) rfl
theorem q148 : (Jvm.Cond.methodLink "SimilarDelta" (85 : Nat) ({ cls := "SimilarDelta", name := "keepChunk", desc := "(II)I" } : Jvm.MethodName)) ∈ lw_all := lw_g (lw_at lw_m1 131 rfl) rfl
theorem q149 : (Jvm.Cond.privateMethod ({ cls := "SimilarDelta", name := "keepChunk", desc := "(II)I" } : Jvm.MethodName)) ∈ lw_tbl := lw_at lw_m1 132 rfl
theorem q150 : (Jvm.Cond.instanceMethod ({ cls := "SimilarDelta", name := "keepChunk", desc := "(II)I" } : Jvm.MethodName)) ∈ lw_all := lw_g (lw_at lw_m1 133 rfl) rfl
theorem q151 : (Jvm.Cond.code ({ cls := "SimilarDelta", name := "keepChunk", desc := "(II)I" } : Jvm.MethodName) prog_1_method_12_code (9 : Nat) (Option.some Jvm.ClassFile.FieldType.int)) ∈ lw_all := lw_g (lw_at lw_m1 134 rfl) rfl
theorem q152 : (Jvm.Cond.methodLink "SimilarDelta" (88 : Nat) ({ cls := "SimilarDelta", name := "findEqual", desc := "(II)I" } : Jvm.MethodName)) ∈ lw_all := lw_g (lw_at lw_m1 135 rfl) rfl
theorem q153 : (Jvm.Cond.privateMethod ({ cls := "SimilarDelta", name := "findEqual", desc := "(II)I" } : Jvm.MethodName)) ∈ lw_tbl := lw_at lw_m1 136 rfl
theorem q154 : (Jvm.Cond.instanceMethod ({ cls := "SimilarDelta", name := "findEqual", desc := "(II)I" } : Jvm.MethodName)) ∈ lw_all := lw_g (lw_at lw_m1 137 rfl) rfl
theorem q155 : (Jvm.Cond.code ({ cls := "SimilarDelta", name := "findEqual", desc := "(II)I" } : Jvm.MethodName) prog_1_method_13_code (4 : Nat) (Option.some Jvm.ClassFile.FieldType.int)) ∈ lw_all := lw_g (lw_at lw_m1 138 rfl) rfl
theorem q156 : (Jvm.Cond.methodLink "SimilarDelta" (107 : Nat) ({ cls := "SimilarDelta", name := "outIsFresh", desc := "(I)Z" } : Jvm.MethodName)) ∈ lw_all := lw_g (lw_at lw_m1 139 rfl) rfl
theorem q157 : (Jvm.Cond.privateMethod ({ cls := "SimilarDelta", name := "outIsFresh", desc := "(I)Z" } : Jvm.MethodName)) ∈ lw_tbl := lw_at lw_m1 140 rfl
theorem q158 : (Jvm.Cond.instanceMethod ({ cls := "SimilarDelta", name := "outIsFresh", desc := "(I)Z" } : Jvm.MethodName)) ∈ lw_all := lw_g (lw_at lw_m1 141 rfl) rfl
theorem q159 : (Jvm.Cond.code ({ cls := "SimilarDelta", name := "outIsFresh", desc := "(I)Z" } : Jvm.MethodName) prog_1_method_14_code (3 : Nat) (Option.some Jvm.ClassFile.FieldType.boolean)) ∈ lw_all := lw_g (lw_at lw_m1 142 rfl) rfl
theorem q160 : (Jvm.Cond.constant "SimilarDelta" (91 : Nat) (40503 : Int32)) ∈ lw_all := lw_g (lw_at lw_m1 143 rfl) rfl
theorem q161 : (Jvm.Cond.methodLink "SimilarDelta" (92 : Nat) ({ cls := "SimilarDelta", name := "leastWindow", desc := "(III)I" } : Jvm.MethodName)) ∈ lw_all := lw_g (lw_at lw_m1 144 rfl) rfl
theorem q162 : (Jvm.Cond.privateMethod ({ cls := "SimilarDelta", name := "leastWindow", desc := "(III)I" } : Jvm.MethodName)) ∈ lw_tbl := lw_at lw_m1 145 rfl
theorem q163 : (Jvm.Cond.instanceMethod ({ cls := "SimilarDelta", name := "leastWindow", desc := "(III)I" } : Jvm.MethodName)) ∈ lw_all := lw_g (lw_at lw_m1 146 rfl) rfl
theorem q164 : (Jvm.Cond.code ({ cls := "SimilarDelta", name := "leastWindow", desc := "(III)I" } : Jvm.MethodName) prog_1_method_15_code (9 : Nat) (Option.some Jvm.ClassFile.FieldType.int)) ∈ lw_all := lw_g (lw_at lw_m1 147 rfl) rfl
theorem q165 : (Jvm.Cond.constant "SimilarDelta" (110 : Nat) (2147483647 : Int32)) ∈ lw_all := lw_g (lw_at lw_m1 148 rfl) rfl
theorem q166 : (Jvm.Cond.constant "SimilarDelta" (111 : Nat) (1048575 : Int32)) ∈ lw_all := lw_g (lw_at lw_m1 149 rfl) rfl
theorem q167 : (Jvm.Cond.methodLink "SimilarDelta" (96 : Nat) ({ cls := "SimilarDelta", name := "findSimilar", desc := "(III)I" } : Jvm.MethodName)) ∈ lw_all := lw_g (lw_at lw_m1 150 rfl) rfl
theorem q168 : (Jvm.Cond.privateMethod ({ cls := "SimilarDelta", name := "findSimilar", desc := "(III)I" } : Jvm.MethodName)) ∈ lw_tbl := lw_at lw_m1 151 rfl
theorem q169 : (Jvm.Cond.instanceMethod ({ cls := "SimilarDelta", name := "findSimilar", desc := "(III)I" } : Jvm.MethodName)) ∈ lw_all := lw_g (lw_at lw_m1 152 rfl) rfl
theorem q170 : (Jvm.Cond.code ({ cls := "SimilarDelta", name := "findSimilar", desc := "(III)I" } : Jvm.MethodName) prog_1_method_16_code (6 : Nat) (Option.some Jvm.ClassFile.FieldType.int)) ∈ lw_all := lw_g (lw_at lw_m1 153 rfl) rfl
theorem q171 : (Jvm.Cond.methodLink "SimilarDelta" (112 : Nat) ({ cls := "SimilarDelta", name := "basesBelow", desc := "(I)I" } : Jvm.MethodName)) ∈ lw_all := lw_g (lw_at lw_m1 154 rfl) rfl
theorem q172 : (Jvm.Cond.privateMethod ({ cls := "SimilarDelta", name := "basesBelow", desc := "(I)I" } : Jvm.MethodName)) ∈ lw_tbl := lw_at lw_m1 155 rfl
theorem q173 : (Jvm.Cond.instanceMethod ({ cls := "SimilarDelta", name := "basesBelow", desc := "(I)I" } : Jvm.MethodName)) ∈ lw_all := lw_g (lw_at lw_m1 156 rfl) rfl
theorem q174 : (Jvm.Cond.code ({ cls := "SimilarDelta", name := "basesBelow", desc := "(I)I" } : Jvm.MethodName) prog_1_method_17_code (4 : Nat) (Option.some Jvm.ClassFile.FieldType.int)) ∈ lw_all := lw_g (lw_at lw_m1 157 rfl) rfl
theorem q175 : (Jvm.Cond.methodLink "SimilarDelta" (99 : Nat) ({ cls := "SimilarDelta", name := "storeAgainst", desc := "(III)V" } : Jvm.MethodName)) ∈ lw_all := lw_g (lw_at lw_m1 158 rfl) rfl
theorem q176 : (Jvm.Cond.privateMethod ({ cls := "SimilarDelta", name := "storeAgainst", desc := "(III)V" } : Jvm.MethodName)) ∈ lw_tbl := lw_at lw_m1 159 rfl
theorem q177 : (Jvm.Cond.instanceMethod ({ cls := "SimilarDelta", name := "storeAgainst", desc := "(III)V" } : Jvm.MethodName)) ∈ lw_all := lw_g (lw_at lw_m1 160 rfl) rfl
theorem q178 : (Jvm.Cond.code ({ cls := "SimilarDelta", name := "storeAgainst", desc := "(III)V" } : Jvm.MethodName) prog_1_method_18_code (5 : Nat) (Option.none : Option Jvm.ClassFile.FieldType)) ∈ lw_all := lw_g (lw_at lw_m1 161 rfl) rfl
theorem q179 : (Jvm.Cond.methodLink "SimilarDelta" (115 : Nat) ({ cls := "SimilarDelta", name := "makeProgram", desc := "(II)V" } : Jvm.MethodName)) ∈ lw_all := lw_g (lw_at lw_m1 162 rfl) rfl
theorem q180 : (Jvm.Cond.privateMethod ({ cls := "SimilarDelta", name := "makeProgram", desc := "(II)V" } : Jvm.MethodName)) ∈ lw_tbl := lw_at lw_m1 163 rfl
theorem q181 : (Jvm.Cond.instanceMethod ({ cls := "SimilarDelta", name := "makeProgram", desc := "(II)V" } : Jvm.MethodName)) ∈ lw_all := lw_g (lw_at lw_m1 164 rfl) rfl
theorem q182 : (Jvm.Cond.code ({ cls := "SimilarDelta", name := "makeProgram", desc := "(II)V" } : Jvm.MethodName) prog_1_method_19_code (8 : Nat) (Option.none : Option Jvm.ClassFile.FieldType)) ∈ lw_all := lw_g (lw_at lw_m1 165 rfl) rfl
theorem q183 : (Jvm.Cond.methodLink "SimilarDelta" (122 : Nat) ({ cls := "SimilarDelta", name := "matchLength", desc := "(IIII)I" } : Jvm.MethodName)) ∈ lw_all := lw_g (lw_at lw_m1 166 rfl) rfl
theorem q184 : (Jvm.Cond.privateMethod ({ cls := "SimilarDelta", name := "matchLength", desc := "(IIII)I" } : Jvm.MethodName)) ∈ lw_tbl := lw_at lw_m1 167 rfl
theorem q185 : (Jvm.Cond.instanceMethod ({ cls := "SimilarDelta", name := "matchLength", desc := "(IIII)I" } : Jvm.MethodName)) ∈ lw_all := lw_g (lw_at lw_m1 168 rfl) rfl
theorem q186 : (Jvm.Cond.code ({ cls := "SimilarDelta", name := "matchLength", desc := "(IIII)I" } : Jvm.MethodName) prog_1_method_20_code (6 : Nat) (Option.some Jvm.ClassFile.FieldType.int)) ∈ lw_all := lw_g (lw_at lw_m1 169 rfl) rfl
theorem q188 : (Jvm.Cond.instanceMethod ({ cls := "SimilarDelta", name := "drop", desc := "(I)I" } : Jvm.MethodName)) ∈ lw_all := lw_g (lw_at lw_m1 171 rfl) rfl
theorem q189 : (Jvm.Cond.selects "SimilarDelta" ({ cls := "SimilarDelta", name := "drop", desc := "(I)I" } : Jvm.MethodName) ({ cls := "SimilarDelta", name := "drop", desc := "(I)I" } : Jvm.MethodName)) ∈ lw_all := lw_g (lw_at lw_m1 172 rfl) rfl
theorem q190 : (Jvm.Cond.code ({ cls := "SimilarDelta", name := "drop", desc := "(I)I" } : Jvm.MethodName) prog_1_method_24_code (4 : Nat) (Option.some Jvm.ClassFile.FieldType.int)) ∈ lw_all := lw_g (lw_at lw_m1 173 rfl) rfl
theorem q191 : (Jvm.Cond.methodLink "SimilarDelta" (132 : Nat) ({ cls := "SimilarDelta", name := "release", desc := "(I)V" } : Jvm.MethodName)) ∈ lw_all := lw_g (lw_at lw_m1 174 rfl) rfl
theorem q192 : (Jvm.Cond.privateMethod ({ cls := "SimilarDelta", name := "release", desc := "(I)V" } : Jvm.MethodName)) ∈ lw_tbl := lw_at lw_m1 175 rfl
theorem q193 : (Jvm.Cond.instanceMethod ({ cls := "SimilarDelta", name := "release", desc := "(I)V" } : Jvm.MethodName)) ∈ lw_all := lw_g (lw_at lw_m1 176 rfl) rfl
theorem q194 : (Jvm.Cond.code ({ cls := "SimilarDelta", name := "release", desc := "(I)V" } : Jvm.MethodName) prog_1_method_25_code (3 : Nat) (Option.none : Option Jvm.ClassFile.FieldType)) ∈ lw_all := lw_g (lw_at lw_m1 177 rfl) rfl
theorem q195 : (Jvm.Cond.methodLink "SimilarDelta" (135 : Nat) ({ cls := "SimilarDelta", name := "makeRaw", desc := "(I)V" } : Jvm.MethodName)) ∈ lw_all := lw_g (lw_at lw_m1 178 rfl) rfl
theorem q196 : (Jvm.Cond.privateMethod ({ cls := "SimilarDelta", name := "makeRaw", desc := "(I)V" } : Jvm.MethodName)) ∈ lw_tbl := lw_at lw_m1 179 rfl
theorem q197 : (Jvm.Cond.instanceMethod ({ cls := "SimilarDelta", name := "makeRaw", desc := "(I)V" } : Jvm.MethodName)) ∈ lw_all := lw_g (lw_at lw_m1 180 rfl) rfl
theorem q198 : (Jvm.Cond.code ({ cls := "SimilarDelta", name := "makeRaw", desc := "(I)V" } : Jvm.MethodName) prog_1_method_26_code (3 : Nat) (Option.none : Option Jvm.ClassFile.FieldType)) ∈ lw_all := lw_g (lw_at lw_m1 181 rfl) rfl
theorem q200 : (Jvm.Cond.instanceMethod ({ cls := "SimilarDelta", name := "stageLength", desc := "()I" } : Jvm.MethodName)) ∈ lw_all := lw_g (lw_at lw_m1 183 rfl) rfl
theorem q201 : (Jvm.Cond.selects "SimilarDelta" ({ cls := "SimilarDelta", name := "stageLength", desc := "()I" } : Jvm.MethodName) ({ cls := "SimilarDelta", name := "stageLength", desc := "()I" } : Jvm.MethodName)) ∈ lw_all := lw_g (lw_at lw_m1 184 rfl) rfl
theorem q202 : (Jvm.Cond.code ({ cls := "SimilarDelta", name := "stageLength", desc := "()I" } : Jvm.MethodName) prog_1_method_27_code (1 : Nat) (Option.some Jvm.ClassFile.FieldType.int)) ∈ lw_all := lw_g (lw_at lw_m1 185 rfl) rfl
theorem q204 : (Jvm.Cond.instanceMethod ({ cls := "SimilarDelta", name := "stageByte", desc := "(I)I" } : Jvm.MethodName)) ∈ lw_all := lw_g (lw_at lw_m1 187 rfl) rfl
theorem q205 : (Jvm.Cond.selects "SimilarDelta" ({ cls := "SimilarDelta", name := "stageByte", desc := "(I)I" } : Jvm.MethodName) ({ cls := "SimilarDelta", name := "stageByte", desc := "(I)I" } : Jvm.MethodName)) ∈ lw_all := lw_g (lw_at lw_m1 188 rfl) rfl
theorem q206 : (Jvm.Cond.code ({ cls := "SimilarDelta", name := "stageByte", desc := "(I)I" } : Jvm.MethodName) prog_1_method_28_code (2 : Nat) (Option.some Jvm.ClassFile.FieldType.int)) ∈ lw_all := lw_g (lw_at lw_m1 189 rfl) rfl
theorem q209 : (Jvm.Cond.instanceMethod ({ cls := "SimilarDelta", name := "byteAt", desc := "(II)I" } : Jvm.MethodName)) ∈ lw_all := lw_g (lw_at lw_m1 192 rfl) rfl
theorem q210 : (Jvm.Cond.selects "SimilarDelta" ({ cls := "SimilarDelta", name := "byteAt", desc := "(II)I" } : Jvm.MethodName) ({ cls := "SimilarDelta", name := "byteAt", desc := "(II)I" } : Jvm.MethodName)) ∈ lw_all := lw_g (lw_at lw_m1 193 rfl) rfl
theorem q211 : (Jvm.Cond.code ({ cls := "SimilarDelta", name := "byteAt", desc := "(II)I" } : Jvm.MethodName) prog_1_method_31_code (4 : Nat) (Option.some Jvm.ClassFile.FieldType.int)) ∈ lw_all := lw_g (lw_at lw_m1 194 rfl) rfl
theorem q213 : (Jvm.Cond.instanceMethod ({ cls := "SimilarDelta", name := "sum", desc := "(I)I" } : Jvm.MethodName)) ∈ lw_all := lw_g (lw_at lw_m1 196 rfl) rfl
theorem q214 : (Jvm.Cond.selects "SimilarDelta" ({ cls := "SimilarDelta", name := "sum", desc := "(I)I" } : Jvm.MethodName) ({ cls := "SimilarDelta", name := "sum", desc := "(I)I" } : Jvm.MethodName)) ∈ lw_all := lw_g (lw_at lw_m1 197 rfl) rfl
theorem q215 : (Jvm.Cond.code ({ cls := "SimilarDelta", name := "sum", desc := "(I)I" } : Jvm.MethodName) prog_1_method_32_code (6 : Nat) (Option.some Jvm.ClassFile.FieldType.int)) ∈ lw_all := lw_g (lw_at lw_m1 198 rfl) rfl
theorem q217 : (Jvm.Cond.instanceMethod ({ cls := "SimilarDelta", name := "commonStart", desc := "(II)I" } : Jvm.MethodName)) ∈ lw_all := lw_g (lw_at lw_m1 200 rfl) rfl
theorem q218 : (Jvm.Cond.selects "SimilarDelta" ({ cls := "SimilarDelta", name := "commonStart", desc := "(II)I" } : Jvm.MethodName) ({ cls := "SimilarDelta", name := "commonStart", desc := "(II)I" } : Jvm.MethodName)) ∈ lw_all := lw_g (lw_at lw_m1 201 rfl) rfl
theorem q219 : (Jvm.Cond.code ({ cls := "SimilarDelta", name := "commonStart", desc := "(II)I" } : Jvm.MethodName) prog_1_method_33_code (11 : Nat) (Option.some Jvm.ClassFile.FieldType.int)) ∈ lw_all := lw_g (lw_at lw_m1 202 rfl) rfl
theorem in_X0 : ∀ w ∈ wsX00, w ∈ lw_all := lw_in wsX00 [47, 49, 51, 53, 55, 57, 59, 61, 63, 65, 67, 69, 71, 73, 75, 77, 79, 81, 83] (by decide +kernel) (by decide +kernel)
/-! SimilarDeltaModel -/
def RX1 : String := "SimilarDeltaModel"
def TX1 : u_T := fun k => match k with
  | 0 => ("SimilarDeltaModel", "stage", "[I", true)
  | 1 => ("SimilarDeltaModel", "size", "I", false)
  | 2 => ("SimilarDeltaModel", "saved", "[Z", true)
  | 3 => ("SimilarDeltaModel", "sizes", "[I", true)
  | _ => ("SimilarDeltaModel", "bytes", "[I", true)
def tyX1 : Nat → FieldType := fun k => match k with
  | 0 => .array .int
  | 1 => .int
  | 2 => .array .boolean
  | 3 => .array .int
  | _ => .array .int
abbrev wsX10 : List Cond := u_ws RX1 TX1 5
theorem nmX1 : ∀ a, a < 5 → ∀ b, b < 5 → a ≠ b → (TX1 a).2.1 ≠ (TX1 b).2.1 := by decide +kernel
theorem tyX1_ok : ∀ k, k < 5 → parseFieldDescriptor (TX1 k).2.2.1 = some (tyX1 k) := by decide +kernel
abbrev cX1_init : ByteArray := prog_3_method_1_code
def yX1_init : MethodName := ⟨RX1, "<init>", "()V"⟩
abbrev cX1_begin : ByteArray := prog_3_method_2_code
def yX1_begin : MethodName := ⟨RX1, "begin", "()V"⟩
abbrev cX1_feed : ByteArray := prog_3_method_3_code
def yX1_feed : MethodName := ⟨RX1, "feed", "(I)I"⟩
abbrev cX1_feedRun : ByteArray := prog_3_method_4_code
def yX1_feedRun : MethodName := ⟨RX1, "feedRun", "(III)I"⟩
abbrev cX1_feedFrom : ByteArray := prog_3_method_6_code
def yX1_feedFrom : MethodName := ⟨RX1, "feedFrom", "(III)I"⟩
abbrev cX1_missing : ByteArray := prog_3_method_5_code
def yX1_missing : MethodName := ⟨RX1, "missing", "(I)I"⟩
abbrev cX1_poke : ByteArray := prog_3_method_7_code
def yX1_poke : MethodName := ⟨RX1, "poke", "(II)I"⟩
abbrev cX1_insert : ByteArray := prog_3_method_8_code
def yX1_insert : MethodName := ⟨RX1, "insert", "(II)I"⟩
abbrev cX1_cut : ByteArray := prog_3_method_9_code
def yX1_cut : MethodName := ⟨RX1, "cut", "(II)I"⟩
abbrev cX1_save : ByteArray := prog_3_method_10_code
def yX1_save : MethodName := ⟨RX1, "save", "(I)I"⟩
abbrev cX1_drop : ByteArray := prog_3_method_11_code
def yX1_drop : MethodName := ⟨RX1, "drop", "(I)I"⟩
abbrev cX1_stageLength : ByteArray := prog_3_method_12_code
def yX1_stageLength : MethodName := ⟨RX1, "stageLength", "()I"⟩
abbrev cX1_stageByte : ByteArray := prog_3_method_13_code
def yX1_stageByte : MethodName := ⟨RX1, "stageByte", "(I)I"⟩
abbrev cX1_length : ByteArray := prog_3_method_14_code
def yX1_length : MethodName := ⟨RX1, "length", "(I)I"⟩
abbrev cX1_byteAt : ByteArray := prog_3_method_15_code
def yX1_byteAt : MethodName := ⟨RX1, "byteAt", "(II)I"⟩
abbrev cX1_sum : ByteArray := prog_3_method_16_code
def yX1_sum : MethodName := ⟨RX1, "sum", "(I)I"⟩
abbrev cX1_commonStart : ByteArray := prog_3_method_17_code
def yX1_commonStart : MethodName := ⟨RX1, "commonStart", "(II)I"⟩
theorem q19 : (Jvm.Cond.initialized "SimilarDeltaModel") ∈ lw_all := lw_g (lw_at lw_m1 2 rfl) rfl
theorem q221 : (Jvm.Cond.instantiable "SimilarDeltaModel" (5 : Nat)) ∈ lw_all := lw_g (lw_at lw_m1 204 rfl) rfl
theorem q223 : (Jvm.Cond.instanceMethod ({ cls := "SimilarDeltaModel", name := "<init>", desc := "()V" } : Jvm.MethodName)) ∈ lw_all := lw_g (lw_at lw_m1 206 rfl) rfl
theorem q224 : (Jvm.Cond.code ({ cls := "SimilarDeltaModel", name := "<init>", desc := "()V" } : Jvm.MethodName) prog_3_method_1_code (1 : Nat) (Option.none : Option Jvm.ClassFile.FieldType)) ∈ lw_all := lw_g (lw_at lw_m1 207 rfl) rfl
theorem q225 : (Jvm.Cond.methodLink "SimilarDeltaModel" (1 : Nat) ({ cls := "java/lang/Object", name := "<init>", desc := "()V" } : Jvm.MethodName)) ∈ lw_all := lw_g (lw_at lw_m1 208 rfl) rfl
theorem q226 : (Jvm.Cond.fieldLink "SimilarDeltaModel" (7 : Nat) "SimilarDeltaModel" "stage" "[I") ∈ lw_all := lw_g (lw_at lw_m1 209 rfl) rfl
theorem q227 : (Jvm.Cond.fieldLink "SimilarDeltaModel" (23 : Nat) "SimilarDeltaModel" "size" "I") ∈ lw_all := lw_g (lw_at lw_m1 210 rfl) rfl
theorem q228 : (Jvm.Cond.fieldLink "SimilarDeltaModel" (13 : Nat) "SimilarDeltaModel" "saved" "[Z") ∈ lw_all := lw_g (lw_at lw_m1 211 rfl) rfl
theorem q229 : (Jvm.Cond.fieldLink "SimilarDeltaModel" (17 : Nat) "SimilarDeltaModel" "sizes" "[I") ∈ lw_all := lw_g (lw_at lw_m1 212 rfl) rfl
theorem q230 : (Jvm.Cond.fieldLink "SimilarDeltaModel" (20 : Nat) "SimilarDeltaModel" "bytes" "[I") ∈ lw_all := lw_g (lw_at lw_m1 213 rfl) rfl
theorem q231 : (Jvm.Cond.laysFinal "SimilarDeltaModel" "SimilarDeltaModel" "stage" "[I") ∈ lw_all := lw_g (lw_at lw_m1 214 rfl) rfl
theorem q232 : (Jvm.Cond.soleField "SimilarDeltaModel" "stage") ∈ lw_all := lw_g (lw_at lw_m1 215 rfl) rfl
theorem q233 : (Jvm.Cond.lays "SimilarDeltaModel" "SimilarDeltaModel" "size" "I") ∈ lw_all := lw_g (lw_at lw_m1 216 rfl) rfl
theorem q234 : (Jvm.Cond.soleField "SimilarDeltaModel" "size") ∈ lw_all := lw_g (lw_at lw_m1 217 rfl) rfl
theorem q235 : (Jvm.Cond.laysFinal "SimilarDeltaModel" "SimilarDeltaModel" "saved" "[Z") ∈ lw_all := lw_g (lw_at lw_m1 218 rfl) rfl
theorem q236 : (Jvm.Cond.soleField "SimilarDeltaModel" "saved") ∈ lw_all := lw_g (lw_at lw_m1 219 rfl) rfl
theorem q237 : (Jvm.Cond.laysFinal "SimilarDeltaModel" "SimilarDeltaModel" "sizes" "[I") ∈ lw_all := lw_g (lw_at lw_m1 220 rfl) rfl
theorem q238 : (Jvm.Cond.soleField "SimilarDeltaModel" "sizes") ∈ lw_all := lw_g (lw_at lw_m1 221 rfl) rfl
theorem q239 : (Jvm.Cond.laysFinal "SimilarDeltaModel" "SimilarDeltaModel" "bytes" "[I") ∈ lw_all := lw_g (lw_at lw_m1 222 rfl) rfl
theorem q240 : (Jvm.Cond.soleField "SimilarDeltaModel" "bytes") ∈ lw_all := lw_g (lw_at lw_m1 223 rfl) rfl
theorem q241 : (Jvm.Cond.superclass "SimilarDeltaModel" "java/lang/Object") ∈ lw_all := lw_g (lw_at lw_m1 224 rfl) rfl
theorem q243 : (Jvm.Cond.instanceMethod ({ cls := "SimilarDeltaModel", name := "begin", desc := "()V" } : Jvm.MethodName)) ∈ lw_all := lw_g (lw_at lw_m1 226 rfl) rfl
theorem q244 : (Jvm.Cond.selects "SimilarDeltaModel" ({ cls := "SimilarDeltaModel", name := "begin", desc := "()V" } : Jvm.MethodName) ({ cls := "SimilarDeltaModel", name := "begin", desc := "()V" } : Jvm.MethodName)) ∈ lw_all := lw_g (lw_at lw_m1 227 rfl) rfl
theorem q245 : (Jvm.Cond.code ({ cls := "SimilarDeltaModel", name := "begin", desc := "()V" } : Jvm.MethodName) prog_3_method_2_code (1 : Nat) (Option.none : Option Jvm.ClassFile.FieldType)) ∈ lw_all := lw_g (lw_at lw_m1 228 rfl) rfl
theorem q247 : (Jvm.Cond.instanceMethod ({ cls := "SimilarDeltaModel", name := "feed", desc := "(I)I" } : Jvm.MethodName)) ∈ lw_all := lw_g (lw_at lw_m1 230 rfl) rfl
theorem q248 : (Jvm.Cond.selects "SimilarDeltaModel" ({ cls := "SimilarDeltaModel", name := "feed", desc := "(I)I" } : Jvm.MethodName) ({ cls := "SimilarDeltaModel", name := "feed", desc := "(I)I" } : Jvm.MethodName)) ∈ lw_all := lw_g (lw_at lw_m1 231 rfl) rfl
theorem q249 : (Jvm.Cond.code ({ cls := "SimilarDeltaModel", name := "feed", desc := "(I)I" } : Jvm.MethodName) prog_3_method_3_code (2 : Nat) (Option.some Jvm.ClassFile.FieldType.int)) ∈ lw_all := lw_g (lw_at lw_m1 232 rfl) rfl
theorem q250 : (Jvm.Cond.methodLink "SimilarDeltaModel" (27 : Nat) ({ cls := "SimilarDeltaModel", name := "feedRun", desc := "(III)I" } : Jvm.MethodName)) ∈ lw_all := lw_g (lw_at lw_m1 233 rfl) rfl
theorem q251 : (Jvm.Cond.instanceMethod ({ cls := "SimilarDeltaModel", name := "feedRun", desc := "(III)I" } : Jvm.MethodName)) ∈ lw_all := lw_g (lw_at lw_m1 234 rfl) rfl
theorem q252 : (Jvm.Cond.selects "SimilarDeltaModel" ({ cls := "SimilarDeltaModel", name := "feedRun", desc := "(III)I" } : Jvm.MethodName) ({ cls := "SimilarDeltaModel", name := "feedRun", desc := "(III)I" } : Jvm.MethodName)) ∈ lw_all := lw_g (lw_at lw_m1 235 rfl) rfl
theorem q253 : (Jvm.Cond.code ({ cls := "SimilarDeltaModel", name := "feedRun", desc := "(III)I" } : Jvm.MethodName) prog_3_method_4_code (5 : Nat) (Option.some Jvm.ClassFile.FieldType.int)) ∈ lw_all := lw_g (lw_at lw_m1 236 rfl) rfl
theorem q256 : (Jvm.Cond.instanceMethod ({ cls := "SimilarDeltaModel", name := "feedFrom", desc := "(III)I" } : Jvm.MethodName)) ∈ lw_all := lw_g (lw_at lw_m1 239 rfl) rfl
theorem q257 : (Jvm.Cond.selects "SimilarDeltaModel" ({ cls := "SimilarDeltaModel", name := "feedFrom", desc := "(III)I" } : Jvm.MethodName) ({ cls := "SimilarDeltaModel", name := "feedFrom", desc := "(III)I" } : Jvm.MethodName)) ∈ lw_all := lw_g (lw_at lw_m2 0 rfl) rfl
theorem q258 : (Jvm.Cond.code ({ cls := "SimilarDeltaModel", name := "feedFrom", desc := "(III)I" } : Jvm.MethodName) prog_3_method_6_code (6 : Nat) (Option.some Jvm.ClassFile.FieldType.int)) ∈ lw_all := lw_g (lw_at lw_m2 1 rfl) rfl
theorem q259 : (Jvm.Cond.methodLink "SimilarDeltaModel" (31 : Nat) ({ cls := "SimilarDeltaModel", name := "missing", desc := "(I)I" } : Jvm.MethodName)) ∈ lw_all := lw_g (lw_at lw_m2 2 rfl) rfl
theorem q260 : (Jvm.Cond.privateMethod ({ cls := "SimilarDeltaModel", name := "missing", desc := "(I)I" } : Jvm.MethodName)) ∈ lw_tbl := lw_at lw_m2 3 rfl
theorem q261 : (Jvm.Cond.instanceMethod ({ cls := "SimilarDeltaModel", name := "missing", desc := "(I)I" } : Jvm.MethodName)) ∈ lw_all := lw_g (lw_at lw_m2 4 rfl) rfl
theorem q262 : (Jvm.Cond.code ({ cls := "SimilarDeltaModel", name := "missing", desc := "(I)I" } : Jvm.MethodName) prog_3_method_5_code (2 : Nat) (Option.some Jvm.ClassFile.FieldType.int)) ∈ lw_all := lw_g (lw_at lw_m2 5 rfl) rfl
theorem q264 : (Jvm.Cond.instanceMethod ({ cls := "SimilarDeltaModel", name := "poke", desc := "(II)I" } : Jvm.MethodName)) ∈ lw_all := lw_g (lw_at lw_m2 7 rfl) rfl
theorem q265 : (Jvm.Cond.selects "SimilarDeltaModel" ({ cls := "SimilarDeltaModel", name := "poke", desc := "(II)I" } : Jvm.MethodName) ({ cls := "SimilarDeltaModel", name := "poke", desc := "(II)I" } : Jvm.MethodName)) ∈ lw_all := lw_g (lw_at lw_m2 8 rfl) rfl
theorem q266 : (Jvm.Cond.code ({ cls := "SimilarDeltaModel", name := "poke", desc := "(II)I" } : Jvm.MethodName) prog_3_method_7_code (4 : Nat) (Option.some Jvm.ClassFile.FieldType.int)) ∈ lw_all := lw_g (lw_at lw_m2 9 rfl) rfl
theorem q268 : (Jvm.Cond.instanceMethod ({ cls := "SimilarDeltaModel", name := "insert", desc := "(II)I" } : Jvm.MethodName)) ∈ lw_all := lw_g (lw_at lw_m2 11 rfl) rfl
theorem q269 : (Jvm.Cond.selects "SimilarDeltaModel" ({ cls := "SimilarDeltaModel", name := "insert", desc := "(II)I" } : Jvm.MethodName) ({ cls := "SimilarDeltaModel", name := "insert", desc := "(II)I" } : Jvm.MethodName)) ∈ lw_all := lw_g (lw_at lw_m2 12 rfl) rfl
theorem q270 : (Jvm.Cond.code ({ cls := "SimilarDeltaModel", name := "insert", desc := "(II)I" } : Jvm.MethodName) prog_3_method_8_code (4 : Nat) (Option.some Jvm.ClassFile.FieldType.int)) ∈ lw_all := lw_g (lw_at lw_m2 13 rfl) rfl
theorem q272 : (Jvm.Cond.instanceMethod ({ cls := "SimilarDeltaModel", name := "cut", desc := "(II)I" } : Jvm.MethodName)) ∈ lw_all := lw_g (lw_at lw_m2 15 rfl) rfl
theorem q273 : (Jvm.Cond.selects "SimilarDeltaModel" ({ cls := "SimilarDeltaModel", name := "cut", desc := "(II)I" } : Jvm.MethodName) ({ cls := "SimilarDeltaModel", name := "cut", desc := "(II)I" } : Jvm.MethodName)) ∈ lw_all := lw_g (lw_at lw_m2 16 rfl) rfl
theorem q274 : (Jvm.Cond.code ({ cls := "SimilarDeltaModel", name := "cut", desc := "(II)I" } : Jvm.MethodName) prog_3_method_9_code (4 : Nat) (Option.some Jvm.ClassFile.FieldType.int)) ∈ lw_all := lw_g (lw_at lw_m2 17 rfl) rfl
theorem q276 : (Jvm.Cond.instanceMethod ({ cls := "SimilarDeltaModel", name := "save", desc := "(I)I" } : Jvm.MethodName)) ∈ lw_all := lw_g (lw_at lw_m2 19 rfl) rfl
theorem q277 : (Jvm.Cond.selects "SimilarDeltaModel" ({ cls := "SimilarDeltaModel", name := "save", desc := "(I)I" } : Jvm.MethodName) ({ cls := "SimilarDeltaModel", name := "save", desc := "(I)I" } : Jvm.MethodName)) ∈ lw_all := lw_g (lw_at lw_m2 20 rfl) rfl
theorem q278 : (Jvm.Cond.code ({ cls := "SimilarDeltaModel", name := "save", desc := "(I)I" } : Jvm.MethodName) prog_3_method_10_code (4 : Nat) (Option.some Jvm.ClassFile.FieldType.int)) ∈ lw_all := lw_g (lw_at lw_m2 21 rfl) rfl
theorem q280 : (Jvm.Cond.instanceMethod ({ cls := "SimilarDeltaModel", name := "drop", desc := "(I)I" } : Jvm.MethodName)) ∈ lw_all := lw_g (lw_at lw_m2 23 rfl) rfl
theorem q281 : (Jvm.Cond.selects "SimilarDeltaModel" ({ cls := "SimilarDeltaModel", name := "drop", desc := "(I)I" } : Jvm.MethodName) ({ cls := "SimilarDeltaModel", name := "drop", desc := "(I)I" } : Jvm.MethodName)) ∈ lw_all := lw_g (lw_at lw_m2 24 rfl) rfl
theorem q282 : (Jvm.Cond.code ({ cls := "SimilarDeltaModel", name := "drop", desc := "(I)I" } : Jvm.MethodName) prog_3_method_11_code (3 : Nat) (Option.some Jvm.ClassFile.FieldType.int)) ∈ lw_all := lw_g (lw_at lw_m2 25 rfl) rfl
theorem q284 : (Jvm.Cond.instanceMethod ({ cls := "SimilarDeltaModel", name := "stageLength", desc := "()I" } : Jvm.MethodName)) ∈ lw_all := lw_g (lw_at lw_m2 27 rfl) rfl
theorem q285 : (Jvm.Cond.selects "SimilarDeltaModel" ({ cls := "SimilarDeltaModel", name := "stageLength", desc := "()I" } : Jvm.MethodName) ({ cls := "SimilarDeltaModel", name := "stageLength", desc := "()I" } : Jvm.MethodName)) ∈ lw_all := lw_g (lw_at lw_m2 28 rfl) rfl
theorem q286 : (Jvm.Cond.code ({ cls := "SimilarDeltaModel", name := "stageLength", desc := "()I" } : Jvm.MethodName) prog_3_method_12_code (1 : Nat) (Option.some Jvm.ClassFile.FieldType.int)) ∈ lw_all := lw_g (lw_at lw_m2 29 rfl) rfl
theorem q288 : (Jvm.Cond.instanceMethod ({ cls := "SimilarDeltaModel", name := "stageByte", desc := "(I)I" } : Jvm.MethodName)) ∈ lw_all := lw_g (lw_at lw_m2 31 rfl) rfl
theorem q289 : (Jvm.Cond.selects "SimilarDeltaModel" ({ cls := "SimilarDeltaModel", name := "stageByte", desc := "(I)I" } : Jvm.MethodName) ({ cls := "SimilarDeltaModel", name := "stageByte", desc := "(I)I" } : Jvm.MethodName)) ∈ lw_all := lw_g (lw_at lw_m2 32 rfl) rfl
theorem q290 : (Jvm.Cond.code ({ cls := "SimilarDeltaModel", name := "stageByte", desc := "(I)I" } : Jvm.MethodName) prog_3_method_13_code (2 : Nat) (Option.some Jvm.ClassFile.FieldType.int)) ∈ lw_all := lw_g (lw_at lw_m2 33 rfl) rfl
theorem q292 : (Jvm.Cond.instanceMethod ({ cls := "SimilarDeltaModel", name := "length", desc := "(I)I" } : Jvm.MethodName)) ∈ lw_all := lw_g (lw_at lw_m2 35 rfl) rfl
theorem q293 : (Jvm.Cond.selects "SimilarDeltaModel" ({ cls := "SimilarDeltaModel", name := "length", desc := "(I)I" } : Jvm.MethodName) ({ cls := "SimilarDeltaModel", name := "length", desc := "(I)I" } : Jvm.MethodName)) ∈ lw_all := lw_g (lw_at lw_m2 36 rfl) rfl
theorem q294 : (Jvm.Cond.code ({ cls := "SimilarDeltaModel", name := "length", desc := "(I)I" } : Jvm.MethodName) prog_3_method_14_code (3 : Nat) (Option.some Jvm.ClassFile.FieldType.int)) ∈ lw_all := lw_g (lw_at lw_m2 37 rfl) rfl
theorem q296 : (Jvm.Cond.instanceMethod ({ cls := "SimilarDeltaModel", name := "byteAt", desc := "(II)I" } : Jvm.MethodName)) ∈ lw_all := lw_g (lw_at lw_m2 39 rfl) rfl
theorem q297 : (Jvm.Cond.selects "SimilarDeltaModel" ({ cls := "SimilarDeltaModel", name := "byteAt", desc := "(II)I" } : Jvm.MethodName) ({ cls := "SimilarDeltaModel", name := "byteAt", desc := "(II)I" } : Jvm.MethodName)) ∈ lw_all := lw_g (lw_at lw_m2 40 rfl) rfl
theorem q298 : (Jvm.Cond.code ({ cls := "SimilarDeltaModel", name := "byteAt", desc := "(II)I" } : Jvm.MethodName) prog_3_method_15_code (4 : Nat) (Option.some Jvm.ClassFile.FieldType.int)) ∈ lw_all := lw_g (lw_at lw_m2 41 rfl) rfl
theorem q300 : (Jvm.Cond.instanceMethod ({ cls := "SimilarDeltaModel", name := "sum", desc := "(I)I" } : Jvm.MethodName)) ∈ lw_all := lw_g (lw_at lw_m2 43 rfl) rfl
theorem q301 : (Jvm.Cond.selects "SimilarDeltaModel" ({ cls := "SimilarDeltaModel", name := "sum", desc := "(I)I" } : Jvm.MethodName) ({ cls := "SimilarDeltaModel", name := "sum", desc := "(I)I" } : Jvm.MethodName)) ∈ lw_all := lw_g (lw_at lw_m2 44 rfl) rfl
theorem q302 : (Jvm.Cond.code ({ cls := "SimilarDeltaModel", name := "sum", desc := "(I)I" } : Jvm.MethodName) prog_3_method_16_code (4 : Nat) (Option.some Jvm.ClassFile.FieldType.int)) ∈ lw_all := lw_g (lw_at lw_m2 45 rfl) rfl
theorem q304 : (Jvm.Cond.instanceMethod ({ cls := "SimilarDeltaModel", name := "commonStart", desc := "(II)I" } : Jvm.MethodName)) ∈ lw_all := lw_g (lw_at lw_m2 47 rfl) rfl
theorem q305 : (Jvm.Cond.selects "SimilarDeltaModel" ({ cls := "SimilarDeltaModel", name := "commonStart", desc := "(II)I" } : Jvm.MethodName) ({ cls := "SimilarDeltaModel", name := "commonStart", desc := "(II)I" } : Jvm.MethodName)) ∈ lw_all := lw_g (lw_at lw_m2 48 rfl) rfl
theorem q306 : (Jvm.Cond.code ({ cls := "SimilarDeltaModel", name := "commonStart", desc := "(II)I" } : Jvm.MethodName) prog_3_method_17_code (7 : Nat) (Option.some Jvm.ClassFile.FieldType.int)) ∈ lw_all := lw_g (lw_at lw_m2 49 rfl) rfl
theorem in_X1 : ∀ w ∈ wsX10, w ∈ lw_all := lw_in wsX10 [231, 233, 235, 237, 239] (by decide +kernel) (by decide +kernel)
theorem q86 : (Jvm.Cond.arrayClass Jvm.ClassFile.FieldType.int) ∈ lw_all := lw_g (lw_at lw_m1 69 rfl) rfl
theorem q87 : (Jvm.Cond.arrayClass Jvm.ClassFile.FieldType.boolean) ∈ lw_all := lw_g (lw_at lw_m1 70 rfl) rfl
theorem q17 : (Jvm.Cond.initialized "SimilarDeltaLaw") ∈ lw_all := lw_g (lw_at lw_m1 0 rfl) rfl
theorem q20 : (Jvm.Cond.classLink "SimilarDeltaLaw" (7 : Nat) "SimilarDelta") ∈ lw_all := lw_g (lw_at lw_m1 3 rfl) rfl
theorem q22 : (Jvm.Cond.methodLink "SimilarDeltaLaw" (9 : Nat) ({ cls := "SimilarDelta", name := "<init>", desc := "()V" } : Jvm.MethodName)) ∈ lw_all := lw_g (lw_at lw_m1 5 rfl) rfl
theorem q88 : (Jvm.Cond.methodLink "SimilarDeltaLaw" (13 : Nat) ({ cls := "SimilarDelta", name := "begin", desc := "()V" } : Jvm.MethodName)) ∈ lw_all := lw_g (lw_at lw_m1 71 rfl) rfl
theorem q92 : (Jvm.Cond.methodLink "SimilarDeltaLaw" (17 : Nat) ({ cls := "SimilarDelta", name := "feed", desc := "(I)I" } : Jvm.MethodName)) ∈ lw_all := lw_g (lw_at lw_m1 75 rfl) rfl
theorem q96 : (Jvm.Cond.methodLink "SimilarDeltaLaw" (22 : Nat) ({ cls := "SimilarDelta", name := "feedRun", desc := "(III)I" } : Jvm.MethodName)) ∈ lw_all := lw_g (lw_at lw_m1 79 rfl) rfl
theorem q101 : (Jvm.Cond.methodLink "SimilarDeltaLaw" (27 : Nat) ({ cls := "SimilarDelta", name := "feedFrom", desc := "(III)I" } : Jvm.MethodName)) ∈ lw_all := lw_g (lw_at lw_m1 84 rfl) rfl
theorem q128 : (Jvm.Cond.methodLink "SimilarDeltaLaw" (31 : Nat) ({ cls := "SimilarDelta", name := "poke", desc := "(II)I" } : Jvm.MethodName)) ∈ lw_all := lw_g (lw_at lw_m1 111 rfl) rfl
theorem q132 : (Jvm.Cond.methodLink "SimilarDeltaLaw" (36 : Nat) ({ cls := "SimilarDelta", name := "insert", desc := "(II)I" } : Jvm.MethodName)) ∈ lw_all := lw_g (lw_at lw_m1 115 rfl) rfl
theorem q136 : (Jvm.Cond.methodLink "SimilarDeltaLaw" (40 : Nat) ({ cls := "SimilarDelta", name := "cut", desc := "(II)I" } : Jvm.MethodName)) ∈ lw_all := lw_g (lw_at lw_m1 119 rfl) rfl
theorem q140 : (Jvm.Cond.methodLink "SimilarDeltaLaw" (44 : Nat) ({ cls := "SimilarDelta", name := "save", desc := "(I)I" } : Jvm.MethodName)) ∈ lw_all := lw_g (lw_at lw_m1 123 rfl) rfl
theorem q187 : (Jvm.Cond.methodLink "SimilarDeltaLaw" (48 : Nat) ({ cls := "SimilarDelta", name := "drop", desc := "(I)I" } : Jvm.MethodName)) ∈ lw_all := lw_g (lw_at lw_m1 170 rfl) rfl
theorem q199 : (Jvm.Cond.methodLink "SimilarDeltaLaw" (52 : Nat) ({ cls := "SimilarDelta", name := "stageLength", desc := "()I" } : Jvm.MethodName)) ∈ lw_all := lw_g (lw_at lw_m1 182 rfl) rfl
theorem q203 : (Jvm.Cond.methodLink "SimilarDeltaLaw" (57 : Nat) ({ cls := "SimilarDelta", name := "stageByte", desc := "(I)I" } : Jvm.MethodName)) ∈ lw_all := lw_g (lw_at lw_m1 186 rfl) rfl
theorem q207 : (Jvm.Cond.methodLink "SimilarDeltaLaw" (61 : Nat) ({ cls := "SimilarDelta", name := "length", desc := "(I)I" } : Jvm.MethodName)) ∈ lw_all := lw_g (lw_at lw_m1 190 rfl) rfl
theorem q208 : (Jvm.Cond.methodLink "SimilarDeltaLaw" (65 : Nat) ({ cls := "SimilarDelta", name := "byteAt", desc := "(II)I" } : Jvm.MethodName)) ∈ lw_all := lw_g (lw_at lw_m1 191 rfl) rfl
theorem q212 : (Jvm.Cond.methodLink "SimilarDeltaLaw" (69 : Nat) ({ cls := "SimilarDelta", name := "sum", desc := "(I)I" } : Jvm.MethodName)) ∈ lw_all := lw_g (lw_at lw_m1 195 rfl) rfl
theorem q216 : (Jvm.Cond.methodLink "SimilarDeltaLaw" (73 : Nat) ({ cls := "SimilarDelta", name := "commonStart", desc := "(II)I" } : Jvm.MethodName)) ∈ lw_all := lw_g (lw_at lw_m1 199 rfl) rfl
theorem q220 : (Jvm.Cond.classLink "SimilarDeltaLaw" (10 : Nat) "SimilarDeltaModel") ∈ lw_all := lw_g (lw_at lw_m1 203 rfl) rfl
theorem q222 : (Jvm.Cond.methodLink "SimilarDeltaLaw" (12 : Nat) ({ cls := "SimilarDeltaModel", name := "<init>", desc := "()V" } : Jvm.MethodName)) ∈ lw_all := lw_g (lw_at lw_m1 205 rfl) rfl
theorem q242 : (Jvm.Cond.methodLink "SimilarDeltaLaw" (16 : Nat) ({ cls := "SimilarDeltaModel", name := "begin", desc := "()V" } : Jvm.MethodName)) ∈ lw_all := lw_g (lw_at lw_m1 225 rfl) rfl
theorem q246 : (Jvm.Cond.methodLink "SimilarDeltaLaw" (21 : Nat) ({ cls := "SimilarDeltaModel", name := "feed", desc := "(I)I" } : Jvm.MethodName)) ∈ lw_all := lw_g (lw_at lw_m1 229 rfl) rfl
theorem q254 : (Jvm.Cond.methodLink "SimilarDeltaLaw" (26 : Nat) ({ cls := "SimilarDeltaModel", name := "feedRun", desc := "(III)I" } : Jvm.MethodName)) ∈ lw_all := lw_g (lw_at lw_m1 237 rfl) rfl
theorem q255 : (Jvm.Cond.methodLink "SimilarDeltaLaw" (30 : Nat) ({ cls := "SimilarDeltaModel", name := "feedFrom", desc := "(III)I" } : Jvm.MethodName)) ∈ lw_all := lw_g (lw_at lw_m1 238 rfl) rfl
theorem q263 : (Jvm.Cond.methodLink "SimilarDeltaLaw" (35 : Nat) ({ cls := "SimilarDeltaModel", name := "poke", desc := "(II)I" } : Jvm.MethodName)) ∈ lw_all := lw_g (lw_at lw_m2 6 rfl) rfl
theorem q267 : (Jvm.Cond.methodLink "SimilarDeltaLaw" (39 : Nat) ({ cls := "SimilarDeltaModel", name := "insert", desc := "(II)I" } : Jvm.MethodName)) ∈ lw_all := lw_g (lw_at lw_m2 10 rfl) rfl
theorem q271 : (Jvm.Cond.methodLink "SimilarDeltaLaw" (43 : Nat) ({ cls := "SimilarDeltaModel", name := "cut", desc := "(II)I" } : Jvm.MethodName)) ∈ lw_all := lw_g (lw_at lw_m2 14 rfl) rfl
theorem q275 : (Jvm.Cond.methodLink "SimilarDeltaLaw" (47 : Nat) ({ cls := "SimilarDeltaModel", name := "save", desc := "(I)I" } : Jvm.MethodName)) ∈ lw_all := lw_g (lw_at lw_m2 18 rfl) rfl
theorem q279 : (Jvm.Cond.methodLink "SimilarDeltaLaw" (51 : Nat) ({ cls := "SimilarDeltaModel", name := "drop", desc := "(I)I" } : Jvm.MethodName)) ∈ lw_all := lw_g (lw_at lw_m2 22 rfl) rfl
theorem q283 : (Jvm.Cond.methodLink "SimilarDeltaLaw" (56 : Nat) ({ cls := "SimilarDeltaModel", name := "stageLength", desc := "()I" } : Jvm.MethodName)) ∈ lw_all := lw_g (lw_at lw_m2 26 rfl) rfl
theorem q287 : (Jvm.Cond.methodLink "SimilarDeltaLaw" (60 : Nat) ({ cls := "SimilarDeltaModel", name := "stageByte", desc := "(I)I" } : Jvm.MethodName)) ∈ lw_all := lw_g (lw_at lw_m2 30 rfl) rfl
theorem q291 : (Jvm.Cond.methodLink "SimilarDeltaLaw" (64 : Nat) ({ cls := "SimilarDeltaModel", name := "length", desc := "(I)I" } : Jvm.MethodName)) ∈ lw_all := lw_g (lw_at lw_m2 34 rfl) rfl
theorem q295 : (Jvm.Cond.methodLink "SimilarDeltaLaw" (68 : Nat) ({ cls := "SimilarDeltaModel", name := "byteAt", desc := "(II)I" } : Jvm.MethodName)) ∈ lw_all := lw_g (lw_at lw_m2 38 rfl) rfl
theorem q299 : (Jvm.Cond.methodLink "SimilarDeltaLaw" (72 : Nat) ({ cls := "SimilarDeltaModel", name := "sum", desc := "(I)I" } : Jvm.MethodName)) ∈ lw_all := lw_g (lw_at lw_m2 42 rfl) rfl
theorem q303 : (Jvm.Cond.methodLink "SimilarDeltaLaw" (76 : Nat) ({ cls := "SimilarDeltaModel", name := "commonStart", desc := "(II)I" } : Jvm.MethodName)) ∈ lw_all := lw_g (lw_at lw_m2 46 rfl) rfl
/-! the law's own entry -/
abbrev cL_law : ByteArray := code
end
section
set_option maxRecDepth 100000
theorem dJ0_init_0 : decode cJ0_init 0 = .ok (.return_, 1) := by decide +kernel
theorem dX0_init_0 : decode cX0_init 0 = .ok (.aload_n 0, 1) := by decide +kernel
theorem dX0_init_1 : decode cX0_init 1 = .ok (.invokespecial 1, 3) := by decide +kernel
theorem dX0_init_4 : decode cX0_init 4 = .ok (.aload_n 0, 1) := by decide +kernel
theorem dX0_init_5 : decode cX0_init 5 = .ok (.bipush 96, 2) := by decide +kernel
theorem dX0_init_7 : decode cX0_init 7 = .ok (.newarray .int, 2) := by decide +kernel
theorem dX0_init_9 : decode cX0_init 9 = .ok (.putfield 7, 3) := by decide +kernel
theorem dX0_init_12 : decode cX0_init 12 = .ok (.aload_n 0, 1) := by decide +kernel
theorem dX0_init_13 : decode cX0_init 13 = .ok (.bipush 6, 2) := by decide +kernel
theorem dX0_init_15 : decode cX0_init 15 = .ok (.newarray .boolean, 2) := by decide +kernel
theorem dX0_init_17 : decode cX0_init 17 = .ok (.putfield 13, 3) := by decide +kernel
theorem dX0_init_20 : decode cX0_init 20 = .ok (.aload_n 0, 1) := by decide +kernel
theorem dX0_init_21 : decode cX0_init 21 = .ok (.bipush 6, 2) := by decide +kernel
theorem dX0_init_23 : decode cX0_init 23 = .ok (.newarray .int, 2) := by decide +kernel
theorem dX0_init_25 : decode cX0_init 25 = .ok (.putfield 17, 3) := by decide +kernel
theorem dX0_init_28 : decode cX0_init 28 = .ok (.aload_n 0, 1) := by decide +kernel
theorem dX0_init_29 : decode cX0_init 29 = .ok (.bipush 96, 2) := by decide +kernel
theorem dX0_init_31 : decode cX0_init 31 = .ok (.newarray .int, 2) := by decide +kernel
theorem dX0_init_33 : decode cX0_init 33 = .ok (.putfield 20, 3) := by decide +kernel
theorem dX0_init_36 : decode cX0_init 36 = .ok (.aload_n 0, 1) := by decide +kernel
theorem dX0_init_37 : decode cX0_init 37 = .ok (.bipush 96, 2) := by decide +kernel
theorem dX0_init_39 : decode cX0_init 39 = .ok (.newarray .int, 2) := by decide +kernel
theorem dX0_init_41 : decode cX0_init 41 = .ok (.putfield 23, 3) := by decide +kernel
theorem dX0_init_44 : decode cX0_init 44 = .ok (.aload_n 0, 1) := by decide +kernel
theorem dX0_init_45 : decode cX0_init 45 = .ok (.bipush 96, 2) := by decide +kernel
theorem dX0_init_47 : decode cX0_init 47 = .ok (.newarray .int, 2) := by decide +kernel
theorem dX0_init_49 : decode cX0_init 49 = .ok (.putfield 26, 3) := by decide +kernel
theorem dX0_init_52 : decode cX0_init 52 = .ok (.aload_n 0, 1) := by decide +kernel
theorem dX0_init_53 : decode cX0_init 53 = .ok (.bipush 96, 2) := by decide +kernel
theorem dX0_init_55 : decode cX0_init 55 = .ok (.newarray .int, 2) := by decide +kernel
theorem dX0_init_57 : decode cX0_init 57 = .ok (.putfield 29, 3) := by decide +kernel
theorem dX0_init_60 : decode cX0_init 60 = .ok (.aload_n 0, 1) := by decide +kernel
theorem dX0_init_61 : decode cX0_init 61 = .ok (.bipush 96, 2) := by decide +kernel
theorem dX0_init_63 : decode cX0_init 63 = .ok (.newarray .int, 2) := by decide +kernel
theorem dX0_init_65 : decode cX0_init 65 = .ok (.putfield 32, 3) := by decide +kernel
theorem dX0_init_68 : decode cX0_init 68 = .ok (.aload_n 0, 1) := by decide +kernel
theorem dX0_init_69 : decode cX0_init 69 = .ok (.sipush 1536, 3) := by decide +kernel
theorem dX0_init_72 : decode cX0_init 72 = .ok (.newarray .int, 2) := by decide +kernel
theorem dX0_init_74 : decode cX0_init 74 = .ok (.putfield 35, 3) := by decide +kernel
theorem dX0_init_77 : decode cX0_init 77 = .ok (.aload_n 0, 1) := by decide +kernel
theorem dX0_init_78 : decode cX0_init 78 = .ok (.bipush 96, 2) := by decide +kernel
theorem dX0_init_80 : decode cX0_init 80 = .ok (.newarray .int, 2) := by decide +kernel
theorem dX0_init_82 : decode cX0_init 82 = .ok (.putfield 38, 3) := by decide +kernel
theorem dX0_init_85 : decode cX0_init 85 = .ok (.aload_n 0, 1) := by decide +kernel
theorem dX0_init_86 : decode cX0_init 86 = .ok (.bipush 96, 2) := by decide +kernel
theorem dX0_init_88 : decode cX0_init 88 = .ok (.newarray .int, 2) := by decide +kernel
theorem dX0_init_90 : decode cX0_init 90 = .ok (.putfield 41, 3) := by decide +kernel
theorem dX0_init_93 : decode cX0_init 93 = .ok (.aload_n 0, 1) := by decide +kernel
theorem dX0_init_94 : decode cX0_init 94 = .ok (.bipush 96, 2) := by decide +kernel
theorem dX0_init_96 : decode cX0_init 96 = .ok (.newarray .int, 2) := by decide +kernel
theorem dX0_init_98 : decode cX0_init 98 = .ok (.putfield 44, 3) := by decide +kernel
theorem dX0_init_101 : decode cX0_init 101 = .ok (.aload_n 0, 1) := by decide +kernel
theorem dX0_init_102 : decode cX0_init 102 = .ok (.bipush 16, 2) := by decide +kernel
theorem dX0_init_104 : decode cX0_init 104 = .ok (.newarray .int, 2) := by decide +kernel
theorem dX0_init_106 : decode cX0_init 106 = .ok (.putfield 47, 3) := by decide +kernel
theorem dX0_init_109 : decode cX0_init 109 = .ok (.aload_n 0, 1) := by decide +kernel
theorem dX0_init_110 : decode cX0_init 110 = .ok (.bipush 16, 2) := by decide +kernel
theorem dX0_init_112 : decode cX0_init 112 = .ok (.newarray .int, 2) := by decide +kernel
theorem dX0_init_114 : decode cX0_init 114 = .ok (.putfield 50, 3) := by decide +kernel
theorem dX0_init_117 : decode cX0_init 117 = .ok (.aload_n 0, 1) := by decide +kernel
theorem dX0_init_118 : decode cX0_init 118 = .ok (.bipush 16, 2) := by decide +kernel
theorem dX0_init_120 : decode cX0_init 120 = .ok (.newarray .int, 2) := by decide +kernel
theorem dX0_init_122 : decode cX0_init 122 = .ok (.putfield 53, 3) := by decide +kernel
theorem dX0_init_125 : decode cX0_init 125 = .ok (.aload_n 0, 1) := by decide +kernel
theorem dX0_init_126 : decode cX0_init 126 = .ok (.bipush 16, 2) := by decide +kernel
theorem dX0_init_128 : decode cX0_init 128 = .ok (.newarray .int, 2) := by decide +kernel
theorem dX0_init_130 : decode cX0_init 130 = .ok (.putfield 56, 3) := by decide +kernel
theorem dX0_init_133 : decode cX0_init 133 = .ok (.aload_n 0, 1) := by decide +kernel
theorem dX0_init_134 : decode cX0_init 134 = .ok (.bipush 8, 2) := by decide +kernel
theorem dX0_init_136 : decode cX0_init 136 = .ok (.newarray .int, 2) := by decide +kernel
theorem dX0_init_138 : decode cX0_init 138 = .ok (.putfield 59, 3) := by decide +kernel
theorem dX0_init_141 : decode cX0_init 141 = .ok (.aload_n 0, 1) := by decide +kernel
theorem dX0_init_142 : decode cX0_init 142 = .ok (.iconst 0, 1) := by decide +kernel
theorem dX0_init_143 : decode cX0_init 143 = .ok (.putfield 62, 3) := by decide +kernel
theorem dX0_init_146 : decode cX0_init 146 = .ok (.return_, 1) := by decide +kernel
theorem dX0_begin_0 : decode cX0_begin 0 = .ok (.aload_n 0, 1) := by decide +kernel
theorem dX0_begin_1 : decode cX0_begin 1 = .ok (.iconst 0, 1) := by decide +kernel
theorem dX0_begin_2 : decode cX0_begin 2 = .ok (.putfield 62, 3) := by decide +kernel
theorem dX0_begin_5 : decode cX0_begin 5 = .ok (.return_, 1) := by decide +kernel
theorem dX0_feed_0 : decode cX0_feed 0 = .ok (.aload_n 0, 1) := by decide +kernel
theorem dX0_feed_1 : decode cX0_feed 1 = .ok (.getfield 62, 3) := by decide +kernel
theorem dX0_feed_4 : decode cX0_feed 4 = .ok (.bipush 96, 2) := by decide +kernel
theorem dX0_feed_6 : decode cX0_feed 6 = .ok (.if_icmp .lt 5, 3) := by decide +kernel
theorem dX0_feed_9 : decode cX0_feed 9 = .ok (.iconst (-1), 1) := by decide +kernel
theorem dX0_feed_10 : decode cX0_feed 10 = .ok (.ireturn, 1) := by decide +kernel
theorem dX0_feed_11 : decode cX0_feed 11 = .ok (.aload_n 0, 1) := by decide +kernel
theorem dX0_feed_12 : decode cX0_feed 12 = .ok (.getfield 7, 3) := by decide +kernel
theorem dX0_feed_15 : decode cX0_feed 15 = .ok (.aload_n 0, 1) := by decide +kernel
theorem dX0_feed_16 : decode cX0_feed 16 = .ok (.getfield 62, 3) := by decide +kernel
theorem dX0_feed_19 : decode cX0_feed 19 = .ok (.iload_n 1, 1) := by decide +kernel
theorem dX0_feed_20 : decode cX0_feed 20 = .ok (.sipush 255, 3) := by decide +kernel
theorem dX0_feed_23 : decode cX0_feed 23 = .ok (.iand, 1) := by decide +kernel
theorem dX0_feed_24 : decode cX0_feed 24 = .ok (.iastore, 1) := by decide +kernel
theorem dX0_feed_25 : decode cX0_feed 25 = .ok (.aload_n 0, 1) := by decide +kernel
theorem dX0_feed_26 : decode cX0_feed 26 = .ok (.dup, 1) := by decide +kernel
theorem dX0_feed_27 : decode cX0_feed 27 = .ok (.getfield 62, 3) := by decide +kernel
theorem dX0_feed_30 : decode cX0_feed 30 = .ok (.iconst 1, 1) := by decide +kernel
theorem dX0_feed_31 : decode cX0_feed 31 = .ok (.iadd, 1) := by decide +kernel
theorem dX0_feed_32 : decode cX0_feed 32 = .ok (.putfield 62, 3) := by decide +kernel
theorem dX0_feed_35 : decode cX0_feed 35 = .ok (.aload_n 0, 1) := by decide +kernel
theorem dX0_feed_36 : decode cX0_feed 36 = .ok (.getfield 62, 3) := by decide +kernel
theorem dX0_feed_39 : decode cX0_feed 39 = .ok (.ireturn, 1) := by decide +kernel
theorem dX0_feedRun_0 : decode cX0_feedRun 0 = .ok (.iload_n 3, 1) := by decide +kernel
theorem dX0_feedRun_1 : decode cX0_feedRun 1 = .ok (.ifCond .ge 7, 3) := by decide +kernel
theorem dX0_feedRun_4 : decode cX0_feedRun 4 = .ok (.iconst 0, 1) := by decide +kernel
theorem dX0_feedRun_5 : decode cX0_feedRun 5 = .ok (.goto 4, 3) := by decide +kernel
theorem dX0_feedRun_8 : decode cX0_feedRun 8 = .ok (.iload_n 3, 1) := by decide +kernel
theorem dX0_feedRun_9 : decode cX0_feedRun 9 = .ok (.istore 4, 2) := by decide +kernel
theorem dX0_feedRun_11 : decode cX0_feedRun 11 = .ok (.iload 4, 2) := by decide +kernel
theorem dX0_feedRun_13 : decode cX0_feedRun 13 = .ok (.bipush 96, 2) := by decide +kernel
theorem dX0_feedRun_15 : decode cX0_feedRun 15 = .ok (.aload_n 0, 1) := by decide +kernel
theorem dX0_feedRun_16 : decode cX0_feedRun 16 = .ok (.getfield 62, 3) := by decide +kernel
theorem dX0_feedRun_19 : decode cX0_feedRun 19 = .ok (.isub, 1) := by decide +kernel
theorem dX0_feedRun_20 : decode cX0_feedRun 20 = .ok (.if_icmp .le 5, 3) := by decide +kernel
theorem dX0_feedRun_23 : decode cX0_feedRun 23 = .ok (.iconst (-1), 1) := by decide +kernel
theorem dX0_feedRun_24 : decode cX0_feedRun 24 = .ok (.ireturn, 1) := by decide +kernel
theorem dX0_feedRun_25 : decode cX0_feedRun 25 = .ok (.iload_n 1, 1) := by decide +kernel
theorem dX0_feedRun_26 : decode cX0_feedRun 26 = .ok (.istore 5, 2) := by decide +kernel
theorem dX0_feedRun_28 : decode cX0_feedRun 28 = .ok (.iconst 0, 1) := by decide +kernel
theorem dX0_feedRun_29 : decode cX0_feedRun 29 = .ok (.istore 6, 2) := by decide +kernel
theorem dX0_feedRun_31 : decode cX0_feedRun 31 = .ok (.iload 6, 2) := by decide +kernel
theorem dX0_feedRun_33 : decode cX0_feedRun 33 = .ok (.iload 4, 2) := by decide +kernel
theorem dX0_feedRun_35 : decode cX0_feedRun 35 = .ok (.if_icmp .ge 22, 3) := by decide +kernel
theorem dX0_feedRun_38 : decode cX0_feedRun 38 = .ok (.aload_n 0, 1) := by decide +kernel
theorem dX0_feedRun_39 : decode cX0_feedRun 39 = .ok (.iload 5, 2) := by decide +kernel
theorem dX0_feedRun_41 : decode cX0_feedRun 41 = .ok (.invokevirtual 66, 3) := by decide +kernel
theorem dX0_feedRun_44 : decode cX0_feedRun 44 = .ok (.pop, 1) := by decide +kernel
theorem dX0_feedRun_45 : decode cX0_feedRun 45 = .ok (.iload 5, 2) := by decide +kernel
theorem dX0_feedRun_47 : decode cX0_feedRun 47 = .ok (.iload_n 2, 1) := by decide +kernel
theorem dX0_feedRun_48 : decode cX0_feedRun 48 = .ok (.iadd, 1) := by decide +kernel
theorem dX0_feedRun_49 : decode cX0_feedRun 49 = .ok (.istore 5, 2) := by decide +kernel
theorem dX0_feedRun_51 : decode cX0_feedRun 51 = .ok (.iinc 6 1, 3) := by decide +kernel
theorem dX0_feedRun_54 : decode cX0_feedRun 54 = .ok (.goto (-23), 3) := by decide +kernel
theorem dX0_feedRun_57 : decode cX0_feedRun 57 = .ok (.aload_n 0, 1) := by decide +kernel
theorem dX0_feedRun_58 : decode cX0_feedRun 58 = .ok (.getfield 62, 3) := by decide +kernel
theorem dX0_feedRun_61 : decode cX0_feedRun 61 = .ok (.ireturn, 1) := by decide +kernel
theorem dX0_feedFrom_0 : decode cX0_feedFrom 0 = .ok (.aload_n 0, 1) := by decide +kernel
theorem dX0_feedFrom_1 : decode cX0_feedFrom 1 = .ok (.iload_n 1, 1) := by decide +kernel
theorem dX0_feedFrom_2 : decode cX0_feedFrom 2 = .ok (.invokevirtual 70, 3) := by decide +kernel
theorem dX0_feedFrom_5 : decode cX0_feedFrom 5 = .ok (.istore 4, 2) := by decide +kernel
theorem dX0_feedFrom_7 : decode cX0_feedFrom 7 = .ok (.iload 4, 2) := by decide +kernel
theorem dX0_feedFrom_9 : decode cX0_feedFrom 9 = .ok (.ifCond .ge 6, 3) := by decide +kernel
theorem dX0_feedFrom_12 : decode cX0_feedFrom 12 = .ok (.iload 4, 2) := by decide +kernel
theorem dX0_feedFrom_14 : decode cX0_feedFrom 14 = .ok (.ireturn, 1) := by decide +kernel
theorem dX0_feedFrom_15 : decode cX0_feedFrom 15 = .ok (.iload_n 2, 1) := by decide +kernel
theorem dX0_feedFrom_16 : decode cX0_feedFrom 16 = .ok (.ifCond .lt 21, 3) := by decide +kernel
theorem dX0_feedFrom_19 : decode cX0_feedFrom 19 = .ok (.iload_n 3, 1) := by decide +kernel
theorem dX0_feedFrom_20 : decode cX0_feedFrom 20 = .ok (.ifCond .lt 17, 3) := by decide +kernel
theorem dX0_feedFrom_23 : decode cX0_feedFrom 23 = .ok (.iload_n 2, 1) := by decide +kernel
theorem dX0_feedFrom_24 : decode cX0_feedFrom 24 = .ok (.iload 4, 2) := by decide +kernel
theorem dX0_feedFrom_26 : decode cX0_feedFrom 26 = .ok (.if_icmp .gt 11, 3) := by decide +kernel
theorem dX0_feedFrom_29 : decode cX0_feedFrom 29 = .ok (.iload_n 3, 1) := by decide +kernel
theorem dX0_feedFrom_30 : decode cX0_feedFrom 30 = .ok (.iload 4, 2) := by decide +kernel
theorem dX0_feedFrom_32 : decode cX0_feedFrom 32 = .ok (.iload_n 2, 1) := by decide +kernel
theorem dX0_feedFrom_33 : decode cX0_feedFrom 33 = .ok (.isub, 1) := by decide +kernel
theorem dX0_feedFrom_34 : decode cX0_feedFrom 34 = .ok (.if_icmp .le 6, 3) := by decide +kernel
theorem dX0_feedFrom_37 : decode cX0_feedFrom 37 = .ok (.bipush (-5), 2) := by decide +kernel
theorem dX0_feedFrom_39 : decode cX0_feedFrom 39 = .ok (.ireturn, 1) := by decide +kernel
theorem dX0_feedFrom_40 : decode cX0_feedFrom 40 = .ok (.iload_n 3, 1) := by decide +kernel
theorem dX0_feedFrom_41 : decode cX0_feedFrom 41 = .ok (.bipush 96, 2) := by decide +kernel
theorem dX0_feedFrom_43 : decode cX0_feedFrom 43 = .ok (.aload_n 0, 1) := by decide +kernel
theorem dX0_feedFrom_44 : decode cX0_feedFrom 44 = .ok (.getfield 62, 3) := by decide +kernel
theorem dX0_feedFrom_47 : decode cX0_feedFrom 47 = .ok (.isub, 1) := by decide +kernel
theorem dX0_feedFrom_48 : decode cX0_feedFrom 48 = .ok (.if_icmp .le 5, 3) := by decide +kernel
theorem dX0_feedFrom_51 : decode cX0_feedFrom 51 = .ok (.iconst (-1), 1) := by decide +kernel
theorem dX0_feedFrom_52 : decode cX0_feedFrom 52 = .ok (.ireturn, 1) := by decide +kernel
theorem dX0_feedFrom_53 : decode cX0_feedFrom 53 = .ok (.iconst 0, 1) := by decide +kernel
theorem dX0_feedFrom_54 : decode cX0_feedFrom 54 = .ok (.istore 5, 2) := by decide +kernel
theorem dX0_feedFrom_56 : decode cX0_feedFrom 56 = .ok (.iload 5, 2) := by decide +kernel
theorem dX0_feedFrom_58 : decode cX0_feedFrom 58 = .ok (.iload_n 3, 1) := by decide +kernel
theorem dX0_feedFrom_59 : decode cX0_feedFrom 59 = .ok (.if_icmp .ge 27, 3) := by decide +kernel
theorem dX0_feedFrom_62 : decode cX0_feedFrom 62 = .ok (.aload_n 0, 1) := by decide +kernel
theorem dX0_feedFrom_63 : decode cX0_feedFrom 63 = .ok (.iload_n 1, 1) := by decide +kernel
theorem dX0_feedFrom_64 : decode cX0_feedFrom 64 = .ok (.iload_n 2, 1) := by decide +kernel
theorem dX0_feedFrom_65 : decode cX0_feedFrom 65 = .ok (.iload 5, 2) := by decide +kernel
theorem dX0_feedFrom_67 : decode cX0_feedFrom 67 = .ok (.iadd, 1) := by decide +kernel
theorem dX0_feedFrom_68 : decode cX0_feedFrom 68 = .ok (.invokevirtual 73, 3) := by decide +kernel
theorem dX0_feedFrom_71 : decode cX0_feedFrom 71 = .ok (.istore 6, 2) := by decide +kernel
theorem dX0_feedFrom_73 : decode cX0_feedFrom 73 = .ok (.aload_n 0, 1) := by decide +kernel
theorem dX0_feedFrom_74 : decode cX0_feedFrom 74 = .ok (.iload 6, 2) := by decide +kernel
theorem dX0_feedFrom_76 : decode cX0_feedFrom 76 = .ok (.invokevirtual 66, 3) := by decide +kernel
theorem dX0_feedFrom_79 : decode cX0_feedFrom 79 = .ok (.pop, 1) := by decide +kernel
theorem dX0_feedFrom_80 : decode cX0_feedFrom 80 = .ok (.iinc 5 1, 3) := by decide +kernel
theorem dX0_feedFrom_83 : decode cX0_feedFrom 83 = .ok (.goto (-27), 3) := by decide +kernel
theorem dX0_feedFrom_86 : decode cX0_feedFrom 86 = .ok (.aload_n 0, 1) := by decide +kernel
theorem dX0_feedFrom_87 : decode cX0_feedFrom 87 = .ok (.getfield 62, 3) := by decide +kernel
theorem dX0_feedFrom_90 : decode cX0_feedFrom 90 = .ok (.ireturn, 1) := by decide +kernel
theorem dX0_length_0 : decode cX0_length 0 = .ok (.iload_n 1, 1) := by decide +kernel
theorem dX0_length_1 : decode cX0_length 1 = .ok (.invokestatic 77, 3) := by decide +kernel
theorem dX0_length_4 : decode cX0_length 4 = .ok (.ifCond .eq 6, 3) := by decide +kernel
theorem dX0_length_7 : decode cX0_length 7 = .ok (.bipush (-2), 2) := by decide +kernel
theorem dX0_length_9 : decode cX0_length 9 = .ok (.ireturn, 1) := by decide +kernel
theorem dX0_length_10 : decode cX0_length 10 = .ok (.aload_n 0, 1) := by decide +kernel
theorem dX0_length_11 : decode cX0_length 11 = .ok (.getfield 13, 3) := by decide +kernel
theorem dX0_length_14 : decode cX0_length 14 = .ok (.iload_n 1, 1) := by decide +kernel
theorem dX0_length_15 : decode cX0_length 15 = .ok (.baload, 1) := by decide +kernel
theorem dX0_length_16 : decode cX0_length 16 = .ok (.ifCond .ne 6, 3) := by decide +kernel
theorem dX0_length_19 : decode cX0_length 19 = .ok (.bipush (-4), 2) := by decide +kernel
theorem dX0_length_21 : decode cX0_length 21 = .ok (.ireturn, 1) := by decide +kernel
theorem dX0_length_22 : decode cX0_length 22 = .ok (.iconst 0, 1) := by decide +kernel
theorem dX0_length_23 : decode cX0_length 23 = .ok (.istore_n 2, 1) := by decide +kernel
theorem dX0_length_24 : decode cX0_length 24 = .ok (.iconst 0, 1) := by decide +kernel
theorem dX0_length_25 : decode cX0_length 25 = .ok (.istore_n 3, 1) := by decide +kernel
theorem dX0_length_26 : decode cX0_length 26 = .ok (.iload_n 3, 1) := by decide +kernel
theorem dX0_length_27 : decode cX0_length 27 = .ok (.aload_n 0, 1) := by decide +kernel
theorem dX0_length_28 : decode cX0_length 28 = .ok (.getfield 17, 3) := by decide +kernel
theorem dX0_length_31 : decode cX0_length 31 = .ok (.iload_n 1, 1) := by decide +kernel
theorem dX0_length_32 : decode cX0_length 32 = .ok (.iaload, 1) := by decide +kernel
theorem dX0_length_33 : decode cX0_length 33 = .ok (.if_icmp .ge 28, 3) := by decide +kernel
theorem dX0_length_36 : decode cX0_length 36 = .ok (.iload_n 2, 1) := by decide +kernel
theorem dX0_length_37 : decode cX0_length 37 = .ok (.aload_n 0, 1) := by decide +kernel
theorem dX0_length_38 : decode cX0_length 38 = .ok (.getfield 26, 3) := by decide +kernel
theorem dX0_length_41 : decode cX0_length 41 = .ok (.aload_n 0, 1) := by decide +kernel
theorem dX0_length_42 : decode cX0_length 42 = .ok (.getfield 20, 3) := by decide +kernel
theorem dX0_length_45 : decode cX0_length 45 = .ok (.iload_n 1, 1) := by decide +kernel
theorem dX0_length_46 : decode cX0_length 46 = .ok (.bipush 16, 2) := by decide +kernel
theorem dX0_length_48 : decode cX0_length 48 = .ok (.imul, 1) := by decide +kernel
theorem dX0_length_49 : decode cX0_length 49 = .ok (.iload_n 3, 1) := by decide +kernel
theorem dX0_length_50 : decode cX0_length 50 = .ok (.iadd, 1) := by decide +kernel
theorem dX0_length_51 : decode cX0_length 51 = .ok (.iaload, 1) := by decide +kernel
theorem dX0_length_52 : decode cX0_length 52 = .ok (.iaload, 1) := by decide +kernel
theorem dX0_length_53 : decode cX0_length 53 = .ok (.iadd, 1) := by decide +kernel
theorem dX0_length_54 : decode cX0_length 54 = .ok (.istore_n 2, 1) := by decide +kernel
theorem dX0_length_55 : decode cX0_length 55 = .ok (.iinc 3 1, 3) := by decide +kernel
theorem dX0_length_58 : decode cX0_length 58 = .ok (.goto (-32), 3) := by decide +kernel
theorem dX0_length_61 : decode cX0_length 61 = .ok (.iload_n 2, 1) := by decide +kernel
theorem dX0_length_62 : decode cX0_length 62 = .ok (.ireturn, 1) := by decide +kernel
theorem dX0_badSlot_0 : decode cX0_badSlot 0 = .ok (.iload_n 0, 1) := by decide +kernel
theorem dX0_badSlot_1 : decode cX0_badSlot 1 = .ok (.ifCond .lt 8, 3) := by decide +kernel
theorem dX0_badSlot_4 : decode cX0_badSlot 4 = .ok (.iload_n 0, 1) := by decide +kernel
theorem dX0_badSlot_5 : decode cX0_badSlot 5 = .ok (.iconst 5, 1) := by decide +kernel
theorem dX0_badSlot_6 : decode cX0_badSlot 6 = .ok (.if_icmp .le 7, 3) := by decide +kernel
theorem dX0_badSlot_9 : decode cX0_badSlot 9 = .ok (.iconst 1, 1) := by decide +kernel
theorem dX0_badSlot_10 : decode cX0_badSlot 10 = .ok (.goto 4, 3) := by decide +kernel
theorem dX0_badSlot_13 : decode cX0_badSlot 13 = .ok (.iconst 0, 1) := by decide +kernel
theorem dX0_badSlot_14 : decode cX0_badSlot 14 = .ok (.ireturn, 1) := by decide +kernel
theorem dX0_restored_0 : decode cX0_restored 0 = .ok (.iload_n 2, 1) := by decide +kernel
theorem dX0_restored_1 : decode cX0_restored 1 = .ok (.istore_n 3, 1) := by decide +kernel
theorem dX0_restored_2 : decode cX0_restored 2 = .ok (.iconst 0, 1) := by decide +kernel
theorem dX0_restored_3 : decode cX0_restored 3 = .ok (.istore 4, 2) := by decide +kernel
theorem dX0_restored_5 : decode cX0_restored 5 = .ok (.iload 4, 2) := by decide +kernel
theorem dX0_restored_7 : decode cX0_restored 7 = .ok (.aload_n 0, 1) := by decide +kernel
theorem dX0_restored_8 : decode cX0_restored 8 = .ok (.getfield 17, 3) := by decide +kernel
theorem dX0_restored_11 : decode cX0_restored 11 = .ok (.iload_n 1, 1) := by decide +kernel
theorem dX0_restored_12 : decode cX0_restored 12 = .ok (.iaload, 1) := by decide +kernel
theorem dX0_restored_13 : decode cX0_restored 13 = .ok (.if_icmp .ge 57, 3) := by decide +kernel
theorem dX0_restored_16 : decode cX0_restored 16 = .ok (.aload_n 0, 1) := by decide +kernel
theorem dX0_restored_17 : decode cX0_restored 17 = .ok (.getfield 20, 3) := by decide +kernel
theorem dX0_restored_20 : decode cX0_restored 20 = .ok (.iload_n 1, 1) := by decide +kernel
theorem dX0_restored_21 : decode cX0_restored 21 = .ok (.bipush 16, 2) := by decide +kernel
theorem dX0_restored_23 : decode cX0_restored 23 = .ok (.imul, 1) := by decide +kernel
theorem dX0_restored_24 : decode cX0_restored 24 = .ok (.iload 4, 2) := by decide +kernel
theorem dX0_restored_26 : decode cX0_restored 26 = .ok (.iadd, 1) := by decide +kernel
theorem dX0_restored_27 : decode cX0_restored 27 = .ok (.iaload, 1) := by decide +kernel
theorem dX0_restored_28 : decode cX0_restored 28 = .ok (.istore 5, 2) := by decide +kernel
theorem dX0_restored_30 : decode cX0_restored 30 = .ok (.iload_n 3, 1) := by decide +kernel
theorem dX0_restored_31 : decode cX0_restored 31 = .ok (.aload_n 0, 1) := by decide +kernel
theorem dX0_restored_32 : decode cX0_restored 32 = .ok (.getfield 26, 3) := by decide +kernel
theorem dX0_restored_35 : decode cX0_restored 35 = .ok (.iload 5, 2) := by decide +kernel
theorem dX0_restored_37 : decode cX0_restored 37 = .ok (.iaload, 1) := by decide +kernel
theorem dX0_restored_38 : decode cX0_restored 38 = .ok (.if_icmp .ge 16, 3) := by decide +kernel
theorem dX0_restored_41 : decode cX0_restored 41 = .ok (.aload_n 0, 1) := by decide +kernel
theorem dX0_restored_42 : decode cX0_restored 42 = .ok (.iload 5, 2) := by decide +kernel
theorem dX0_restored_44 : decode cX0_restored 44 = .ok (.invokevirtual 103, 3) := by decide +kernel
theorem dX0_restored_47 : decode cX0_restored 47 = .ok (.aload_n 0, 1) := by decide +kernel
theorem dX0_restored_48 : decode cX0_restored 48 = .ok (.getfield 50, 3) := by decide +kernel
theorem dX0_restored_51 : decode cX0_restored 51 = .ok (.iload_n 3, 1) := by decide +kernel
theorem dX0_restored_52 : decode cX0_restored 52 = .ok (.iaload, 1) := by decide +kernel
theorem dX0_restored_53 : decode cX0_restored 53 = .ok (.ireturn, 1) := by decide +kernel
theorem dX0_restored_54 : decode cX0_restored 54 = .ok (.iload_n 3, 1) := by decide +kernel
theorem dX0_restored_55 : decode cX0_restored 55 = .ok (.aload_n 0, 1) := by decide +kernel
theorem dX0_restored_56 : decode cX0_restored 56 = .ok (.getfield 26, 3) := by decide +kernel
theorem dX0_restored_59 : decode cX0_restored 59 = .ok (.iload 5, 2) := by decide +kernel
theorem dX0_restored_61 : decode cX0_restored 61 = .ok (.iaload, 1) := by decide +kernel
theorem dX0_restored_62 : decode cX0_restored 62 = .ok (.isub, 1) := by decide +kernel
theorem dX0_restored_63 : decode cX0_restored 63 = .ok (.istore_n 3, 1) := by decide +kernel
theorem dX0_restored_64 : decode cX0_restored 64 = .ok (.iinc 4 1, 3) := by decide +kernel
theorem dX0_restored_67 : decode cX0_restored 67 = .ok (.goto (-62), 3) := by decide +kernel
theorem dX0_restored_70 : decode cX0_restored 70 = .ok (.iconst 0, 1) := by decide +kernel
theorem dX0_restored_71 : decode cX0_restored 71 = .ok (.ireturn, 1) := by decide +kernel
theorem dX0_writeOut_0 : decode cX0_writeOut 0 = .ok (.iconst 1, 1) := by decide +kernel
theorem dX0_writeOut_1 : decode cX0_writeOut 1 = .ok (.istore_n 2, 1) := by decide +kernel
theorem dX0_writeOut_2 : decode cX0_writeOut 2 = .ok (.aload_n 0, 1) := by decide +kernel
theorem dX0_writeOut_3 : decode cX0_writeOut 3 = .ok (.getfield 59, 3) := by decide +kernel
theorem dX0_writeOut_6 : decode cX0_writeOut 6 = .ok (.iconst 0, 1) := by decide +kernel
theorem dX0_writeOut_7 : decode cX0_writeOut 7 = .ok (.iload_n 1, 1) := by decide +kernel
theorem dX0_writeOut_8 : decode cX0_writeOut 8 = .ok (.iastore, 1) := by decide +kernel
theorem dX0_writeOut_9 : decode cX0_writeOut 9 = .ok (.iload_n 2, 1) := by decide +kernel
theorem dX0_writeOut_10 : decode cX0_writeOut 10 = .ok (.bipush 8, 2) := by decide +kernel
theorem dX0_writeOut_12 : decode cX0_writeOut 12 = .ok (.if_icmp .ge 46, 3) := by decide +kernel
theorem dX0_writeOut_15 : decode cX0_writeOut 15 = .ok (.aload_n 0, 1) := by decide +kernel
theorem dX0_writeOut_16 : decode cX0_writeOut 16 = .ok (.getfield 29, 3) := by decide +kernel
theorem dX0_writeOut_19 : decode cX0_writeOut 19 = .ok (.aload_n 0, 1) := by decide +kernel
theorem dX0_writeOut_20 : decode cX0_writeOut 20 = .ok (.getfield 59, 3) := by decide +kernel
theorem dX0_writeOut_23 : decode cX0_writeOut 23 = .ok (.iload_n 2, 1) := by decide +kernel
theorem dX0_writeOut_24 : decode cX0_writeOut 24 = .ok (.iconst 1, 1) := by decide +kernel
theorem dX0_writeOut_25 : decode cX0_writeOut 25 = .ok (.isub, 1) := by decide +kernel
theorem dX0_writeOut_26 : decode cX0_writeOut 26 = .ok (.iaload, 1) := by decide +kernel
theorem dX0_writeOut_27 : decode cX0_writeOut 27 = .ok (.iaload, 1) := by decide +kernel
theorem dX0_writeOut_28 : decode cX0_writeOut 28 = .ok (.ifCond .le 30, 3) := by decide +kernel
theorem dX0_writeOut_31 : decode cX0_writeOut 31 = .ok (.aload_n 0, 1) := by decide +kernel
theorem dX0_writeOut_32 : decode cX0_writeOut 32 = .ok (.getfield 59, 3) := by decide +kernel
theorem dX0_writeOut_35 : decode cX0_writeOut 35 = .ok (.iload_n 2, 1) := by decide +kernel
theorem dX0_writeOut_36 : decode cX0_writeOut 36 = .ok (.aload_n 0, 1) := by decide +kernel
theorem dX0_writeOut_37 : decode cX0_writeOut 37 = .ok (.getfield 29, 3) := by decide +kernel
theorem dX0_writeOut_40 : decode cX0_writeOut 40 = .ok (.aload_n 0, 1) := by decide +kernel
theorem dX0_writeOut_41 : decode cX0_writeOut 41 = .ok (.getfield 59, 3) := by decide +kernel
theorem dX0_writeOut_44 : decode cX0_writeOut 44 = .ok (.iload_n 2, 1) := by decide +kernel
theorem dX0_writeOut_45 : decode cX0_writeOut 45 = .ok (.iconst 1, 1) := by decide +kernel
theorem dX0_writeOut_46 : decode cX0_writeOut 46 = .ok (.isub, 1) := by decide +kernel
theorem dX0_writeOut_47 : decode cX0_writeOut 47 = .ok (.iaload, 1) := by decide +kernel
theorem dX0_writeOut_48 : decode cX0_writeOut 48 = .ok (.iaload, 1) := by decide +kernel
theorem dX0_writeOut_49 : decode cX0_writeOut 49 = .ok (.iconst 1, 1) := by decide +kernel
theorem dX0_writeOut_50 : decode cX0_writeOut 50 = .ok (.isub, 1) := by decide +kernel
theorem dX0_writeOut_51 : decode cX0_writeOut 51 = .ok (.iastore, 1) := by decide +kernel
theorem dX0_writeOut_52 : decode cX0_writeOut 52 = .ok (.iinc 2 1, 3) := by decide +kernel
theorem dX0_writeOut_55 : decode cX0_writeOut 55 = .ok (.goto (-46), 3) := by decide +kernel
theorem dX0_writeOut_58 : decode cX0_writeOut 58 = .ok (.aload_n 0, 1) := by decide +kernel
theorem dX0_writeOut_59 : decode cX0_writeOut 59 = .ok (.getfield 59, 3) := by decide +kernel
theorem dX0_writeOut_62 : decode cX0_writeOut 62 = .ok (.iload_n 2, 1) := by decide +kernel
theorem dX0_writeOut_63 : decode cX0_writeOut 63 = .ok (.iconst 1, 1) := by decide +kernel
theorem dX0_writeOut_64 : decode cX0_writeOut 64 = .ok (.isub, 1) := by decide +kernel
theorem dX0_writeOut_65 : decode cX0_writeOut 65 = .ok (.iaload, 1) := by decide +kernel
theorem dX0_writeOut_66 : decode cX0_writeOut 66 = .ok (.istore_n 3, 1) := by decide +kernel
theorem dX0_writeOut_67 : decode cX0_writeOut 67 = .ok (.iconst 0, 1) := by decide +kernel
theorem dX0_writeOut_68 : decode cX0_writeOut 68 = .ok (.istore 4, 2) := by decide +kernel
theorem dX0_writeOut_70 : decode cX0_writeOut 70 = .ok (.iload 4, 2) := by decide +kernel
theorem dX0_writeOut_72 : decode cX0_writeOut 72 = .ok (.aload_n 0, 1) := by decide +kernel
theorem dX0_writeOut_73 : decode cX0_writeOut 73 = .ok (.getfield 26, 3) := by decide +kernel
theorem dX0_writeOut_76 : decode cX0_writeOut 76 = .ok (.iload_n 3, 1) := by decide +kernel
theorem dX0_writeOut_77 : decode cX0_writeOut 77 = .ok (.iaload, 1) := by decide +kernel
theorem dX0_writeOut_78 : decode cX0_writeOut 78 = .ok (.if_icmp .ge 28, 3) := by decide +kernel
theorem dX0_writeOut_81 : decode cX0_writeOut 81 = .ok (.aload_n 0, 1) := by decide +kernel
theorem dX0_writeOut_82 : decode cX0_writeOut 82 = .ok (.getfield 50, 3) := by decide +kernel
theorem dX0_writeOut_85 : decode cX0_writeOut 85 = .ok (.iload 4, 2) := by decide +kernel
theorem dX0_writeOut_87 : decode cX0_writeOut 87 = .ok (.aload_n 0, 1) := by decide +kernel
theorem dX0_writeOut_88 : decode cX0_writeOut 88 = .ok (.getfield 35, 3) := by decide +kernel
theorem dX0_writeOut_91 : decode cX0_writeOut 91 = .ok (.iload_n 3, 1) := by decide +kernel
theorem dX0_writeOut_92 : decode cX0_writeOut 92 = .ok (.bipush 16, 2) := by decide +kernel
theorem dX0_writeOut_94 : decode cX0_writeOut 94 = .ok (.imul, 1) := by decide +kernel
theorem dX0_writeOut_95 : decode cX0_writeOut 95 = .ok (.iload 4, 2) := by decide +kernel
theorem dX0_writeOut_97 : decode cX0_writeOut 97 = .ok (.iadd, 1) := by decide +kernel
theorem dX0_writeOut_98 : decode cX0_writeOut 98 = .ok (.iaload, 1) := by decide +kernel
theorem dX0_writeOut_99 : decode cX0_writeOut 99 = .ok (.iastore, 1) := by decide +kernel
theorem dX0_writeOut_100 : decode cX0_writeOut 100 = .ok (.iinc 4 1, 3) := by decide +kernel
theorem dX0_writeOut_103 : decode cX0_writeOut 103 = .ok (.goto (-33), 3) := by decide +kernel
theorem dX0_writeOut_106 : decode cX0_writeOut 106 = .ok (.iload_n 2, 1) := by decide +kernel
theorem dX0_writeOut_107 : decode cX0_writeOut 107 = .ok (.iconst 2, 1) := by decide +kernel
theorem dX0_writeOut_108 : decode cX0_writeOut 108 = .ok (.isub, 1) := by decide +kernel
theorem dX0_writeOut_109 : decode cX0_writeOut 109 = .ok (.istore 4, 2) := by decide +kernel
theorem dX0_writeOut_111 : decode cX0_writeOut 111 = .ok (.iload 4, 2) := by decide +kernel
theorem dX0_writeOut_113 : decode cX0_writeOut 113 = .ok (.ifCond .lt 20, 3) := by decide +kernel
theorem dX0_writeOut_116 : decode cX0_writeOut 116 = .ok (.aload_n 0, 1) := by decide +kernel
theorem dX0_writeOut_117 : decode cX0_writeOut 117 = .ok (.aload_n 0, 1) := by decide +kernel
theorem dX0_writeOut_118 : decode cX0_writeOut 118 = .ok (.getfield 59, 3) := by decide +kernel
theorem dX0_writeOut_121 : decode cX0_writeOut 121 = .ok (.iload 4, 2) := by decide +kernel
theorem dX0_writeOut_123 : decode cX0_writeOut 123 = .ok (.iaload, 1) := by decide +kernel
theorem dX0_writeOut_124 : decode cX0_writeOut 124 = .ok (.invokevirtual 126, 3) := by decide +kernel
theorem dX0_writeOut_127 : decode cX0_writeOut 127 = .ok (.iinc 4 (-1), 3) := by decide +kernel
theorem dX0_writeOut_130 : decode cX0_writeOut 130 = .ok (.goto (-19), 3) := by decide +kernel
theorem dX0_writeOut_133 : decode cX0_writeOut 133 = .ok (.return_, 1) := by decide +kernel
theorem dX0_runProgram_0 : decode cX0_runProgram 0 = .ok (.iconst 0, 1) := by decide +kernel
theorem dX0_runProgram_1 : decode cX0_runProgram 1 = .ok (.istore_n 2, 1) := by decide +kernel
theorem dX0_runProgram_2 : decode cX0_runProgram 2 = .ok (.iload_n 2, 1) := by decide +kernel
theorem dX0_runProgram_3 : decode cX0_runProgram 3 = .ok (.bipush 16, 2) := by decide +kernel
theorem dX0_runProgram_5 : decode cX0_runProgram 5 = .ok (.if_icmp .ge 21, 3) := by decide +kernel
theorem dX0_runProgram_8 : decode cX0_runProgram 8 = .ok (.aload_n 0, 1) := by decide +kernel
theorem dX0_runProgram_9 : decode cX0_runProgram 9 = .ok (.getfield 53, 3) := by decide +kernel
theorem dX0_runProgram_12 : decode cX0_runProgram 12 = .ok (.iload_n 2, 1) := by decide +kernel
theorem dX0_runProgram_13 : decode cX0_runProgram 13 = .ok (.aload_n 0, 1) := by decide +kernel
theorem dX0_runProgram_14 : decode cX0_runProgram 14 = .ok (.getfield 50, 3) := by decide +kernel
theorem dX0_runProgram_17 : decode cX0_runProgram 17 = .ok (.iload_n 2, 1) := by decide +kernel
theorem dX0_runProgram_18 : decode cX0_runProgram 18 = .ok (.iaload, 1) := by decide +kernel
theorem dX0_runProgram_19 : decode cX0_runProgram 19 = .ok (.iastore, 1) := by decide +kernel
theorem dX0_runProgram_20 : decode cX0_runProgram 20 = .ok (.iinc 2 1, 3) := by decide +kernel
theorem dX0_runProgram_23 : decode cX0_runProgram 23 = .ok (.goto (-21), 3) := by decide +kernel
theorem dX0_runProgram_26 : decode cX0_runProgram 26 = .ok (.iconst 0, 1) := by decide +kernel
theorem dX0_runProgram_27 : decode cX0_runProgram 27 = .ok (.istore_n 2, 1) := by decide +kernel
theorem dX0_runProgram_28 : decode cX0_runProgram 28 = .ok (.iconst 0, 1) := by decide +kernel
theorem dX0_runProgram_29 : decode cX0_runProgram 29 = .ok (.istore_n 3, 1) := by decide +kernel
theorem dX0_runProgram_30 : decode cX0_runProgram 30 = .ok (.iload_n 3, 1) := by decide +kernel
theorem dX0_runProgram_31 : decode cX0_runProgram 31 = .ok (.aload_n 0, 1) := by decide +kernel
theorem dX0_runProgram_32 : decode cX0_runProgram 32 = .ok (.getfield 32, 3) := by decide +kernel
theorem dX0_runProgram_35 : decode cX0_runProgram 35 = .ok (.iload_n 1, 1) := by decide +kernel
theorem dX0_runProgram_36 : decode cX0_runProgram 36 = .ok (.iaload, 1) := by decide +kernel
theorem dX0_runProgram_37 : decode cX0_runProgram 37 = .ok (.if_icmp .ge 75, 3) := by decide +kernel
theorem dX0_runProgram_40 : decode cX0_runProgram 40 = .ok (.aload_n 0, 1) := by decide +kernel
theorem dX0_runProgram_41 : decode cX0_runProgram 41 = .ok (.getfield 35, 3) := by decide +kernel
theorem dX0_runProgram_44 : decode cX0_runProgram 44 = .ok (.iload_n 1, 1) := by decide +kernel
theorem dX0_runProgram_45 : decode cX0_runProgram 45 = .ok (.bipush 16, 2) := by decide +kernel
theorem dX0_runProgram_47 : decode cX0_runProgram 47 = .ok (.imul, 1) := by decide +kernel
theorem dX0_runProgram_48 : decode cX0_runProgram 48 = .ok (.iload_n 3, 1) := by decide +kernel
theorem dX0_runProgram_49 : decode cX0_runProgram 49 = .ok (.iadd, 1) := by decide +kernel
theorem dX0_runProgram_50 : decode cX0_runProgram 50 = .ok (.iaload, 1) := by decide +kernel
theorem dX0_runProgram_51 : decode cX0_runProgram 51 = .ok (.istore 4, 2) := by decide +kernel
theorem dX0_runProgram_53 : decode cX0_runProgram 53 = .ok (.iload 4, 2) := by decide +kernel
theorem dX0_runProgram_55 : decode cX0_runProgram 55 = .ok (.sipush 256, 3) := by decide +kernel
theorem dX0_runProgram_58 : decode cX0_runProgram 58 = .ok (.if_icmp .ge 23, 3) := by decide +kernel
theorem dX0_runProgram_61 : decode cX0_runProgram 61 = .ok (.iload_n 2, 1) := by decide +kernel
theorem dX0_runProgram_62 : decode cX0_runProgram 62 = .ok (.bipush 16, 2) := by decide +kernel
theorem dX0_runProgram_64 : decode cX0_runProgram 64 = .ok (.if_icmp .ge 11, 3) := by decide +kernel
theorem dX0_runProgram_67 : decode cX0_runProgram 67 = .ok (.aload_n 0, 1) := by decide +kernel
theorem dX0_runProgram_68 : decode cX0_runProgram 68 = .ok (.getfield 50, 3) := by decide +kernel
theorem dX0_runProgram_71 : decode cX0_runProgram 71 = .ok (.iload_n 2, 1) := by decide +kernel
theorem dX0_runProgram_72 : decode cX0_runProgram 72 = .ok (.iload 4, 2) := by decide +kernel
theorem dX0_runProgram_74 : decode cX0_runProgram 74 = .ok (.iastore, 1) := by decide +kernel
theorem dX0_runProgram_75 : decode cX0_runProgram 75 = .ok (.iinc 2 1, 3) := by decide +kernel
theorem dX0_runProgram_78 : decode cX0_runProgram 78 = .ok (.goto 28, 3) := by decide +kernel
theorem dX0_runProgram_81 : decode cX0_runProgram 81 = .ok (.aload_n 0, 1) := by decide +kernel
theorem dX0_runProgram_82 : decode cX0_runProgram 82 = .ok (.iload 4, 2) := by decide +kernel
theorem dX0_runProgram_84 : decode cX0_runProgram 84 = .ok (.sipush 256, 3) := by decide +kernel
theorem dX0_runProgram_87 : decode cX0_runProgram 87 = .ok (.isub, 1) := by decide +kernel
theorem dX0_runProgram_88 : decode cX0_runProgram 88 = .ok (.iconst 4, 1) := by decide +kernel
theorem dX0_runProgram_89 : decode cX0_runProgram 89 = .ok (.ishr, 1) := by decide +kernel
theorem dX0_runProgram_90 : decode cX0_runProgram 90 = .ok (.iload 4, 2) := by decide +kernel
theorem dX0_runProgram_92 : decode cX0_runProgram 92 = .ok (.sipush 256, 3) := by decide +kernel
theorem dX0_runProgram_95 : decode cX0_runProgram 95 = .ok (.isub, 1) := by decide +kernel
theorem dX0_runProgram_96 : decode cX0_runProgram 96 = .ok (.bipush 15, 2) := by decide +kernel
theorem dX0_runProgram_98 : decode cX0_runProgram 98 = .ok (.iand, 1) := by decide +kernel
theorem dX0_runProgram_99 : decode cX0_runProgram 99 = .ok (.iconst 1, 1) := by decide +kernel
theorem dX0_runProgram_100 : decode cX0_runProgram 100 = .ok (.iadd, 1) := by decide +kernel
theorem dX0_runProgram_101 : decode cX0_runProgram 101 = .ok (.iload_n 2, 1) := by decide +kernel
theorem dX0_runProgram_102 : decode cX0_runProgram 102 = .ok (.invokevirtual 129, 3) := by decide +kernel
theorem dX0_runProgram_105 : decode cX0_runProgram 105 = .ok (.istore_n 2, 1) := by decide +kernel
theorem dX0_runProgram_106 : decode cX0_runProgram 106 = .ok (.iinc 3 1, 3) := by decide +kernel
theorem dX0_runProgram_109 : decode cX0_runProgram 109 = .ok (.goto (-79), 3) := by decide +kernel
theorem dX0_runProgram_112 : decode cX0_runProgram 112 = .ok (.return_, 1) := by decide +kernel
theorem dX0_copyBytes_0 : decode cX0_copyBytes 0 = .ok (.iload_n 3, 1) := by decide +kernel
theorem dX0_copyBytes_1 : decode cX0_copyBytes 1 = .ok (.istore 4, 2) := by decide +kernel
theorem dX0_copyBytes_3 : decode cX0_copyBytes 3 = .ok (.iconst 0, 1) := by decide +kernel
theorem dX0_copyBytes_4 : decode cX0_copyBytes 4 = .ok (.istore 5, 2) := by decide +kernel
theorem dX0_copyBytes_6 : decode cX0_copyBytes 6 = .ok (.iload 5, 2) := by decide +kernel
theorem dX0_copyBytes_8 : decode cX0_copyBytes 8 = .ok (.iload_n 2, 1) := by decide +kernel
theorem dX0_copyBytes_9 : decode cX0_copyBytes 9 = .ok (.if_icmp .ge 44, 3) := by decide +kernel
theorem dX0_copyBytes_12 : decode cX0_copyBytes 12 = .ok (.iload 4, 2) := by decide +kernel
theorem dX0_copyBytes_14 : decode cX0_copyBytes 14 = .ok (.bipush 16, 2) := by decide +kernel
theorem dX0_copyBytes_16 : decode cX0_copyBytes 16 = .ok (.if_icmp .ge 37, 3) := by decide +kernel
theorem dX0_copyBytes_19 : decode cX0_copyBytes 19 = .ok (.iload_n 1, 1) := by decide +kernel
theorem dX0_copyBytes_20 : decode cX0_copyBytes 20 = .ok (.iload 5, 2) := by decide +kernel
theorem dX0_copyBytes_22 : decode cX0_copyBytes 22 = .ok (.iadd, 1) := by decide +kernel
theorem dX0_copyBytes_23 : decode cX0_copyBytes 23 = .ok (.bipush 16, 2) := by decide +kernel
theorem dX0_copyBytes_25 : decode cX0_copyBytes 25 = .ok (.if_icmp .ge 28, 3) := by decide +kernel
theorem dX0_copyBytes_28 : decode cX0_copyBytes 28 = .ok (.aload_n 0, 1) := by decide +kernel
theorem dX0_copyBytes_29 : decode cX0_copyBytes 29 = .ok (.getfield 50, 3) := by decide +kernel
theorem dX0_copyBytes_32 : decode cX0_copyBytes 32 = .ok (.iload 4, 2) := by decide +kernel
theorem dX0_copyBytes_34 : decode cX0_copyBytes 34 = .ok (.aload_n 0, 1) := by decide +kernel
theorem dX0_copyBytes_35 : decode cX0_copyBytes 35 = .ok (.getfield 53, 3) := by decide +kernel
theorem dX0_copyBytes_38 : decode cX0_copyBytes 38 = .ok (.iload_n 1, 1) := by decide +kernel
theorem dX0_copyBytes_39 : decode cX0_copyBytes 39 = .ok (.iload 5, 2) := by decide +kernel
theorem dX0_copyBytes_41 : decode cX0_copyBytes 41 = .ok (.iadd, 1) := by decide +kernel
theorem dX0_copyBytes_42 : decode cX0_copyBytes 42 = .ok (.iaload, 1) := by decide +kernel
theorem dX0_copyBytes_43 : decode cX0_copyBytes 43 = .ok (.iastore, 1) := by decide +kernel
theorem dX0_copyBytes_44 : decode cX0_copyBytes 44 = .ok (.iinc 4 1, 3) := by decide +kernel
theorem dX0_copyBytes_47 : decode cX0_copyBytes 47 = .ok (.iinc 5 1, 3) := by decide +kernel
theorem dX0_copyBytes_50 : decode cX0_copyBytes 50 = .ok (.goto (-44), 3) := by decide +kernel
theorem dX0_copyBytes_53 : decode cX0_copyBytes 53 = .ok (.iload 4, 2) := by decide +kernel
theorem dX0_copyBytes_55 : decode cX0_copyBytes 55 = .ok (.ireturn, 1) := by decide +kernel
theorem dX0_poke_0 : decode cX0_poke 0 = .ok (.iload_n 1, 1) := by decide +kernel
theorem dX0_poke_1 : decode cX0_poke 1 = .ok (.ifCond .lt 11, 3) := by decide +kernel
theorem dX0_poke_4 : decode cX0_poke 4 = .ok (.iload_n 1, 1) := by decide +kernel
theorem dX0_poke_5 : decode cX0_poke 5 = .ok (.aload_n 0, 1) := by decide +kernel
theorem dX0_poke_6 : decode cX0_poke 6 = .ok (.getfield 62, 3) := by decide +kernel
theorem dX0_poke_9 : decode cX0_poke 9 = .ok (.if_icmp .lt 6, 3) := by decide +kernel
theorem dX0_poke_12 : decode cX0_poke 12 = .ok (.bipush (-5), 2) := by decide +kernel
theorem dX0_poke_14 : decode cX0_poke 14 = .ok (.ireturn, 1) := by decide +kernel
theorem dX0_poke_15 : decode cX0_poke 15 = .ok (.aload_n 0, 1) := by decide +kernel
theorem dX0_poke_16 : decode cX0_poke 16 = .ok (.getfield 7, 3) := by decide +kernel
theorem dX0_poke_19 : decode cX0_poke 19 = .ok (.iload_n 1, 1) := by decide +kernel
theorem dX0_poke_20 : decode cX0_poke 20 = .ok (.iaload, 1) := by decide +kernel
theorem dX0_poke_21 : decode cX0_poke 21 = .ok (.istore_n 3, 1) := by decide +kernel
theorem dX0_poke_22 : decode cX0_poke 22 = .ok (.aload_n 0, 1) := by decide +kernel
theorem dX0_poke_23 : decode cX0_poke 23 = .ok (.getfield 7, 3) := by decide +kernel
theorem dX0_poke_26 : decode cX0_poke 26 = .ok (.iload_n 1, 1) := by decide +kernel
theorem dX0_poke_27 : decode cX0_poke 27 = .ok (.iload_n 2, 1) := by decide +kernel
theorem dX0_poke_28 : decode cX0_poke 28 = .ok (.sipush 255, 3) := by decide +kernel
theorem dX0_poke_31 : decode cX0_poke 31 = .ok (.iand, 1) := by decide +kernel
theorem dX0_poke_32 : decode cX0_poke 32 = .ok (.iastore, 1) := by decide +kernel
theorem dX0_poke_33 : decode cX0_poke 33 = .ok (.iload_n 3, 1) := by decide +kernel
theorem dX0_poke_34 : decode cX0_poke 34 = .ok (.ireturn, 1) := by decide +kernel
theorem dX0_insert_0 : decode cX0_insert 0 = .ok (.iload_n 1, 1) := by decide +kernel
end
section
set_option maxRecDepth 100000
theorem dX0_insert_1 : decode cX0_insert 1 = .ok (.ifCond .lt 11, 3) := by decide +kernel
theorem dX0_insert_4 : decode cX0_insert 4 = .ok (.iload_n 1, 1) := by decide +kernel
theorem dX0_insert_5 : decode cX0_insert 5 = .ok (.aload_n 0, 1) := by decide +kernel
theorem dX0_insert_6 : decode cX0_insert 6 = .ok (.getfield 62, 3) := by decide +kernel
theorem dX0_insert_9 : decode cX0_insert 9 = .ok (.if_icmp .le 6, 3) := by decide +kernel
theorem dX0_insert_12 : decode cX0_insert 12 = .ok (.bipush (-5), 2) := by decide +kernel
theorem dX0_insert_14 : decode cX0_insert 14 = .ok (.ireturn, 1) := by decide +kernel
theorem dX0_insert_15 : decode cX0_insert 15 = .ok (.aload_n 0, 1) := by decide +kernel
theorem dX0_insert_16 : decode cX0_insert 16 = .ok (.getfield 62, 3) := by decide +kernel
theorem dX0_insert_19 : decode cX0_insert 19 = .ok (.bipush 96, 2) := by decide +kernel
theorem dX0_insert_21 : decode cX0_insert 21 = .ok (.if_icmp .lt 5, 3) := by decide +kernel
theorem dX0_insert_24 : decode cX0_insert 24 = .ok (.iconst (-1), 1) := by decide +kernel
theorem dX0_insert_25 : decode cX0_insert 25 = .ok (.ireturn, 1) := by decide +kernel
theorem dX0_insert_26 : decode cX0_insert 26 = .ok (.aload_n 0, 1) := by decide +kernel
theorem dX0_insert_27 : decode cX0_insert 27 = .ok (.getfield 62, 3) := by decide +kernel
theorem dX0_insert_30 : decode cX0_insert 30 = .ok (.istore_n 3, 1) := by decide +kernel
theorem dX0_insert_31 : decode cX0_insert 31 = .ok (.iload_n 3, 1) := by decide +kernel
theorem dX0_insert_32 : decode cX0_insert 32 = .ok (.iload_n 1, 1) := by decide +kernel
theorem dX0_insert_33 : decode cX0_insert 33 = .ok (.if_icmp .le 23, 3) := by decide +kernel
theorem dX0_insert_36 : decode cX0_insert 36 = .ok (.aload_n 0, 1) := by decide +kernel
theorem dX0_insert_37 : decode cX0_insert 37 = .ok (.getfield 7, 3) := by decide +kernel
theorem dX0_insert_40 : decode cX0_insert 40 = .ok (.iload_n 3, 1) := by decide +kernel
theorem dX0_insert_41 : decode cX0_insert 41 = .ok (.aload_n 0, 1) := by decide +kernel
theorem dX0_insert_42 : decode cX0_insert 42 = .ok (.getfield 7, 3) := by decide +kernel
theorem dX0_insert_45 : decode cX0_insert 45 = .ok (.iload_n 3, 1) := by decide +kernel
theorem dX0_insert_46 : decode cX0_insert 46 = .ok (.iconst 1, 1) := by decide +kernel
theorem dX0_insert_47 : decode cX0_insert 47 = .ok (.isub, 1) := by decide +kernel
theorem dX0_insert_48 : decode cX0_insert 48 = .ok (.iaload, 1) := by decide +kernel
theorem dX0_insert_49 : decode cX0_insert 49 = .ok (.iastore, 1) := by decide +kernel
theorem dX0_insert_50 : decode cX0_insert 50 = .ok (.iinc 3 (-1), 3) := by decide +kernel
theorem dX0_insert_53 : decode cX0_insert 53 = .ok (.goto (-22), 3) := by decide +kernel
theorem dX0_insert_56 : decode cX0_insert 56 = .ok (.aload_n 0, 1) := by decide +kernel
theorem dX0_insert_57 : decode cX0_insert 57 = .ok (.getfield 7, 3) := by decide +kernel
theorem dX0_insert_60 : decode cX0_insert 60 = .ok (.iload_n 1, 1) := by decide +kernel
theorem dX0_insert_61 : decode cX0_insert 61 = .ok (.iload_n 2, 1) := by decide +kernel
theorem dX0_insert_62 : decode cX0_insert 62 = .ok (.sipush 255, 3) := by decide +kernel
theorem dX0_insert_65 : decode cX0_insert 65 = .ok (.iand, 1) := by decide +kernel
theorem dX0_insert_66 : decode cX0_insert 66 = .ok (.iastore, 1) := by decide +kernel
theorem dX0_insert_67 : decode cX0_insert 67 = .ok (.aload_n 0, 1) := by decide +kernel
theorem dX0_insert_68 : decode cX0_insert 68 = .ok (.dup, 1) := by decide +kernel
theorem dX0_insert_69 : decode cX0_insert 69 = .ok (.getfield 62, 3) := by decide +kernel
theorem dX0_insert_72 : decode cX0_insert 72 = .ok (.iconst 1, 1) := by decide +kernel
theorem dX0_insert_73 : decode cX0_insert 73 = .ok (.iadd, 1) := by decide +kernel
theorem dX0_insert_74 : decode cX0_insert 74 = .ok (.putfield 62, 3) := by decide +kernel
theorem dX0_insert_77 : decode cX0_insert 77 = .ok (.aload_n 0, 1) := by decide +kernel
theorem dX0_insert_78 : decode cX0_insert 78 = .ok (.getfield 62, 3) := by decide +kernel
theorem dX0_insert_81 : decode cX0_insert 81 = .ok (.ireturn, 1) := by decide +kernel
theorem dX0_cut_0 : decode cX0_cut 0 = .ok (.iload_n 1, 1) := by decide +kernel
theorem dX0_cut_1 : decode cX0_cut 1 = .ok (.ifCond .lt 25, 3) := by decide +kernel
theorem dX0_cut_4 : decode cX0_cut 4 = .ok (.iload_n 2, 1) := by decide +kernel
theorem dX0_cut_5 : decode cX0_cut 5 = .ok (.ifCond .lt 21, 3) := by decide +kernel
theorem dX0_cut_8 : decode cX0_cut 8 = .ok (.iload_n 1, 1) := by decide +kernel
theorem dX0_cut_9 : decode cX0_cut 9 = .ok (.aload_n 0, 1) := by decide +kernel
theorem dX0_cut_10 : decode cX0_cut 10 = .ok (.getfield 62, 3) := by decide +kernel
theorem dX0_cut_13 : decode cX0_cut 13 = .ok (.if_icmp .gt 13, 3) := by decide +kernel
theorem dX0_cut_16 : decode cX0_cut 16 = .ok (.iload_n 2, 1) := by decide +kernel
theorem dX0_cut_17 : decode cX0_cut 17 = .ok (.aload_n 0, 1) := by decide +kernel
theorem dX0_cut_18 : decode cX0_cut 18 = .ok (.getfield 62, 3) := by decide +kernel
theorem dX0_cut_21 : decode cX0_cut 21 = .ok (.iload_n 1, 1) := by decide +kernel
theorem dX0_cut_22 : decode cX0_cut 22 = .ok (.isub, 1) := by decide +kernel
theorem dX0_cut_23 : decode cX0_cut 23 = .ok (.if_icmp .le 6, 3) := by decide +kernel
theorem dX0_cut_26 : decode cX0_cut 26 = .ok (.bipush (-5), 2) := by decide +kernel
theorem dX0_cut_28 : decode cX0_cut 28 = .ok (.ireturn, 1) := by decide +kernel
theorem dX0_cut_29 : decode cX0_cut 29 = .ok (.iload_n 1, 1) := by decide +kernel
theorem dX0_cut_30 : decode cX0_cut 30 = .ok (.istore_n 3, 1) := by decide +kernel
theorem dX0_cut_31 : decode cX0_cut 31 = .ok (.iload_n 3, 1) := by decide +kernel
theorem dX0_cut_32 : decode cX0_cut 32 = .ok (.aload_n 0, 1) := by decide +kernel
theorem dX0_cut_33 : decode cX0_cut 33 = .ok (.getfield 62, 3) := by decide +kernel
theorem dX0_cut_36 : decode cX0_cut 36 = .ok (.iload_n 2, 1) := by decide +kernel
theorem dX0_cut_37 : decode cX0_cut 37 = .ok (.isub, 1) := by decide +kernel
theorem dX0_cut_38 : decode cX0_cut 38 = .ok (.if_icmp .ge 23, 3) := by decide +kernel
theorem dX0_cut_41 : decode cX0_cut 41 = .ok (.aload_n 0, 1) := by decide +kernel
theorem dX0_cut_42 : decode cX0_cut 42 = .ok (.getfield 7, 3) := by decide +kernel
theorem dX0_cut_45 : decode cX0_cut 45 = .ok (.iload_n 3, 1) := by decide +kernel
theorem dX0_cut_46 : decode cX0_cut 46 = .ok (.aload_n 0, 1) := by decide +kernel
theorem dX0_cut_47 : decode cX0_cut 47 = .ok (.getfield 7, 3) := by decide +kernel
theorem dX0_cut_50 : decode cX0_cut 50 = .ok (.iload_n 3, 1) := by decide +kernel
theorem dX0_cut_51 : decode cX0_cut 51 = .ok (.iload_n 2, 1) := by decide +kernel
theorem dX0_cut_52 : decode cX0_cut 52 = .ok (.iadd, 1) := by decide +kernel
theorem dX0_cut_53 : decode cX0_cut 53 = .ok (.iaload, 1) := by decide +kernel
theorem dX0_cut_54 : decode cX0_cut 54 = .ok (.iastore, 1) := by decide +kernel
theorem dX0_cut_55 : decode cX0_cut 55 = .ok (.iinc 3 1, 3) := by decide +kernel
theorem dX0_cut_58 : decode cX0_cut 58 = .ok (.goto (-27), 3) := by decide +kernel
theorem dX0_cut_61 : decode cX0_cut 61 = .ok (.aload_n 0, 1) := by decide +kernel
theorem dX0_cut_62 : decode cX0_cut 62 = .ok (.dup, 1) := by decide +kernel
theorem dX0_cut_63 : decode cX0_cut 63 = .ok (.getfield 62, 3) := by decide +kernel
theorem dX0_cut_66 : decode cX0_cut 66 = .ok (.iload_n 2, 1) := by decide +kernel
theorem dX0_cut_67 : decode cX0_cut 67 = .ok (.isub, 1) := by decide +kernel
theorem dX0_cut_68 : decode cX0_cut 68 = .ok (.putfield 62, 3) := by decide +kernel
theorem dX0_cut_71 : decode cX0_cut 71 = .ok (.aload_n 0, 1) := by decide +kernel
theorem dX0_cut_72 : decode cX0_cut 72 = .ok (.getfield 62, 3) := by decide +kernel
theorem dX0_cut_75 : decode cX0_cut 75 = .ok (.ireturn, 1) := by decide +kernel
theorem dX0_save_0 : decode cX0_save 0 = .ok (.iload_n 1, 1) := by decide +kernel
theorem dX0_save_1 : decode cX0_save 1 = .ok (.invokestatic 77, 3) := by decide +kernel
theorem dX0_save_4 : decode cX0_save 4 = .ok (.ifCond .eq 6, 3) := by decide +kernel
theorem dX0_save_7 : decode cX0_save 7 = .ok (.bipush (-2), 2) := by decide +kernel
theorem dX0_save_9 : decode cX0_save 9 = .ok (.ireturn, 1) := by decide +kernel
theorem dX0_save_10 : decode cX0_save 10 = .ok (.aload_n 0, 1) := by decide +kernel
theorem dX0_save_11 : decode cX0_save 11 = .ok (.getfield 13, 3) := by decide +kernel
theorem dX0_save_14 : decode cX0_save 14 = .ok (.iload_n 1, 1) := by decide +kernel
theorem dX0_save_15 : decode cX0_save 15 = .ok (.baload, 1) := by decide +kernel
theorem dX0_save_16 : decode cX0_save 16 = .ok (.ifCond .eq 6, 3) := by decide +kernel
theorem dX0_save_19 : decode cX0_save 19 = .ok (.bipush (-3), 2) := by decide +kernel
theorem dX0_save_21 : decode cX0_save 21 = .ok (.ireturn, 1) := by decide +kernel
theorem dX0_save_22 : decode cX0_save 22 = .ok (.aload_n 0, 1) := by decide +kernel
theorem dX0_save_23 : decode cX0_save 23 = .ok (.getfield 13, 3) := by decide +kernel
theorem dX0_save_26 : decode cX0_save 26 = .ok (.iload_n 1, 1) := by decide +kernel
theorem dX0_save_27 : decode cX0_save 27 = .ok (.iconst 1, 1) := by decide +kernel
theorem dX0_save_28 : decode cX0_save 28 = .ok (.bastore, 1) := by decide +kernel
theorem dX0_save_29 : decode cX0_save 29 = .ok (.aload_n 0, 1) := by decide +kernel
theorem dX0_save_30 : decode cX0_save 30 = .ok (.getfield 17, 3) := by decide +kernel
theorem dX0_save_33 : decode cX0_save 33 = .ok (.iload_n 1, 1) := by decide +kernel
theorem dX0_save_34 : decode cX0_save 34 = .ok (.iconst 0, 1) := by decide +kernel
theorem dX0_save_35 : decode cX0_save 35 = .ok (.iastore, 1) := by decide +kernel
theorem dX0_save_36 : decode cX0_save 36 = .ok (.iconst 0, 1) := by decide +kernel
theorem dX0_save_37 : decode cX0_save 37 = .ok (.istore_n 2, 1) := by decide +kernel
theorem dX0_save_38 : decode cX0_save 38 = .ok (.iconst 0, 1) := by decide +kernel
theorem dX0_save_39 : decode cX0_save 39 = .ok (.istore_n 3, 1) := by decide +kernel
theorem dX0_save_40 : decode cX0_save 40 = .ok (.iload_n 3, 1) := by decide +kernel
theorem dX0_save_41 : decode cX0_save 41 = .ok (.aload_n 0, 1) := by decide +kernel
theorem dX0_save_42 : decode cX0_save 42 = .ok (.getfield 62, 3) := by decide +kernel
theorem dX0_save_45 : decode cX0_save 45 = .ok (.if_icmp .ge 72, 3) := by decide +kernel
theorem dX0_save_48 : decode cX0_save 48 = .ok (.iload_n 3, 1) := by decide +kernel
theorem dX0_save_49 : decode cX0_save 49 = .ok (.aload_n 0, 1) := by decide +kernel
theorem dX0_save_50 : decode cX0_save 50 = .ok (.getfield 62, 3) := by decide +kernel
theorem dX0_save_53 : decode cX0_save 53 = .ok (.iconst 1, 1) := by decide +kernel
theorem dX0_save_54 : decode cX0_save 54 = .ok (.isub, 1) := by decide +kernel
theorem dX0_save_55 : decode cX0_save 55 = .ok (.if_icmp .eq 12, 3) := by decide +kernel
theorem dX0_save_58 : decode cX0_save 58 = .ok (.aload_n 0, 1) := by decide +kernel
theorem dX0_save_59 : decode cX0_save 59 = .ok (.iload_n 2, 1) := by decide +kernel
theorem dX0_save_60 : decode cX0_save 60 = .ok (.iload_n 3, 1) := by decide +kernel
theorem dX0_save_61 : decode cX0_save 61 = .ok (.invokevirtual 81, 3) := by decide +kernel
theorem dX0_save_64 : decode cX0_save 64 = .ok (.ifCond .eq 47, 3) := by decide +kernel
theorem dX0_save_67 : decode cX0_save 67 = .ok (.aload_n 0, 1) := by decide +kernel
theorem dX0_save_68 : decode cX0_save 68 = .ok (.iload_n 2, 1) := by decide +kernel
theorem dX0_save_69 : decode cX0_save 69 = .ok (.iload_n 3, 1) := by decide +kernel
theorem dX0_save_70 : decode cX0_save 70 = .ok (.iconst 1, 1) := by decide +kernel
theorem dX0_save_71 : decode cX0_save 71 = .ok (.iadd, 1) := by decide +kernel
theorem dX0_save_72 : decode cX0_save 72 = .ok (.iload_n 2, 1) := by decide +kernel
theorem dX0_save_73 : decode cX0_save 73 = .ok (.isub, 1) := by decide +kernel
theorem dX0_save_74 : decode cX0_save 74 = .ok (.invokevirtual 85, 3) := by decide +kernel
theorem dX0_save_77 : decode cX0_save 77 = .ok (.istore 4, 2) := by decide +kernel
theorem dX0_save_79 : decode cX0_save 79 = .ok (.aload_n 0, 1) := by decide +kernel
theorem dX0_save_80 : decode cX0_save 80 = .ok (.getfield 20, 3) := by decide +kernel
theorem dX0_save_83 : decode cX0_save 83 = .ok (.iload_n 1, 1) := by decide +kernel
theorem dX0_save_84 : decode cX0_save 84 = .ok (.bipush 16, 2) := by decide +kernel
theorem dX0_save_86 : decode cX0_save 86 = .ok (.imul, 1) := by decide +kernel
theorem dX0_save_87 : decode cX0_save 87 = .ok (.aload_n 0, 1) := by decide +kernel
theorem dX0_save_88 : decode cX0_save 88 = .ok (.getfield 17, 3) := by decide +kernel
theorem dX0_save_91 : decode cX0_save 91 = .ok (.iload_n 1, 1) := by decide +kernel
theorem dX0_save_92 : decode cX0_save 92 = .ok (.iaload, 1) := by decide +kernel
theorem dX0_save_93 : decode cX0_save 93 = .ok (.iadd, 1) := by decide +kernel
theorem dX0_save_94 : decode cX0_save 94 = .ok (.iload 4, 2) := by decide +kernel
theorem dX0_save_96 : decode cX0_save 96 = .ok (.iastore, 1) := by decide +kernel
theorem dX0_save_97 : decode cX0_save 97 = .ok (.aload_n 0, 1) := by decide +kernel
theorem dX0_save_98 : decode cX0_save 98 = .ok (.getfield 17, 3) := by decide +kernel
theorem dX0_save_101 : decode cX0_save 101 = .ok (.iload_n 1, 1) := by decide +kernel
theorem dX0_save_102 : decode cX0_save 102 = .ok (.dup2, 1) := by decide +kernel
theorem dX0_save_103 : decode cX0_save 103 = .ok (.iaload, 1) := by decide +kernel
theorem dX0_save_104 : decode cX0_save 104 = .ok (.iconst 1, 1) := by decide +kernel
theorem dX0_save_105 : decode cX0_save 105 = .ok (.iadd, 1) := by decide +kernel
theorem dX0_save_106 : decode cX0_save 106 = .ok (.iastore, 1) := by decide +kernel
theorem dX0_save_107 : decode cX0_save 107 = .ok (.iload_n 3, 1) := by decide +kernel
theorem dX0_save_108 : decode cX0_save 108 = .ok (.iconst 1, 1) := by decide +kernel
theorem dX0_save_109 : decode cX0_save 109 = .ok (.iadd, 1) := by decide +kernel
theorem dX0_save_110 : decode cX0_save 110 = .ok (.istore_n 2, 1) := by decide +kernel
theorem dX0_save_111 : decode cX0_save 111 = .ok (.iinc 3 1, 3) := by decide +kernel
theorem dX0_save_114 : decode cX0_save 114 = .ok (.goto (-74), 3) := by decide +kernel
theorem dX0_save_117 : decode cX0_save 117 = .ok (.aload_n 0, 1) := by decide +kernel
theorem dX0_save_118 : decode cX0_save 118 = .ok (.getfield 62, 3) := by decide +kernel
theorem dX0_save_121 : decode cX0_save 121 = .ok (.ireturn, 1) := by decide +kernel
theorem dX0_boundary_0 : decode cX0_boundary 0 = .ok (.iload_n 2, 1) := by decide +kernel
theorem dX0_boundary_1 : decode cX0_boundary 1 = .ok (.iconst 1, 1) := by decide +kernel
theorem dX0_boundary_2 : decode cX0_boundary 2 = .ok (.iadd, 1) := by decide +kernel
theorem dX0_boundary_3 : decode cX0_boundary 3 = .ok (.iload_n 1, 1) := by decide +kernel
theorem dX0_boundary_4 : decode cX0_boundary 4 = .ok (.isub, 1) := by decide +kernel
theorem dX0_boundary_5 : decode cX0_boundary 5 = .ok (.istore_n 3, 1) := by decide +kernel
theorem dX0_boundary_6 : decode cX0_boundary 6 = .ok (.iload_n 3, 1) := by decide +kernel
theorem dX0_boundary_7 : decode cX0_boundary 7 = .ok (.bipush 6, 2) := by decide +kernel
theorem dX0_boundary_9 : decode cX0_boundary 9 = .ok (.if_icmp .ge 5, 3) := by decide +kernel
theorem dX0_boundary_12 : decode cX0_boundary 12 = .ok (.iconst 0, 1) := by decide +kernel
theorem dX0_boundary_13 : decode cX0_boundary 13 = .ok (.ireturn, 1) := by decide +kernel
theorem dX0_boundary_14 : decode cX0_boundary 14 = .ok (.iload_n 3, 1) := by decide +kernel
theorem dX0_boundary_15 : decode cX0_boundary 15 = .ok (.bipush 16, 2) := by decide +kernel
theorem dX0_boundary_17 : decode cX0_boundary 17 = .ok (.if_icmp .lt 5, 3) := by decide +kernel
theorem dX0_boundary_20 : decode cX0_boundary 20 = .ok (.iconst 1, 1) := by decide +kernel
theorem dX0_boundary_21 : decode cX0_boundary 21 = .ok (.ireturn, 1) := by decide +kernel
theorem dX0_boundary_22 : decode cX0_boundary 22 = .ok (.aload_n 0, 1) := by decide +kernel
theorem dX0_boundary_23 : decode cX0_boundary 23 = .ok (.getfield 7, 3) := by decide +kernel
theorem dX0_boundary_26 : decode cX0_boundary 26 = .ok (.iload_n 2, 1) := by decide +kernel
theorem dX0_boundary_27 : decode cX0_boundary 27 = .ok (.iaload, 1) := by decide +kernel
theorem dX0_boundary_28 : decode cX0_boundary 28 = .ok (.iconst 5, 1) := by decide +kernel
theorem dX0_boundary_29 : decode cX0_boundary 29 = .ok (.imul, 1) := by decide +kernel
theorem dX0_boundary_30 : decode cX0_boundary 30 = .ok (.aload_n 0, 1) := by decide +kernel
theorem dX0_boundary_31 : decode cX0_boundary 31 = .ok (.getfield 7, 3) := by decide +kernel
theorem dX0_boundary_34 : decode cX0_boundary 34 = .ok (.iload_n 2, 1) := by decide +kernel
theorem dX0_boundary_35 : decode cX0_boundary 35 = .ok (.iconst 1, 1) := by decide +kernel
theorem dX0_boundary_36 : decode cX0_boundary 36 = .ok (.isub, 1) := by decide +kernel
theorem dX0_boundary_37 : decode cX0_boundary 37 = .ok (.iaload, 1) := by decide +kernel
theorem dX0_boundary_38 : decode cX0_boundary 38 = .ok (.bipush 11, 2) := by decide +kernel
theorem dX0_boundary_40 : decode cX0_boundary 40 = .ok (.imul, 1) := by decide +kernel
theorem dX0_boundary_41 : decode cX0_boundary 41 = .ok (.iadd, 1) := by decide +kernel
theorem dX0_boundary_42 : decode cX0_boundary 42 = .ok (.aload_n 0, 1) := by decide +kernel
theorem dX0_boundary_43 : decode cX0_boundary 43 = .ok (.getfield 7, 3) := by decide +kernel
theorem dX0_boundary_46 : decode cX0_boundary 46 = .ok (.iload_n 2, 1) := by decide +kernel
theorem dX0_boundary_47 : decode cX0_boundary 47 = .ok (.iconst 2, 1) := by decide +kernel
theorem dX0_boundary_48 : decode cX0_boundary 48 = .ok (.isub, 1) := by decide +kernel
theorem dX0_boundary_49 : decode cX0_boundary 49 = .ok (.iaload, 1) := by decide +kernel
theorem dX0_boundary_50 : decode cX0_boundary 50 = .ok (.bipush 23, 2) := by decide +kernel
theorem dX0_boundary_52 : decode cX0_boundary 52 = .ok (.imul, 1) := by decide +kernel
theorem dX0_boundary_53 : decode cX0_boundary 53 = .ok (.iadd, 1) := by decide +kernel
theorem dX0_boundary_54 : decode cX0_boundary 54 = .ok (.istore 4, 2) := by decide +kernel
theorem dX0_boundary_56 : decode cX0_boundary 56 = .ok (.iload 4, 2) := by decide +kernel
theorem dX0_boundary_58 : decode cX0_boundary 58 = .ok (.iconst 2, 1) := by decide +kernel
theorem dX0_boundary_59 : decode cX0_boundary 59 = .ok (.ishr, 1) := by decide +kernel
theorem dX0_boundary_60 : decode cX0_boundary 60 = .ok (.bipush 7, 2) := by decide +kernel
theorem dX0_boundary_62 : decode cX0_boundary 62 = .ok (.iand, 1) := by decide +kernel
theorem dX0_boundary_63 : decode cX0_boundary 63 = .ok (.iconst 3, 1) := by decide +kernel
theorem dX0_boundary_64 : decode cX0_boundary 64 = .ok (.if_icmp .ne 7, 3) := by decide +kernel
theorem dX0_boundary_67 : decode cX0_boundary 67 = .ok (.iconst 1, 1) := by decide +kernel
theorem dX0_boundary_68 : decode cX0_boundary 68 = .ok (.goto 4, 3) := by decide +kernel
theorem dX0_boundary_71 : decode cX0_boundary 71 = .ok (.iconst 0, 1) := by decide +kernel
theorem dX0_boundary_72 : decode cX0_boundary 72 = .ok (.ireturn, 1) := by decide +kernel
theorem dX0_keepChunk_0 : decode cX0_keepChunk 0 = .ok (.iconst 0, 1) := by decide +kernel
theorem dX0_keepChunk_1 : decode cX0_keepChunk 1 = .ok (.istore_n 3, 1) := by decide +kernel
theorem dX0_keepChunk_2 : decode cX0_keepChunk 2 = .ok (.iload_n 3, 1) := by decide +kernel
theorem dX0_keepChunk_3 : decode cX0_keepChunk 3 = .ok (.iload_n 2, 1) := by decide +kernel
theorem dX0_keepChunk_4 : decode cX0_keepChunk 4 = .ok (.if_icmp .ge 23, 3) := by decide +kernel
theorem dX0_keepChunk_7 : decode cX0_keepChunk 7 = .ok (.aload_n 0, 1) := by decide +kernel
theorem dX0_keepChunk_8 : decode cX0_keepChunk 8 = .ok (.getfield 47, 3) := by decide +kernel
theorem dX0_keepChunk_11 : decode cX0_keepChunk 11 = .ok (.iload_n 3, 1) := by decide +kernel
theorem dX0_keepChunk_12 : decode cX0_keepChunk 12 = .ok (.aload_n 0, 1) := by decide +kernel
theorem dX0_keepChunk_13 : decode cX0_keepChunk 13 = .ok (.getfield 7, 3) := by decide +kernel
theorem dX0_keepChunk_16 : decode cX0_keepChunk 16 = .ok (.iload_n 1, 1) := by decide +kernel
theorem dX0_keepChunk_17 : decode cX0_keepChunk 17 = .ok (.iload_n 3, 1) := by decide +kernel
theorem dX0_keepChunk_18 : decode cX0_keepChunk 18 = .ok (.iadd, 1) := by decide +kernel
theorem dX0_keepChunk_19 : decode cX0_keepChunk 19 = .ok (.iaload, 1) := by decide +kernel
theorem dX0_keepChunk_20 : decode cX0_keepChunk 20 = .ok (.iastore, 1) := by decide +kernel
theorem dX0_keepChunk_21 : decode cX0_keepChunk 21 = .ok (.iinc 3 1, 3) := by decide +kernel
theorem dX0_keepChunk_24 : decode cX0_keepChunk 24 = .ok (.goto (-22), 3) := by decide +kernel
theorem dX0_keepChunk_27 : decode cX0_keepChunk 27 = .ok (.bipush 17, 2) := by decide +kernel
theorem dX0_keepChunk_29 : decode cX0_keepChunk 29 = .ok (.istore_n 3, 1) := by decide +kernel
theorem dX0_keepChunk_30 : decode cX0_keepChunk 30 = .ok (.iconst 0, 1) := by decide +kernel
theorem dX0_keepChunk_31 : decode cX0_keepChunk 31 = .ok (.istore 4, 2) := by decide +kernel
theorem dX0_keepChunk_33 : decode cX0_keepChunk 33 = .ok (.iload 4, 2) := by decide +kernel
theorem dX0_keepChunk_35 : decode cX0_keepChunk 35 = .ok (.iload_n 2, 1) := by decide +kernel
theorem dX0_keepChunk_36 : decode cX0_keepChunk 36 = .ok (.if_icmp .ge 25, 3) := by decide +kernel
theorem dX0_keepChunk_39 : decode cX0_keepChunk 39 = .ok (.iload_n 3, 1) := by decide +kernel
theorem dX0_keepChunk_40 : decode cX0_keepChunk 40 = .ok (.sipush 257, 3) := by decide +kernel
theorem dX0_keepChunk_43 : decode cX0_keepChunk 43 = .ok (.imul, 1) := by decide +kernel
theorem dX0_keepChunk_44 : decode cX0_keepChunk 44 = .ok (.aload_n 0, 1) := by decide +kernel
theorem dX0_keepChunk_45 : decode cX0_keepChunk 45 = .ok (.getfield 47, 3) := by decide +kernel
theorem dX0_keepChunk_48 : decode cX0_keepChunk 48 = .ok (.iload 4, 2) := by decide +kernel
theorem dX0_keepChunk_50 : decode cX0_keepChunk 50 = .ok (.iaload, 1) := by decide +kernel
theorem dX0_keepChunk_51 : decode cX0_keepChunk 51 = .ok (.iadd, 1) := by decide +kernel
theorem dX0_keepChunk_52 : decode cX0_keepChunk 52 = .ok (.iconst 1, 1) := by decide +kernel
theorem dX0_keepChunk_53 : decode cX0_keepChunk 53 = .ok (.iadd, 1) := by decide +kernel
theorem dX0_keepChunk_54 : decode cX0_keepChunk 54 = .ok (.istore_n 3, 1) := by decide +kernel
theorem dX0_keepChunk_55 : decode cX0_keepChunk 55 = .ok (.iinc 4 1, 3) := by decide +kernel
theorem dX0_keepChunk_58 : decode cX0_keepChunk 58 = .ok (.goto (-25), 3) := by decide +kernel
theorem dX0_keepChunk_61 : decode cX0_keepChunk 61 = .ok (.aload_n 0, 1) := by decide +kernel
theorem dX0_keepChunk_62 : decode cX0_keepChunk 62 = .ok (.iload_n 3, 1) := by decide +kernel
theorem dX0_keepChunk_63 : decode cX0_keepChunk 63 = .ok (.iload_n 2, 1) := by decide +kernel
theorem dX0_keepChunk_64 : decode cX0_keepChunk 64 = .ok (.invokevirtual 88, 3) := by decide +kernel
theorem dX0_keepChunk_67 : decode cX0_keepChunk 67 = .ok (.istore 4, 2) := by decide +kernel
theorem dX0_keepChunk_69 : decode cX0_keepChunk 69 = .ok (.iload 4, 2) := by decide +kernel
theorem dX0_keepChunk_71 : decode cX0_keepChunk 71 = .ok (.ifCond .lt 17, 3) := by decide +kernel
theorem dX0_keepChunk_74 : decode cX0_keepChunk 74 = .ok (.aload_n 0, 1) := by decide +kernel
theorem dX0_keepChunk_75 : decode cX0_keepChunk 75 = .ok (.getfield 23, 3) := by decide +kernel
theorem dX0_keepChunk_78 : decode cX0_keepChunk 78 = .ok (.iload 4, 2) := by decide +kernel
theorem dX0_keepChunk_80 : decode cX0_keepChunk 80 = .ok (.dup2, 1) := by decide +kernel
theorem dX0_keepChunk_81 : decode cX0_keepChunk 81 = .ok (.iaload, 1) := by decide +kernel
theorem dX0_keepChunk_82 : decode cX0_keepChunk 82 = .ok (.iconst 1, 1) := by decide +kernel
theorem dX0_keepChunk_83 : decode cX0_keepChunk 83 = .ok (.iadd, 1) := by decide +kernel
theorem dX0_keepChunk_84 : decode cX0_keepChunk 84 = .ok (.iastore, 1) := by decide +kernel
theorem dX0_keepChunk_85 : decode cX0_keepChunk 85 = .ok (.iload 4, 2) := by decide +kernel
theorem dX0_keepChunk_87 : decode cX0_keepChunk 87 = .ok (.ireturn, 1) := by decide +kernel
theorem dX0_keepChunk_88 : decode cX0_keepChunk 88 = .ok (.iconst 0, 1) := by decide +kernel
theorem dX0_keepChunk_89 : decode cX0_keepChunk 89 = .ok (.istore 5, 2) := by decide +kernel
theorem dX0_keepChunk_91 : decode cX0_keepChunk 91 = .ok (.iload 5, 2) := by decide +kernel
theorem dX0_keepChunk_93 : decode cX0_keepChunk 93 = .ok (.bipush 95, 2) := by decide +kernel
theorem dX0_keepChunk_95 : decode cX0_keepChunk 95 = .ok (.if_icmp .ge 19, 3) := by decide +kernel
theorem dX0_keepChunk_98 : decode cX0_keepChunk 98 = .ok (.aload_n 0, 1) := by decide +kernel
theorem dX0_keepChunk_99 : decode cX0_keepChunk 99 = .ok (.getfield 23, 3) := by decide +kernel
theorem dX0_keepChunk_102 : decode cX0_keepChunk 102 = .ok (.iload 5, 2) := by decide +kernel
theorem dX0_keepChunk_104 : decode cX0_keepChunk 104 = .ok (.iaload, 1) := by decide +kernel
theorem dX0_keepChunk_105 : decode cX0_keepChunk 105 = .ok (.ifCond .le 9, 3) := by decide +kernel
theorem dX0_keepChunk_108 : decode cX0_keepChunk 108 = .ok (.iinc 5 1, 3) := by decide +kernel
theorem dX0_keepChunk_111 : decode cX0_keepChunk 111 = .ok (.goto (-20), 3) := by decide +kernel
theorem dX0_keepChunk_114 : decode cX0_keepChunk 114 = .ok (.aload_n 0, 1) := by decide +kernel
theorem dX0_keepChunk_115 : decode cX0_keepChunk 115 = .ok (.iload_n 2, 1) := by decide +kernel
theorem dX0_keepChunk_116 : decode cX0_keepChunk 116 = .ok (.ldc 91, 2) := by decide +kernel
theorem dX0_keepChunk_118 : decode cX0_keepChunk 118 = .ok (.iconst 0, 1) := by decide +kernel
theorem dX0_keepChunk_119 : decode cX0_keepChunk 119 = .ok (.invokevirtual 92, 3) := by decide +kernel
theorem dX0_keepChunk_122 : decode cX0_keepChunk 122 = .ok (.istore 6, 2) := by decide +kernel
theorem dX0_keepChunk_124 : decode cX0_keepChunk 124 = .ok (.aload_n 0, 1) := by decide +kernel
theorem dX0_keepChunk_125 : decode cX0_keepChunk 125 = .ok (.iload_n 2, 1) := by decide +kernel
theorem dX0_keepChunk_126 : decode cX0_keepChunk 126 = .ok (.sipush 30011, 3) := by decide +kernel
theorem dX0_keepChunk_129 : decode cX0_keepChunk 129 = .ok (.iconst 1, 1) := by decide +kernel
theorem dX0_keepChunk_130 : decode cX0_keepChunk 130 = .ok (.invokevirtual 92, 3) := by decide +kernel
theorem dX0_keepChunk_133 : decode cX0_keepChunk 133 = .ok (.istore 7, 2) := by decide +kernel
theorem dX0_keepChunk_135 : decode cX0_keepChunk 135 = .ok (.aload_n 0, 1) := by decide +kernel
theorem dX0_keepChunk_136 : decode cX0_keepChunk 136 = .ok (.iload 6, 2) := by decide +kernel
theorem dX0_keepChunk_138 : decode cX0_keepChunk 138 = .ok (.iload 7, 2) := by decide +kernel
theorem dX0_keepChunk_140 : decode cX0_keepChunk 140 = .ok (.iload_n 2, 1) := by decide +kernel
theorem dX0_keepChunk_141 : decode cX0_keepChunk 141 = .ok (.invokevirtual 96, 3) := by decide +kernel
theorem dX0_keepChunk_144 : decode cX0_keepChunk 144 = .ok (.istore 8, 2) := by decide +kernel
theorem dX0_keepChunk_146 : decode cX0_keepChunk 146 = .ok (.aload_n 0, 1) := by decide +kernel
theorem dX0_keepChunk_147 : decode cX0_keepChunk 147 = .ok (.getfield 23, 3) := by decide +kernel
theorem dX0_keepChunk_150 : decode cX0_keepChunk 150 = .ok (.iload 5, 2) := by decide +kernel
theorem dX0_keepChunk_152 : decode cX0_keepChunk 152 = .ok (.iconst 1, 1) := by decide +kernel
theorem dX0_keepChunk_153 : decode cX0_keepChunk 153 = .ok (.iastore, 1) := by decide +kernel
theorem dX0_keepChunk_154 : decode cX0_keepChunk 154 = .ok (.aload_n 0, 1) := by decide +kernel
theorem dX0_keepChunk_155 : decode cX0_keepChunk 155 = .ok (.getfield 26, 3) := by decide +kernel
theorem dX0_keepChunk_158 : decode cX0_keepChunk 158 = .ok (.iload 5, 2) := by decide +kernel
theorem dX0_keepChunk_160 : decode cX0_keepChunk 160 = .ok (.iload_n 2, 1) := by decide +kernel
theorem dX0_keepChunk_161 : decode cX0_keepChunk 161 = .ok (.iastore, 1) := by decide +kernel
theorem dX0_keepChunk_162 : decode cX0_keepChunk 162 = .ok (.aload_n 0, 1) := by decide +kernel
theorem dX0_keepChunk_163 : decode cX0_keepChunk 163 = .ok (.getfield 38, 3) := by decide +kernel
theorem dX0_keepChunk_166 : decode cX0_keepChunk 166 = .ok (.iload 5, 2) := by decide +kernel
theorem dX0_keepChunk_168 : decode cX0_keepChunk 168 = .ok (.iload_n 3, 1) := by decide +kernel
theorem dX0_keepChunk_169 : decode cX0_keepChunk 169 = .ok (.iastore, 1) := by decide +kernel
theorem dX0_keepChunk_170 : decode cX0_keepChunk 170 = .ok (.aload_n 0, 1) := by decide +kernel
theorem dX0_keepChunk_171 : decode cX0_keepChunk 171 = .ok (.getfield 41, 3) := by decide +kernel
theorem dX0_keepChunk_174 : decode cX0_keepChunk 174 = .ok (.iload 5, 2) := by decide +kernel
theorem dX0_keepChunk_176 : decode cX0_keepChunk 176 = .ok (.iload 6, 2) := by decide +kernel
theorem dX0_keepChunk_178 : decode cX0_keepChunk 178 = .ok (.iastore, 1) := by decide +kernel
theorem dX0_keepChunk_179 : decode cX0_keepChunk 179 = .ok (.aload_n 0, 1) := by decide +kernel
theorem dX0_keepChunk_180 : decode cX0_keepChunk 180 = .ok (.getfield 44, 3) := by decide +kernel
theorem dX0_keepChunk_183 : decode cX0_keepChunk 183 = .ok (.iload 5, 2) := by decide +kernel
theorem dX0_keepChunk_185 : decode cX0_keepChunk 185 = .ok (.iload 7, 2) := by decide +kernel
theorem dX0_keepChunk_187 : decode cX0_keepChunk 187 = .ok (.iastore, 1) := by decide +kernel
theorem dX0_keepChunk_188 : decode cX0_keepChunk 188 = .ok (.aload_n 0, 1) := by decide +kernel
theorem dX0_keepChunk_189 : decode cX0_keepChunk 189 = .ok (.iload 5, 2) := by decide +kernel
theorem dX0_keepChunk_191 : decode cX0_keepChunk 191 = .ok (.iload 8, 2) := by decide +kernel
theorem dX0_keepChunk_193 : decode cX0_keepChunk 193 = .ok (.iload_n 2, 1) := by decide +kernel
theorem dX0_keepChunk_194 : decode cX0_keepChunk 194 = .ok (.invokevirtual 99, 3) := by decide +kernel
theorem dX0_keepChunk_197 : decode cX0_keepChunk 197 = .ok (.iload 5, 2) := by decide +kernel
theorem dX0_keepChunk_199 : decode cX0_keepChunk 199 = .ok (.ireturn, 1) := by decide +kernel
theorem dX0_findEqual_0 : decode cX0_findEqual 0 = .ok (.iconst 0, 1) := by decide +kernel
theorem dX0_findEqual_1 : decode cX0_findEqual 1 = .ok (.istore_n 3, 1) := by decide +kernel
theorem dX0_findEqual_2 : decode cX0_findEqual 2 = .ok (.iload_n 3, 1) := by decide +kernel
theorem dX0_findEqual_3 : decode cX0_findEqual 3 = .ok (.bipush 96, 2) := by decide +kernel
theorem dX0_findEqual_5 : decode cX0_findEqual 5 = .ok (.if_icmp .ge 53, 3) := by decide +kernel
theorem dX0_findEqual_8 : decode cX0_findEqual 8 = .ok (.aload_n 0, 1) := by decide +kernel
theorem dX0_findEqual_9 : decode cX0_findEqual 9 = .ok (.getfield 23, 3) := by decide +kernel
theorem dX0_findEqual_12 : decode cX0_findEqual 12 = .ok (.iload_n 3, 1) := by decide +kernel
theorem dX0_findEqual_13 : decode cX0_findEqual 13 = .ok (.iaload, 1) := by decide +kernel
theorem dX0_findEqual_14 : decode cX0_findEqual 14 = .ok (.ifCond .le 38, 3) := by decide +kernel
theorem dX0_findEqual_17 : decode cX0_findEqual 17 = .ok (.aload_n 0, 1) := by decide +kernel
theorem dX0_findEqual_18 : decode cX0_findEqual 18 = .ok (.getfield 38, 3) := by decide +kernel
theorem dX0_findEqual_21 : decode cX0_findEqual 21 = .ok (.iload_n 3, 1) := by decide +kernel
theorem dX0_findEqual_22 : decode cX0_findEqual 22 = .ok (.iaload, 1) := by decide +kernel
theorem dX0_findEqual_23 : decode cX0_findEqual 23 = .ok (.iload_n 1, 1) := by decide +kernel
theorem dX0_findEqual_24 : decode cX0_findEqual 24 = .ok (.if_icmp .ne 28, 3) := by decide +kernel
theorem dX0_findEqual_27 : decode cX0_findEqual 27 = .ok (.aload_n 0, 1) := by decide +kernel
theorem dX0_findEqual_28 : decode cX0_findEqual 28 = .ok (.getfield 26, 3) := by decide +kernel
theorem dX0_findEqual_31 : decode cX0_findEqual 31 = .ok (.iload_n 3, 1) := by decide +kernel
theorem dX0_findEqual_32 : decode cX0_findEqual 32 = .ok (.iaload, 1) := by decide +kernel
theorem dX0_findEqual_33 : decode cX0_findEqual 33 = .ok (.iload_n 2, 1) := by decide +kernel
theorem dX0_findEqual_34 : decode cX0_findEqual 34 = .ok (.if_icmp .ne 18, 3) := by decide +kernel
theorem dX0_findEqual_37 : decode cX0_findEqual 37 = .ok (.aload_n 0, 1) := by decide +kernel
theorem dX0_findEqual_38 : decode cX0_findEqual 38 = .ok (.iload_n 3, 1) := by decide +kernel
theorem dX0_findEqual_39 : decode cX0_findEqual 39 = .ok (.invokevirtual 103, 3) := by decide +kernel
theorem dX0_findEqual_42 : decode cX0_findEqual 42 = .ok (.aload_n 0, 1) := by decide +kernel
theorem dX0_findEqual_43 : decode cX0_findEqual 43 = .ok (.iload_n 2, 1) := by decide +kernel
theorem dX0_findEqual_44 : decode cX0_findEqual 44 = .ok (.invokevirtual 107, 3) := by decide +kernel
theorem dX0_findEqual_47 : decode cX0_findEqual 47 = .ok (.ifCond .eq 5, 3) := by decide +kernel
theorem dX0_findEqual_50 : decode cX0_findEqual 50 = .ok (.iload_n 3, 1) := by decide +kernel
theorem dX0_findEqual_51 : decode cX0_findEqual 51 = .ok (.ireturn, 1) := by decide +kernel
theorem dX0_findEqual_52 : decode cX0_findEqual 52 = .ok (.iinc 3 1, 3) := by decide +kernel
theorem dX0_findEqual_55 : decode cX0_findEqual 55 = .ok (.goto (-53), 3) := by decide +kernel
theorem dX0_findEqual_58 : decode cX0_findEqual 58 = .ok (.iconst (-1), 1) := by decide +kernel
theorem dX0_findEqual_59 : decode cX0_findEqual 59 = .ok (.ireturn, 1) := by decide +kernel
theorem dX0_outIsFresh_0 : decode cX0_outIsFresh 0 = .ok (.iconst 0, 1) := by decide +kernel
theorem dX0_outIsFresh_1 : decode cX0_outIsFresh 1 = .ok (.istore_n 2, 1) := by decide +kernel
theorem dX0_outIsFresh_2 : decode cX0_outIsFresh 2 = .ok (.iload_n 2, 1) := by decide +kernel
theorem dX0_outIsFresh_3 : decode cX0_outIsFresh 3 = .ok (.iload_n 1, 1) := by decide +kernel
theorem dX0_outIsFresh_4 : decode cX0_outIsFresh 4 = .ok (.if_icmp .ge 26, 3) := by decide +kernel
theorem dX0_outIsFresh_7 : decode cX0_outIsFresh 7 = .ok (.aload_n 0, 1) := by decide +kernel
theorem dX0_outIsFresh_8 : decode cX0_outIsFresh 8 = .ok (.getfield 50, 3) := by decide +kernel
theorem dX0_outIsFresh_11 : decode cX0_outIsFresh 11 = .ok (.iload_n 2, 1) := by decide +kernel
theorem dX0_outIsFresh_12 : decode cX0_outIsFresh 12 = .ok (.iaload, 1) := by decide +kernel
theorem dX0_outIsFresh_13 : decode cX0_outIsFresh 13 = .ok (.aload_n 0, 1) := by decide +kernel
theorem dX0_outIsFresh_14 : decode cX0_outIsFresh 14 = .ok (.getfield 47, 3) := by decide +kernel
theorem dX0_outIsFresh_17 : decode cX0_outIsFresh 17 = .ok (.iload_n 2, 1) := by decide +kernel
theorem dX0_outIsFresh_18 : decode cX0_outIsFresh 18 = .ok (.iaload, 1) := by decide +kernel
theorem dX0_outIsFresh_19 : decode cX0_outIsFresh 19 = .ok (.if_icmp .eq 5, 3) := by decide +kernel
theorem dX0_outIsFresh_22 : decode cX0_outIsFresh 22 = .ok (.iconst 0, 1) := by decide +kernel
theorem dX0_outIsFresh_23 : decode cX0_outIsFresh 23 = .ok (.ireturn, 1) := by decide +kernel
theorem dX0_outIsFresh_24 : decode cX0_outIsFresh 24 = .ok (.iinc 2 1, 3) := by decide +kernel
theorem dX0_outIsFresh_27 : decode cX0_outIsFresh 27 = .ok (.goto (-25), 3) := by decide +kernel
theorem dX0_outIsFresh_30 : decode cX0_outIsFresh 30 = .ok (.iconst 1, 1) := by decide +kernel
theorem dX0_outIsFresh_31 : decode cX0_outIsFresh 31 = .ok (.ireturn, 1) := by decide +kernel
theorem dX0_leastWindow_0 : decode cX0_leastWindow 0 = .ok (.iload_n 1, 1) := by decide +kernel
theorem dX0_leastWindow_1 : decode cX0_leastWindow 1 = .ok (.iconst 4, 1) := by decide +kernel
theorem dX0_leastWindow_2 : decode cX0_leastWindow 2 = .ok (.if_icmp .ge 7, 3) := by decide +kernel
theorem dX0_leastWindow_5 : decode cX0_leastWindow 5 = .ok (.iload_n 1, 1) := by decide +kernel
theorem dX0_leastWindow_6 : decode cX0_leastWindow 6 = .ok (.goto 4, 3) := by decide +kernel
theorem dX0_leastWindow_9 : decode cX0_leastWindow 9 = .ok (.iconst 4, 1) := by decide +kernel
theorem dX0_leastWindow_10 : decode cX0_leastWindow 10 = .ok (.istore 4, 2) := by decide +kernel
theorem dX0_leastWindow_12 : decode cX0_leastWindow 12 = .ok (.ldc 110, 2) := by decide +kernel
theorem dX0_leastWindow_14 : decode cX0_leastWindow 14 = .ok (.istore 5, 2) := by decide +kernel
theorem dX0_leastWindow_16 : decode cX0_leastWindow 16 = .ok (.iconst 0, 1) := by decide +kernel
theorem dX0_leastWindow_17 : decode cX0_leastWindow 17 = .ok (.istore 6, 2) := by decide +kernel
theorem dX0_leastWindow_19 : decode cX0_leastWindow 19 = .ok (.iload 6, 2) := by decide +kernel
theorem dX0_leastWindow_21 : decode cX0_leastWindow 21 = .ok (.iload 4, 2) := by decide +kernel
theorem dX0_leastWindow_23 : decode cX0_leastWindow 23 = .ok (.iadd, 1) := by decide +kernel
theorem dX0_leastWindow_24 : decode cX0_leastWindow 24 = .ok (.iload_n 1, 1) := by decide +kernel
theorem dX0_leastWindow_25 : decode cX0_leastWindow 25 = .ok (.if_icmp .gt 77, 3) := by decide +kernel
theorem dX0_leastWindow_28 : decode cX0_leastWindow 28 = .ok (.iload_n 3, 1) := by decide +kernel
theorem dX0_leastWindow_29 : decode cX0_leastWindow 29 = .ok (.istore 7, 2) := by decide +kernel
theorem dX0_leastWindow_31 : decode cX0_leastWindow 31 = .ok (.iconst 0, 1) := by decide +kernel
theorem dX0_leastWindow_32 : decode cX0_leastWindow 32 = .ok (.istore 8, 2) := by decide +kernel
theorem dX0_leastWindow_34 : decode cX0_leastWindow 34 = .ok (.iload 8, 2) := by decide +kernel
theorem dX0_leastWindow_36 : decode cX0_leastWindow 36 = .ok (.iload 4, 2) := by decide +kernel
theorem dX0_leastWindow_38 : decode cX0_leastWindow 38 = .ok (.if_icmp .ge 28, 3) := by decide +kernel
theorem dX0_leastWindow_41 : decode cX0_leastWindow 41 = .ok (.iload 7, 2) := by decide +kernel
theorem dX0_leastWindow_43 : decode cX0_leastWindow 43 = .ok (.sipush 256, 3) := by decide +kernel
theorem dX0_leastWindow_46 : decode cX0_leastWindow 46 = .ok (.imul, 1) := by decide +kernel
theorem dX0_leastWindow_47 : decode cX0_leastWindow 47 = .ok (.aload_n 0, 1) := by decide +kernel
theorem dX0_leastWindow_48 : decode cX0_leastWindow 48 = .ok (.getfield 47, 3) := by decide +kernel
theorem dX0_leastWindow_51 : decode cX0_leastWindow 51 = .ok (.iload 6, 2) := by decide +kernel
theorem dX0_leastWindow_53 : decode cX0_leastWindow 53 = .ok (.iload 8, 2) := by decide +kernel
theorem dX0_leastWindow_55 : decode cX0_leastWindow 55 = .ok (.iadd, 1) := by decide +kernel
theorem dX0_leastWindow_56 : decode cX0_leastWindow 56 = .ok (.iaload, 1) := by decide +kernel
theorem dX0_leastWindow_57 : decode cX0_leastWindow 57 = .ok (.iadd, 1) := by decide +kernel
theorem dX0_leastWindow_58 : decode cX0_leastWindow 58 = .ok (.istore 7, 2) := by decide +kernel
theorem dX0_leastWindow_60 : decode cX0_leastWindow 60 = .ok (.iinc 8 1, 3) := by decide +kernel
theorem dX0_leastWindow_63 : decode cX0_leastWindow 63 = .ok (.goto (-29), 3) := by decide +kernel
theorem dX0_leastWindow_66 : decode cX0_leastWindow 66 = .ok (.iload 7, 2) := by decide +kernel
theorem dX0_leastWindow_68 : decode cX0_leastWindow 68 = .ok (.iload_n 2, 1) := by decide +kernel
theorem dX0_leastWindow_69 : decode cX0_leastWindow 69 = .ok (.imul, 1) := by decide +kernel
theorem dX0_leastWindow_70 : decode cX0_leastWindow 70 = .ok (.istore 7, 2) := by decide +kernel
theorem dX0_leastWindow_72 : decode cX0_leastWindow 72 = .ok (.iload 7, 2) := by decide +kernel
theorem dX0_leastWindow_74 : decode cX0_leastWindow 74 = .ok (.iload 7, 2) := by decide +kernel
theorem dX0_leastWindow_76 : decode cX0_leastWindow 76 = .ok (.bipush 13, 2) := by decide +kernel
theorem dX0_leastWindow_78 : decode cX0_leastWindow 78 = .ok (.iushr, 1) := by decide +kernel
theorem dX0_leastWindow_79 : decode cX0_leastWindow 79 = .ok (.ixor, 1) := by decide +kernel
theorem dX0_leastWindow_80 : decode cX0_leastWindow 80 = .ok (.ldc 111, 2) := by decide +kernel
theorem dX0_leastWindow_82 : decode cX0_leastWindow 82 = .ok (.iand, 1) := by decide +kernel
theorem dX0_leastWindow_83 : decode cX0_leastWindow 83 = .ok (.istore 7, 2) := by decide +kernel
theorem dX0_leastWindow_85 : decode cX0_leastWindow 85 = .ok (.iload 7, 2) := by decide +kernel
theorem dX0_leastWindow_87 : decode cX0_leastWindow 87 = .ok (.iload 5, 2) := by decide +kernel
theorem dX0_leastWindow_89 : decode cX0_leastWindow 89 = .ok (.if_icmp .ge 7, 3) := by decide +kernel
theorem dX0_leastWindow_92 : decode cX0_leastWindow 92 = .ok (.iload 7, 2) := by decide +kernel
theorem dX0_leastWindow_94 : decode cX0_leastWindow 94 = .ok (.istore 5, 2) := by decide +kernel
theorem dX0_leastWindow_96 : decode cX0_leastWindow 96 = .ok (.iinc 6 1, 3) := by decide +kernel
theorem dX0_leastWindow_99 : decode cX0_leastWindow 99 = .ok (.goto (-80), 3) := by decide +kernel
theorem dX0_leastWindow_102 : decode cX0_leastWindow 102 = .ok (.iload 5, 2) := by decide +kernel
theorem dX0_leastWindow_104 : decode cX0_leastWindow 104 = .ok (.ireturn, 1) := by decide +kernel
theorem dX0_findSimilar_0 : decode cX0_findSimilar 0 = .ok (.iload_n 3, 1) := by decide +kernel
theorem dX0_findSimilar_1 : decode cX0_findSimilar 1 = .ok (.bipush 6, 2) := by decide +kernel
theorem dX0_findSimilar_3 : decode cX0_findSimilar 3 = .ok (.if_icmp .ge 5, 3) := by decide +kernel
theorem dX0_findSimilar_6 : decode cX0_findSimilar 6 = .ok (.iconst (-1), 1) := by decide +kernel
theorem dX0_findSimilar_7 : decode cX0_findSimilar 7 = .ok (.ireturn, 1) := by decide +kernel
theorem dX0_findSimilar_8 : decode cX0_findSimilar 8 = .ok (.iconst 0, 1) := by decide +kernel
theorem dX0_findSimilar_9 : decode cX0_findSimilar 9 = .ok (.istore 4, 2) := by decide +kernel
theorem dX0_findSimilar_11 : decode cX0_findSimilar 11 = .ok (.iload 4, 2) := by decide +kernel
theorem dX0_findSimilar_13 : decode cX0_findSimilar 13 = .ok (.bipush 96, 2) := by decide +kernel
theorem dX0_findSimilar_15 : decode cX0_findSimilar 15 = .ok (.if_icmp .ge 58, 3) := by decide +kernel
theorem dX0_findSimilar_18 : decode cX0_findSimilar 18 = .ok (.aload_n 0, 1) := by decide +kernel
theorem dX0_findSimilar_19 : decode cX0_findSimilar 19 = .ok (.getfield 23, 3) := by decide +kernel
theorem dX0_findSimilar_22 : decode cX0_findSimilar 22 = .ok (.iload 4, 2) := by decide +kernel
theorem dX0_findSimilar_24 : decode cX0_findSimilar 24 = .ok (.iaload, 1) := by decide +kernel
theorem dX0_findSimilar_25 : decode cX0_findSimilar 25 = .ok (.ifCond .le 42, 3) := by decide +kernel
theorem dX0_findSimilar_28 : decode cX0_findSimilar 28 = .ok (.aload_n 0, 1) := by decide +kernel
theorem dX0_findSimilar_29 : decode cX0_findSimilar 29 = .ok (.getfield 41, 3) := by decide +kernel
theorem dX0_findSimilar_32 : decode cX0_findSimilar 32 = .ok (.iload 4, 2) := by decide +kernel
theorem dX0_findSimilar_34 : decode cX0_findSimilar 34 = .ok (.iaload, 1) := by decide +kernel
theorem dX0_findSimilar_35 : decode cX0_findSimilar 35 = .ok (.iload_n 1, 1) := by decide +kernel
theorem dX0_findSimilar_36 : decode cX0_findSimilar 36 = .ok (.if_icmp .eq 14, 3) := by decide +kernel
theorem dX0_findSimilar_39 : decode cX0_findSimilar 39 = .ok (.aload_n 0, 1) := by decide +kernel
theorem dX0_findSimilar_40 : decode cX0_findSimilar 40 = .ok (.getfield 44, 3) := by decide +kernel
theorem dX0_findSimilar_43 : decode cX0_findSimilar 43 = .ok (.iload 4, 2) := by decide +kernel
theorem dX0_findSimilar_45 : decode cX0_findSimilar 45 = .ok (.iaload, 1) := by decide +kernel
theorem dX0_findSimilar_46 : decode cX0_findSimilar 46 = .ok (.iload_n 2, 1) := by decide +kernel
theorem dX0_findSimilar_47 : decode cX0_findSimilar 47 = .ok (.if_icmp .ne 20, 3) := by decide +kernel
theorem dX0_findSimilar_50 : decode cX0_findSimilar 50 = .ok (.aload_n 0, 1) := by decide +kernel
theorem dX0_findSimilar_51 : decode cX0_findSimilar 51 = .ok (.iload 4, 2) := by decide +kernel
end
section
set_option maxRecDepth 100000
theorem dX0_findSimilar_53 : decode cX0_findSimilar 53 = .ok (.invokevirtual 112, 3) := by decide +kernel
theorem dX0_findSimilar_56 : decode cX0_findSimilar 56 = .ok (.istore 5, 2) := by decide +kernel
theorem dX0_findSimilar_58 : decode cX0_findSimilar 58 = .ok (.iload 5, 2) := by decide +kernel
theorem dX0_findSimilar_60 : decode cX0_findSimilar 60 = .ok (.iconst 2, 1) := by decide +kernel
theorem dX0_findSimilar_61 : decode cX0_findSimilar 61 = .ok (.if_icmp .ge 6, 3) := by decide +kernel
theorem dX0_findSimilar_64 : decode cX0_findSimilar 64 = .ok (.iload 4, 2) := by decide +kernel
theorem dX0_findSimilar_66 : decode cX0_findSimilar 66 = .ok (.ireturn, 1) := by decide +kernel
theorem dX0_findSimilar_67 : decode cX0_findSimilar 67 = .ok (.iinc 4 1, 3) := by decide +kernel
theorem dX0_findSimilar_70 : decode cX0_findSimilar 70 = .ok (.goto (-59), 3) := by decide +kernel
theorem dX0_findSimilar_73 : decode cX0_findSimilar 73 = .ok (.iconst (-1), 1) := by decide +kernel
theorem dX0_findSimilar_74 : decode cX0_findSimilar 74 = .ok (.ireturn, 1) := by decide +kernel
theorem dX0_basesBelow_0 : decode cX0_basesBelow 0 = .ok (.iconst 0, 1) := by decide +kernel
theorem dX0_basesBelow_1 : decode cX0_basesBelow 1 = .ok (.istore_n 2, 1) := by decide +kernel
theorem dX0_basesBelow_2 : decode cX0_basesBelow 2 = .ok (.iload_n 1, 1) := by decide +kernel
theorem dX0_basesBelow_3 : decode cX0_basesBelow 3 = .ok (.istore_n 3, 1) := by decide +kernel
theorem dX0_basesBelow_4 : decode cX0_basesBelow 4 = .ok (.iload_n 2, 1) := by decide +kernel
theorem dX0_basesBelow_5 : decode cX0_basesBelow 5 = .ok (.bipush 7, 2) := by decide +kernel
theorem dX0_basesBelow_7 : decode cX0_basesBelow 7 = .ok (.if_icmp .ge 27, 3) := by decide +kernel
theorem dX0_basesBelow_10 : decode cX0_basesBelow 10 = .ok (.aload_n 0, 1) := by decide +kernel
theorem dX0_basesBelow_11 : decode cX0_basesBelow 11 = .ok (.getfield 29, 3) := by decide +kernel
theorem dX0_basesBelow_14 : decode cX0_basesBelow 14 = .ok (.iload_n 3, 1) := by decide +kernel
theorem dX0_basesBelow_15 : decode cX0_basesBelow 15 = .ok (.iaload, 1) := by decide +kernel
theorem dX0_basesBelow_16 : decode cX0_basesBelow 16 = .ok (.ifCond .le 18, 3) := by decide +kernel
theorem dX0_basesBelow_19 : decode cX0_basesBelow 19 = .ok (.aload_n 0, 1) := by decide +kernel
theorem dX0_basesBelow_20 : decode cX0_basesBelow 20 = .ok (.getfield 29, 3) := by decide +kernel
theorem dX0_basesBelow_23 : decode cX0_basesBelow 23 = .ok (.iload_n 3, 1) := by decide +kernel
theorem dX0_basesBelow_24 : decode cX0_basesBelow 24 = .ok (.iaload, 1) := by decide +kernel
theorem dX0_basesBelow_25 : decode cX0_basesBelow 25 = .ok (.iconst 1, 1) := by decide +kernel
theorem dX0_basesBelow_26 : decode cX0_basesBelow 26 = .ok (.isub, 1) := by decide +kernel
theorem dX0_basesBelow_27 : decode cX0_basesBelow 27 = .ok (.istore_n 3, 1) := by decide +kernel
theorem dX0_basesBelow_28 : decode cX0_basesBelow 28 = .ok (.iinc 2 1, 3) := by decide +kernel
theorem dX0_basesBelow_31 : decode cX0_basesBelow 31 = .ok (.goto (-27), 3) := by decide +kernel
theorem dX0_basesBelow_34 : decode cX0_basesBelow 34 = .ok (.iload_n 2, 1) := by decide +kernel
theorem dX0_basesBelow_35 : decode cX0_basesBelow 35 = .ok (.ireturn, 1) := by decide +kernel
theorem dX0_storeAgainst_0 : decode cX0_storeAgainst 0 = .ok (.aload_n 0, 1) := by decide +kernel
theorem dX0_storeAgainst_1 : decode cX0_storeAgainst 1 = .ok (.getfield 29, 3) := by decide +kernel
theorem dX0_storeAgainst_4 : decode cX0_storeAgainst 4 = .ok (.iload_n 1, 1) := by decide +kernel
theorem dX0_storeAgainst_5 : decode cX0_storeAgainst 5 = .ok (.iconst 0, 1) := by decide +kernel
theorem dX0_storeAgainst_6 : decode cX0_storeAgainst 6 = .ok (.iastore, 1) := by decide +kernel
theorem dX0_storeAgainst_7 : decode cX0_storeAgainst 7 = .ok (.iload_n 2, 1) := by decide +kernel
theorem dX0_storeAgainst_8 : decode cX0_storeAgainst 8 = .ok (.ifCond .lt 86, 3) := by decide +kernel
theorem dX0_storeAgainst_11 : decode cX0_storeAgainst 11 = .ok (.aload_n 0, 1) := by decide +kernel
theorem dX0_storeAgainst_12 : decode cX0_storeAgainst 12 = .ok (.iload_n 2, 1) := by decide +kernel
theorem dX0_storeAgainst_13 : decode cX0_storeAgainst 13 = .ok (.invokevirtual 103, 3) := by decide +kernel
theorem dX0_storeAgainst_16 : decode cX0_storeAgainst 16 = .ok (.aload_n 0, 1) := by decide +kernel
theorem dX0_storeAgainst_17 : decode cX0_storeAgainst 17 = .ok (.iload_n 3, 1) := by decide +kernel
theorem dX0_storeAgainst_18 : decode cX0_storeAgainst 18 = .ok (.aload_n 0, 1) := by decide +kernel
theorem dX0_storeAgainst_19 : decode cX0_storeAgainst 19 = .ok (.getfield 26, 3) := by decide +kernel
theorem dX0_storeAgainst_22 : decode cX0_storeAgainst 22 = .ok (.iload_n 2, 1) := by decide +kernel
theorem dX0_storeAgainst_23 : decode cX0_storeAgainst 23 = .ok (.iaload, 1) := by decide +kernel
theorem dX0_storeAgainst_24 : decode cX0_storeAgainst 24 = .ok (.invokevirtual 115, 3) := by decide +kernel
theorem dX0_storeAgainst_27 : decode cX0_storeAgainst 27 = .ok (.aload_n 0, 1) := by decide +kernel
theorem dX0_storeAgainst_28 : decode cX0_storeAgainst 28 = .ok (.getfield 119, 3) := by decide +kernel
theorem dX0_storeAgainst_31 : decode cX0_storeAgainst 31 = .ok (.iload_n 3, 1) := by decide +kernel
theorem dX0_storeAgainst_32 : decode cX0_storeAgainst 32 = .ok (.iconst 2, 1) := by decide +kernel
theorem dX0_storeAgainst_33 : decode cX0_storeAgainst 33 = .ok (.idiv, 1) := by decide +kernel
theorem dX0_storeAgainst_34 : decode cX0_storeAgainst 34 = .ok (.if_icmp .gt 60, 3) := by decide +kernel
theorem dX0_storeAgainst_37 : decode cX0_storeAgainst 37 = .ok (.aload_n 0, 1) := by decide +kernel
theorem dX0_storeAgainst_38 : decode cX0_storeAgainst 38 = .ok (.getfield 29, 3) := by decide +kernel
theorem dX0_storeAgainst_41 : decode cX0_storeAgainst 41 = .ok (.iload_n 1, 1) := by decide +kernel
theorem dX0_storeAgainst_42 : decode cX0_storeAgainst 42 = .ok (.iload_n 2, 1) := by decide +kernel
theorem dX0_storeAgainst_43 : decode cX0_storeAgainst 43 = .ok (.iconst 1, 1) := by decide +kernel
theorem dX0_storeAgainst_44 : decode cX0_storeAgainst 44 = .ok (.iadd, 1) := by decide +kernel
theorem dX0_storeAgainst_45 : decode cX0_storeAgainst 45 = .ok (.iastore, 1) := by decide +kernel
theorem dX0_storeAgainst_46 : decode cX0_storeAgainst 46 = .ok (.aload_n 0, 1) := by decide +kernel
theorem dX0_storeAgainst_47 : decode cX0_storeAgainst 47 = .ok (.getfield 32, 3) := by decide +kernel
theorem dX0_storeAgainst_50 : decode cX0_storeAgainst 50 = .ok (.iload_n 1, 1) := by decide +kernel
theorem dX0_storeAgainst_51 : decode cX0_storeAgainst 51 = .ok (.aload_n 0, 1) := by decide +kernel
theorem dX0_storeAgainst_52 : decode cX0_storeAgainst 52 = .ok (.getfield 119, 3) := by decide +kernel
theorem dX0_storeAgainst_55 : decode cX0_storeAgainst 55 = .ok (.iastore, 1) := by decide +kernel
theorem dX0_storeAgainst_56 : decode cX0_storeAgainst 56 = .ok (.iconst 0, 1) := by decide +kernel
theorem dX0_storeAgainst_57 : decode cX0_storeAgainst 57 = .ok (.istore 4, 2) := by decide +kernel
theorem dX0_storeAgainst_59 : decode cX0_storeAgainst 59 = .ok (.iload 4, 2) := by decide +kernel
theorem dX0_storeAgainst_61 : decode cX0_storeAgainst 61 = .ok (.aload_n 0, 1) := by decide +kernel
theorem dX0_storeAgainst_62 : decode cX0_storeAgainst 62 = .ok (.getfield 119, 3) := by decide +kernel
theorem dX0_storeAgainst_65 : decode cX0_storeAgainst 65 = .ok (.if_icmp .ge 28, 3) := by decide +kernel
theorem dX0_storeAgainst_68 : decode cX0_storeAgainst 68 = .ok (.aload_n 0, 1) := by decide +kernel
theorem dX0_storeAgainst_69 : decode cX0_storeAgainst 69 = .ok (.getfield 35, 3) := by decide +kernel
theorem dX0_storeAgainst_72 : decode cX0_storeAgainst 72 = .ok (.iload_n 1, 1) := by decide +kernel
theorem dX0_storeAgainst_73 : decode cX0_storeAgainst 73 = .ok (.bipush 16, 2) := by decide +kernel
theorem dX0_storeAgainst_75 : decode cX0_storeAgainst 75 = .ok (.imul, 1) := by decide +kernel
theorem dX0_storeAgainst_76 : decode cX0_storeAgainst 76 = .ok (.iload 4, 2) := by decide +kernel
theorem dX0_storeAgainst_78 : decode cX0_storeAgainst 78 = .ok (.iadd, 1) := by decide +kernel
theorem dX0_storeAgainst_79 : decode cX0_storeAgainst 79 = .ok (.aload_n 0, 1) := by decide +kernel
theorem dX0_storeAgainst_80 : decode cX0_storeAgainst 80 = .ok (.getfield 56, 3) := by decide +kernel
theorem dX0_storeAgainst_83 : decode cX0_storeAgainst 83 = .ok (.iload 4, 2) := by decide +kernel
theorem dX0_storeAgainst_85 : decode cX0_storeAgainst 85 = .ok (.iaload, 1) := by decide +kernel
theorem dX0_storeAgainst_86 : decode cX0_storeAgainst 86 = .ok (.iastore, 1) := by decide +kernel
theorem dX0_storeAgainst_87 : decode cX0_storeAgainst 87 = .ok (.iinc 4 1, 3) := by decide +kernel
theorem dX0_storeAgainst_90 : decode cX0_storeAgainst 90 = .ok (.goto (-31), 3) := by decide +kernel
theorem dX0_storeAgainst_93 : decode cX0_storeAgainst 93 = .ok (.return_, 1) := by decide +kernel
theorem dX0_storeAgainst_94 : decode cX0_storeAgainst 94 = .ok (.aload_n 0, 1) := by decide +kernel
theorem dX0_storeAgainst_95 : decode cX0_storeAgainst 95 = .ok (.getfield 32, 3) := by decide +kernel
theorem dX0_storeAgainst_98 : decode cX0_storeAgainst 98 = .ok (.iload_n 1, 1) := by decide +kernel
theorem dX0_storeAgainst_99 : decode cX0_storeAgainst 99 = .ok (.iload_n 3, 1) := by decide +kernel
theorem dX0_storeAgainst_100 : decode cX0_storeAgainst 100 = .ok (.iastore, 1) := by decide +kernel
theorem dX0_storeAgainst_101 : decode cX0_storeAgainst 101 = .ok (.iconst 0, 1) := by decide +kernel
theorem dX0_storeAgainst_102 : decode cX0_storeAgainst 102 = .ok (.istore 4, 2) := by decide +kernel
theorem dX0_storeAgainst_104 : decode cX0_storeAgainst 104 = .ok (.iload 4, 2) := by decide +kernel
theorem dX0_storeAgainst_106 : decode cX0_storeAgainst 106 = .ok (.iload_n 3, 1) := by decide +kernel
theorem dX0_storeAgainst_107 : decode cX0_storeAgainst 107 = .ok (.if_icmp .ge 28, 3) := by decide +kernel
theorem dX0_storeAgainst_110 : decode cX0_storeAgainst 110 = .ok (.aload_n 0, 1) := by decide +kernel
theorem dX0_storeAgainst_111 : decode cX0_storeAgainst 111 = .ok (.getfield 35, 3) := by decide +kernel
theorem dX0_storeAgainst_114 : decode cX0_storeAgainst 114 = .ok (.iload_n 1, 1) := by decide +kernel
theorem dX0_storeAgainst_115 : decode cX0_storeAgainst 115 = .ok (.bipush 16, 2) := by decide +kernel
theorem dX0_storeAgainst_117 : decode cX0_storeAgainst 117 = .ok (.imul, 1) := by decide +kernel
theorem dX0_storeAgainst_118 : decode cX0_storeAgainst 118 = .ok (.iload 4, 2) := by decide +kernel
theorem dX0_storeAgainst_120 : decode cX0_storeAgainst 120 = .ok (.iadd, 1) := by decide +kernel
theorem dX0_storeAgainst_121 : decode cX0_storeAgainst 121 = .ok (.aload_n 0, 1) := by decide +kernel
theorem dX0_storeAgainst_122 : decode cX0_storeAgainst 122 = .ok (.getfield 47, 3) := by decide +kernel
theorem dX0_storeAgainst_125 : decode cX0_storeAgainst 125 = .ok (.iload 4, 2) := by decide +kernel
theorem dX0_storeAgainst_127 : decode cX0_storeAgainst 127 = .ok (.iaload, 1) := by decide +kernel
theorem dX0_storeAgainst_128 : decode cX0_storeAgainst 128 = .ok (.iastore, 1) := by decide +kernel
theorem dX0_storeAgainst_129 : decode cX0_storeAgainst 129 = .ok (.iinc 4 1, 3) := by decide +kernel
theorem dX0_storeAgainst_132 : decode cX0_storeAgainst 132 = .ok (.goto (-28), 3) := by decide +kernel
theorem dX0_storeAgainst_135 : decode cX0_storeAgainst 135 = .ok (.return_, 1) := by decide +kernel
theorem dX0_makeProgram_0 : decode cX0_makeProgram 0 = .ok (.aload_n 0, 1) := by decide +kernel
theorem dX0_makeProgram_1 : decode cX0_makeProgram 1 = .ok (.iconst 0, 1) := by decide +kernel
theorem dX0_makeProgram_2 : decode cX0_makeProgram 2 = .ok (.putfield 119, 3) := by decide +kernel
theorem dX0_makeProgram_5 : decode cX0_makeProgram 5 = .ok (.iconst 0, 1) := by decide +kernel
theorem dX0_makeProgram_6 : decode cX0_makeProgram 6 = .ok (.istore_n 3, 1) := by decide +kernel
theorem dX0_makeProgram_7 : decode cX0_makeProgram 7 = .ok (.iload_n 3, 1) := by decide +kernel
theorem dX0_makeProgram_8 : decode cX0_makeProgram 8 = .ok (.iload_n 1, 1) := by decide +kernel
theorem dX0_makeProgram_9 : decode cX0_makeProgram 9 = .ok (.if_icmp .ge 127, 3) := by decide +kernel
theorem dX0_makeProgram_12 : decode cX0_makeProgram 12 = .ok (.aload_n 0, 1) := by decide +kernel
theorem dX0_makeProgram_13 : decode cX0_makeProgram 13 = .ok (.getfield 119, 3) := by decide +kernel
theorem dX0_makeProgram_16 : decode cX0_makeProgram 16 = .ok (.bipush 16, 2) := by decide +kernel
theorem dX0_makeProgram_18 : decode cX0_makeProgram 18 = .ok (.if_icmp .ge 118, 3) := by decide +kernel
theorem dX0_makeProgram_21 : decode cX0_makeProgram 21 = .ok (.iconst 0, 1) := by decide +kernel
theorem dX0_makeProgram_22 : decode cX0_makeProgram 22 = .ok (.istore 4, 2) := by decide +kernel
theorem dX0_makeProgram_24 : decode cX0_makeProgram 24 = .ok (.iconst 0, 1) := by decide +kernel
theorem dX0_makeProgram_25 : decode cX0_makeProgram 25 = .ok (.istore 5, 2) := by decide +kernel
theorem dX0_makeProgram_27 : decode cX0_makeProgram 27 = .ok (.iconst 0, 1) := by decide +kernel
theorem dX0_makeProgram_28 : decode cX0_makeProgram 28 = .ok (.istore 6, 2) := by decide +kernel
theorem dX0_makeProgram_30 : decode cX0_makeProgram 30 = .ok (.iload 6, 2) := by decide +kernel
theorem dX0_makeProgram_32 : decode cX0_makeProgram 32 = .ok (.iload_n 2, 1) := by decide +kernel
theorem dX0_makeProgram_33 : decode cX0_makeProgram 33 = .ok (.if_icmp .ge 35, 3) := by decide +kernel
theorem dX0_makeProgram_36 : decode cX0_makeProgram 36 = .ok (.aload_n 0, 1) := by decide +kernel
theorem dX0_makeProgram_37 : decode cX0_makeProgram 37 = .ok (.iload_n 3, 1) := by decide +kernel
theorem dX0_makeProgram_38 : decode cX0_makeProgram 38 = .ok (.iload_n 1, 1) := by decide +kernel
theorem dX0_makeProgram_39 : decode cX0_makeProgram 39 = .ok (.iload 6, 2) := by decide +kernel
theorem dX0_makeProgram_41 : decode cX0_makeProgram 41 = .ok (.iload_n 2, 1) := by decide +kernel
theorem dX0_makeProgram_42 : decode cX0_makeProgram 42 = .ok (.invokevirtual 122, 3) := by decide +kernel
theorem dX0_makeProgram_45 : decode cX0_makeProgram 45 = .ok (.istore 7, 2) := by decide +kernel
theorem dX0_makeProgram_47 : decode cX0_makeProgram 47 = .ok (.iload 7, 2) := by decide +kernel
theorem dX0_makeProgram_49 : decode cX0_makeProgram 49 = .ok (.iload 5, 2) := by decide +kernel
theorem dX0_makeProgram_51 : decode cX0_makeProgram 51 = .ok (.if_icmp .le 11, 3) := by decide +kernel
theorem dX0_makeProgram_54 : decode cX0_makeProgram 54 = .ok (.iload 7, 2) := by decide +kernel
theorem dX0_makeProgram_56 : decode cX0_makeProgram 56 = .ok (.istore 5, 2) := by decide +kernel
theorem dX0_makeProgram_58 : decode cX0_makeProgram 58 = .ok (.iload 6, 2) := by decide +kernel
theorem dX0_makeProgram_60 : decode cX0_makeProgram 60 = .ok (.istore 4, 2) := by decide +kernel
theorem dX0_makeProgram_62 : decode cX0_makeProgram 62 = .ok (.iinc 6 1, 3) := by decide +kernel
theorem dX0_makeProgram_65 : decode cX0_makeProgram 65 = .ok (.goto (-35), 3) := by decide +kernel
theorem dX0_makeProgram_68 : decode cX0_makeProgram 68 = .ok (.iload 5, 2) := by decide +kernel
theorem dX0_makeProgram_70 : decode cX0_makeProgram 70 = .ok (.iconst 2, 1) := by decide +kernel
theorem dX0_makeProgram_71 : decode cX0_makeProgram 71 = .ok (.if_icmp .lt 34, 3) := by decide +kernel
theorem dX0_makeProgram_74 : decode cX0_makeProgram 74 = .ok (.aload_n 0, 1) := by decide +kernel
theorem dX0_makeProgram_75 : decode cX0_makeProgram 75 = .ok (.getfield 56, 3) := by decide +kernel
theorem dX0_makeProgram_78 : decode cX0_makeProgram 78 = .ok (.aload_n 0, 1) := by decide +kernel
theorem dX0_makeProgram_79 : decode cX0_makeProgram 79 = .ok (.getfield 119, 3) := by decide +kernel
theorem dX0_makeProgram_82 : decode cX0_makeProgram 82 = .ok (.sipush 256, 3) := by decide +kernel
theorem dX0_makeProgram_85 : decode cX0_makeProgram 85 = .ok (.iload 4, 2) := by decide +kernel
theorem dX0_makeProgram_87 : decode cX0_makeProgram 87 = .ok (.bipush 16, 2) := by decide +kernel
theorem dX0_makeProgram_89 : decode cX0_makeProgram 89 = .ok (.imul, 1) := by decide +kernel
theorem dX0_makeProgram_90 : decode cX0_makeProgram 90 = .ok (.iadd, 1) := by decide +kernel
theorem dX0_makeProgram_91 : decode cX0_makeProgram 91 = .ok (.iload 5, 2) := by decide +kernel
theorem dX0_makeProgram_93 : decode cX0_makeProgram 93 = .ok (.iadd, 1) := by decide +kernel
theorem dX0_makeProgram_94 : decode cX0_makeProgram 94 = .ok (.iconst 1, 1) := by decide +kernel
theorem dX0_makeProgram_95 : decode cX0_makeProgram 95 = .ok (.isub, 1) := by decide +kernel
theorem dX0_makeProgram_96 : decode cX0_makeProgram 96 = .ok (.iastore, 1) := by decide +kernel
theorem dX0_makeProgram_97 : decode cX0_makeProgram 97 = .ok (.iload_n 3, 1) := by decide +kernel
theorem dX0_makeProgram_98 : decode cX0_makeProgram 98 = .ok (.iload 5, 2) := by decide +kernel
theorem dX0_makeProgram_100 : decode cX0_makeProgram 100 = .ok (.iadd, 1) := by decide +kernel
theorem dX0_makeProgram_101 : decode cX0_makeProgram 101 = .ok (.istore_n 3, 1) := by decide +kernel
theorem dX0_makeProgram_102 : decode cX0_makeProgram 102 = .ok (.goto 21, 3) := by decide +kernel
theorem dX0_makeProgram_105 : decode cX0_makeProgram 105 = .ok (.aload_n 0, 1) := by decide +kernel
theorem dX0_makeProgram_106 : decode cX0_makeProgram 106 = .ok (.getfield 56, 3) := by decide +kernel
theorem dX0_makeProgram_109 : decode cX0_makeProgram 109 = .ok (.aload_n 0, 1) := by decide +kernel
theorem dX0_makeProgram_110 : decode cX0_makeProgram 110 = .ok (.getfield 119, 3) := by decide +kernel
theorem dX0_makeProgram_113 : decode cX0_makeProgram 113 = .ok (.aload_n 0, 1) := by decide +kernel
theorem dX0_makeProgram_114 : decode cX0_makeProgram 114 = .ok (.getfield 47, 3) := by decide +kernel
theorem dX0_makeProgram_117 : decode cX0_makeProgram 117 = .ok (.iload_n 3, 1) := by decide +kernel
theorem dX0_makeProgram_118 : decode cX0_makeProgram 118 = .ok (.iaload, 1) := by decide +kernel
theorem dX0_makeProgram_119 : decode cX0_makeProgram 119 = .ok (.iastore, 1) := by decide +kernel
theorem dX0_makeProgram_120 : decode cX0_makeProgram 120 = .ok (.iinc 3 1, 3) := by decide +kernel
theorem dX0_makeProgram_123 : decode cX0_makeProgram 123 = .ok (.aload_n 0, 1) := by decide +kernel
theorem dX0_makeProgram_124 : decode cX0_makeProgram 124 = .ok (.dup, 1) := by decide +kernel
theorem dX0_makeProgram_125 : decode cX0_makeProgram 125 = .ok (.getfield 119, 3) := by decide +kernel
theorem dX0_makeProgram_128 : decode cX0_makeProgram 128 = .ok (.iconst 1, 1) := by decide +kernel
theorem dX0_makeProgram_129 : decode cX0_makeProgram 129 = .ok (.iadd, 1) := by decide +kernel
theorem dX0_makeProgram_130 : decode cX0_makeProgram 130 = .ok (.putfield 119, 3) := by decide +kernel
theorem dX0_makeProgram_133 : decode cX0_makeProgram 133 = .ok (.goto (-126), 3) := by decide +kernel
theorem dX0_makeProgram_136 : decode cX0_makeProgram 136 = .ok (.return_, 1) := by decide +kernel
theorem dX0_matchLength_0 : decode cX0_matchLength 0 = .ok (.iconst 0, 1) := by decide +kernel
theorem dX0_matchLength_1 : decode cX0_matchLength 1 = .ok (.istore 5, 2) := by decide +kernel
theorem dX0_matchLength_3 : decode cX0_matchLength 3 = .ok (.iload_n 1, 1) := by decide +kernel
theorem dX0_matchLength_4 : decode cX0_matchLength 4 = .ok (.iload 5, 2) := by decide +kernel
theorem dX0_matchLength_6 : decode cX0_matchLength 6 = .ok (.iadd, 1) := by decide +kernel
theorem dX0_matchLength_7 : decode cX0_matchLength 7 = .ok (.iload_n 2, 1) := by decide +kernel
theorem dX0_matchLength_8 : decode cX0_matchLength 8 = .ok (.if_icmp .ge 39, 3) := by decide +kernel
theorem dX0_matchLength_11 : decode cX0_matchLength 11 = .ok (.iload_n 3, 1) := by decide +kernel
theorem dX0_matchLength_12 : decode cX0_matchLength 12 = .ok (.iload 5, 2) := by decide +kernel
theorem dX0_matchLength_14 : decode cX0_matchLength 14 = .ok (.iadd, 1) := by decide +kernel
theorem dX0_matchLength_15 : decode cX0_matchLength 15 = .ok (.iload 4, 2) := by decide +kernel
theorem dX0_matchLength_17 : decode cX0_matchLength 17 = .ok (.if_icmp .ge 30, 3) := by decide +kernel
theorem dX0_matchLength_20 : decode cX0_matchLength 20 = .ok (.aload_n 0, 1) := by decide +kernel
theorem dX0_matchLength_21 : decode cX0_matchLength 21 = .ok (.getfield 47, 3) := by decide +kernel
theorem dX0_matchLength_24 : decode cX0_matchLength 24 = .ok (.iload_n 1, 1) := by decide +kernel
theorem dX0_matchLength_25 : decode cX0_matchLength 25 = .ok (.iload 5, 2) := by decide +kernel
theorem dX0_matchLength_27 : decode cX0_matchLength 27 = .ok (.iadd, 1) := by decide +kernel
theorem dX0_matchLength_28 : decode cX0_matchLength 28 = .ok (.iaload, 1) := by decide +kernel
theorem dX0_matchLength_29 : decode cX0_matchLength 29 = .ok (.aload_n 0, 1) := by decide +kernel
theorem dX0_matchLength_30 : decode cX0_matchLength 30 = .ok (.getfield 50, 3) := by decide +kernel
theorem dX0_matchLength_33 : decode cX0_matchLength 33 = .ok (.iload_n 3, 1) := by decide +kernel
theorem dX0_matchLength_34 : decode cX0_matchLength 34 = .ok (.iload 5, 2) := by decide +kernel
theorem dX0_matchLength_36 : decode cX0_matchLength 36 = .ok (.iadd, 1) := by decide +kernel
theorem dX0_matchLength_37 : decode cX0_matchLength 37 = .ok (.iaload, 1) := by decide +kernel
theorem dX0_matchLength_38 : decode cX0_matchLength 38 = .ok (.if_icmp .ne 9, 3) := by decide +kernel
theorem dX0_matchLength_41 : decode cX0_matchLength 41 = .ok (.iinc 5 1, 3) := by decide +kernel
theorem dX0_matchLength_44 : decode cX0_matchLength 44 = .ok (.goto (-41), 3) := by decide +kernel
theorem dX0_matchLength_47 : decode cX0_matchLength 47 = .ok (.iload 5, 2) := by decide +kernel
theorem dX0_matchLength_49 : decode cX0_matchLength 49 = .ok (.ireturn, 1) := by decide +kernel
theorem dX0_drop_0 : decode cX0_drop 0 = .ok (.aload_n 0, 1) := by decide +kernel
theorem dX0_drop_1 : decode cX0_drop 1 = .ok (.iload_n 1, 1) := by decide +kernel
theorem dX0_drop_2 : decode cX0_drop 2 = .ok (.invokevirtual 70, 3) := by decide +kernel
theorem dX0_drop_5 : decode cX0_drop 5 = .ok (.istore_n 2, 1) := by decide +kernel
theorem dX0_drop_6 : decode cX0_drop 6 = .ok (.iload_n 2, 1) := by decide +kernel
theorem dX0_drop_7 : decode cX0_drop 7 = .ok (.ifCond .ge 5, 3) := by decide +kernel
theorem dX0_drop_10 : decode cX0_drop 10 = .ok (.iload_n 2, 1) := by decide +kernel
theorem dX0_drop_11 : decode cX0_drop 11 = .ok (.ireturn, 1) := by decide +kernel
theorem dX0_drop_12 : decode cX0_drop 12 = .ok (.iconst 0, 1) := by decide +kernel
theorem dX0_drop_13 : decode cX0_drop 13 = .ok (.istore_n 3, 1) := by decide +kernel
theorem dX0_drop_14 : decode cX0_drop 14 = .ok (.iload_n 3, 1) := by decide +kernel
theorem dX0_drop_15 : decode cX0_drop 15 = .ok (.aload_n 0, 1) := by decide +kernel
theorem dX0_drop_16 : decode cX0_drop 16 = .ok (.getfield 17, 3) := by decide +kernel
theorem dX0_drop_19 : decode cX0_drop 19 = .ok (.iload_n 1, 1) := by decide +kernel
theorem dX0_drop_20 : decode cX0_drop 20 = .ok (.iaload, 1) := by decide +kernel
theorem dX0_drop_21 : decode cX0_drop 21 = .ok (.if_icmp .ge 24, 3) := by decide +kernel
theorem dX0_drop_24 : decode cX0_drop 24 = .ok (.aload_n 0, 1) := by decide +kernel
theorem dX0_drop_25 : decode cX0_drop 25 = .ok (.aload_n 0, 1) := by decide +kernel
theorem dX0_drop_26 : decode cX0_drop 26 = .ok (.getfield 20, 3) := by decide +kernel
theorem dX0_drop_29 : decode cX0_drop 29 = .ok (.iload_n 1, 1) := by decide +kernel
theorem dX0_drop_30 : decode cX0_drop 30 = .ok (.bipush 16, 2) := by decide +kernel
theorem dX0_drop_32 : decode cX0_drop 32 = .ok (.imul, 1) := by decide +kernel
theorem dX0_drop_33 : decode cX0_drop 33 = .ok (.iload_n 3, 1) := by decide +kernel
theorem dX0_drop_34 : decode cX0_drop 34 = .ok (.iadd, 1) := by decide +kernel
theorem dX0_drop_35 : decode cX0_drop 35 = .ok (.iaload, 1) := by decide +kernel
theorem dX0_drop_36 : decode cX0_drop 36 = .ok (.invokevirtual 132, 3) := by decide +kernel
theorem dX0_drop_39 : decode cX0_drop 39 = .ok (.iinc 3 1, 3) := by decide +kernel
theorem dX0_drop_42 : decode cX0_drop 42 = .ok (.goto (-28), 3) := by decide +kernel
theorem dX0_drop_45 : decode cX0_drop 45 = .ok (.aload_n 0, 1) := by decide +kernel
theorem dX0_drop_46 : decode cX0_drop 46 = .ok (.getfield 13, 3) := by decide +kernel
theorem dX0_drop_49 : decode cX0_drop 49 = .ok (.iload_n 1, 1) := by decide +kernel
theorem dX0_drop_50 : decode cX0_drop 50 = .ok (.iconst 0, 1) := by decide +kernel
theorem dX0_drop_51 : decode cX0_drop 51 = .ok (.bastore, 1) := by decide +kernel
theorem dX0_drop_52 : decode cX0_drop 52 = .ok (.aload_n 0, 1) := by decide +kernel
theorem dX0_drop_53 : decode cX0_drop 53 = .ok (.getfield 17, 3) := by decide +kernel
theorem dX0_drop_56 : decode cX0_drop 56 = .ok (.iload_n 1, 1) := by decide +kernel
theorem dX0_drop_57 : decode cX0_drop 57 = .ok (.iconst 0, 1) := by decide +kernel
theorem dX0_drop_58 : decode cX0_drop 58 = .ok (.iastore, 1) := by decide +kernel
theorem dX0_drop_59 : decode cX0_drop 59 = .ok (.iload_n 2, 1) := by decide +kernel
theorem dX0_drop_60 : decode cX0_drop 60 = .ok (.ireturn, 1) := by decide +kernel
theorem dX0_release_0 : decode cX0_release 0 = .ok (.aload_n 0, 1) := by decide +kernel
theorem dX0_release_1 : decode cX0_release 1 = .ok (.getfield 23, 3) := by decide +kernel
theorem dX0_release_4 : decode cX0_release 4 = .ok (.iload_n 1, 1) := by decide +kernel
theorem dX0_release_5 : decode cX0_release 5 = .ok (.dup2, 1) := by decide +kernel
theorem dX0_release_6 : decode cX0_release 6 = .ok (.iaload, 1) := by decide +kernel
theorem dX0_release_7 : decode cX0_release 7 = .ok (.iconst 1, 1) := by decide +kernel
theorem dX0_release_8 : decode cX0_release 8 = .ok (.isub, 1) := by decide +kernel
theorem dX0_release_9 : decode cX0_release 9 = .ok (.iastore, 1) := by decide +kernel
theorem dX0_release_10 : decode cX0_release 10 = .ok (.aload_n 0, 1) := by decide +kernel
theorem dX0_release_11 : decode cX0_release 11 = .ok (.getfield 23, 3) := by decide +kernel
theorem dX0_release_14 : decode cX0_release 14 = .ok (.iload_n 1, 1) := by decide +kernel
theorem dX0_release_15 : decode cX0_release 15 = .ok (.iaload, 1) := by decide +kernel
theorem dX0_release_16 : decode cX0_release 16 = .ok (.ifCond .le 4, 3) := by decide +kernel
theorem dX0_release_19 : decode cX0_release 19 = .ok (.return_, 1) := by decide +kernel
theorem dX0_release_20 : decode cX0_release 20 = .ok (.iconst 0, 1) := by decide +kernel
theorem dX0_release_21 : decode cX0_release 21 = .ok (.istore_n 2, 1) := by decide +kernel
theorem dX0_release_22 : decode cX0_release 22 = .ok (.iload_n 2, 1) := by decide +kernel
theorem dX0_release_23 : decode cX0_release 23 = .ok (.bipush 96, 2) := by decide +kernel
theorem dX0_release_25 : decode cX0_release 25 = .ok (.if_icmp .ge 35, 3) := by decide +kernel
theorem dX0_release_28 : decode cX0_release 28 = .ok (.aload_n 0, 1) := by decide +kernel
theorem dX0_release_29 : decode cX0_release 29 = .ok (.getfield 23, 3) := by decide +kernel
theorem dX0_release_32 : decode cX0_release 32 = .ok (.iload_n 2, 1) := by decide +kernel
theorem dX0_release_33 : decode cX0_release 33 = .ok (.iaload, 1) := by decide +kernel
theorem dX0_release_34 : decode cX0_release 34 = .ok (.ifCond .le 20, 3) := by decide +kernel
theorem dX0_release_37 : decode cX0_release 37 = .ok (.aload_n 0, 1) := by decide +kernel
theorem dX0_release_38 : decode cX0_release 38 = .ok (.getfield 29, 3) := by decide +kernel
theorem dX0_release_41 : decode cX0_release 41 = .ok (.iload_n 2, 1) := by decide +kernel
theorem dX0_release_42 : decode cX0_release 42 = .ok (.iaload, 1) := by decide +kernel
theorem dX0_release_43 : decode cX0_release 43 = .ok (.iload_n 1, 1) := by decide +kernel
theorem dX0_release_44 : decode cX0_release 44 = .ok (.iconst 1, 1) := by decide +kernel
theorem dX0_release_45 : decode cX0_release 45 = .ok (.iadd, 1) := by decide +kernel
theorem dX0_release_46 : decode cX0_release 46 = .ok (.if_icmp .ne 8, 3) := by decide +kernel
theorem dX0_release_49 : decode cX0_release 49 = .ok (.aload_n 0, 1) := by decide +kernel
theorem dX0_release_50 : decode cX0_release 50 = .ok (.iload_n 2, 1) := by decide +kernel
theorem dX0_release_51 : decode cX0_release 51 = .ok (.invokevirtual 135, 3) := by decide +kernel
theorem dX0_release_54 : decode cX0_release 54 = .ok (.iinc 2 1, 3) := by decide +kernel
theorem dX0_release_57 : decode cX0_release 57 = .ok (.goto (-35), 3) := by decide +kernel
theorem dX0_release_60 : decode cX0_release 60 = .ok (.aload_n 0, 1) := by decide +kernel
theorem dX0_release_61 : decode cX0_release 61 = .ok (.getfield 29, 3) := by decide +kernel
theorem dX0_release_64 : decode cX0_release 64 = .ok (.iload_n 1, 1) := by decide +kernel
theorem dX0_release_65 : decode cX0_release 65 = .ok (.iconst 0, 1) := by decide +kernel
theorem dX0_release_66 : decode cX0_release 66 = .ok (.iastore, 1) := by decide +kernel
theorem dX0_release_67 : decode cX0_release 67 = .ok (.return_, 1) := by decide +kernel
theorem dX0_makeRaw_0 : decode cX0_makeRaw 0 = .ok (.aload_n 0, 1) := by decide +kernel
theorem dX0_makeRaw_1 : decode cX0_makeRaw 1 = .ok (.iload_n 1, 1) := by decide +kernel
theorem dX0_makeRaw_2 : decode cX0_makeRaw 2 = .ok (.invokevirtual 103, 3) := by decide +kernel
theorem dX0_makeRaw_5 : decode cX0_makeRaw 5 = .ok (.aload_n 0, 1) := by decide +kernel
theorem dX0_makeRaw_6 : decode cX0_makeRaw 6 = .ok (.getfield 29, 3) := by decide +kernel
theorem dX0_makeRaw_9 : decode cX0_makeRaw 9 = .ok (.iload_n 1, 1) := by decide +kernel
theorem dX0_makeRaw_10 : decode cX0_makeRaw 10 = .ok (.iconst 0, 1) := by decide +kernel
theorem dX0_makeRaw_11 : decode cX0_makeRaw 11 = .ok (.iastore, 1) := by decide +kernel
theorem dX0_makeRaw_12 : decode cX0_makeRaw 12 = .ok (.aload_n 0, 1) := by decide +kernel
theorem dX0_makeRaw_13 : decode cX0_makeRaw 13 = .ok (.getfield 32, 3) := by decide +kernel
theorem dX0_makeRaw_16 : decode cX0_makeRaw 16 = .ok (.iload_n 1, 1) := by decide +kernel
theorem dX0_makeRaw_17 : decode cX0_makeRaw 17 = .ok (.aload_n 0, 1) := by decide +kernel
theorem dX0_makeRaw_18 : decode cX0_makeRaw 18 = .ok (.getfield 26, 3) := by decide +kernel
theorem dX0_makeRaw_21 : decode cX0_makeRaw 21 = .ok (.iload_n 1, 1) := by decide +kernel
theorem dX0_makeRaw_22 : decode cX0_makeRaw 22 = .ok (.iaload, 1) := by decide +kernel
theorem dX0_makeRaw_23 : decode cX0_makeRaw 23 = .ok (.iastore, 1) := by decide +kernel
theorem dX0_makeRaw_24 : decode cX0_makeRaw 24 = .ok (.iconst 0, 1) := by decide +kernel
theorem dX0_makeRaw_25 : decode cX0_makeRaw 25 = .ok (.istore_n 2, 1) := by decide +kernel
theorem dX0_makeRaw_26 : decode cX0_makeRaw 26 = .ok (.iload_n 2, 1) := by decide +kernel
theorem dX0_makeRaw_27 : decode cX0_makeRaw 27 = .ok (.aload_n 0, 1) := by decide +kernel
theorem dX0_makeRaw_28 : decode cX0_makeRaw 28 = .ok (.getfield 26, 3) := by decide +kernel
theorem dX0_makeRaw_31 : decode cX0_makeRaw 31 = .ok (.iload_n 1, 1) := by decide +kernel
theorem dX0_makeRaw_32 : decode cX0_makeRaw 32 = .ok (.iaload, 1) := by decide +kernel
theorem dX0_makeRaw_33 : decode cX0_makeRaw 33 = .ok (.if_icmp .ge 26, 3) := by decide +kernel
theorem dX0_makeRaw_36 : decode cX0_makeRaw 36 = .ok (.aload_n 0, 1) := by decide +kernel
theorem dX0_makeRaw_37 : decode cX0_makeRaw 37 = .ok (.getfield 35, 3) := by decide +kernel
theorem dX0_makeRaw_40 : decode cX0_makeRaw 40 = .ok (.iload_n 1, 1) := by decide +kernel
theorem dX0_makeRaw_41 : decode cX0_makeRaw 41 = .ok (.bipush 16, 2) := by decide +kernel
theorem dX0_makeRaw_43 : decode cX0_makeRaw 43 = .ok (.imul, 1) := by decide +kernel
theorem dX0_makeRaw_44 : decode cX0_makeRaw 44 = .ok (.iload_n 2, 1) := by decide +kernel
theorem dX0_makeRaw_45 : decode cX0_makeRaw 45 = .ok (.iadd, 1) := by decide +kernel
theorem dX0_makeRaw_46 : decode cX0_makeRaw 46 = .ok (.aload_n 0, 1) := by decide +kernel
theorem dX0_makeRaw_47 : decode cX0_makeRaw 47 = .ok (.getfield 50, 3) := by decide +kernel
theorem dX0_makeRaw_50 : decode cX0_makeRaw 50 = .ok (.iload_n 2, 1) := by decide +kernel
theorem dX0_makeRaw_51 : decode cX0_makeRaw 51 = .ok (.iaload, 1) := by decide +kernel
theorem dX0_makeRaw_52 : decode cX0_makeRaw 52 = .ok (.iastore, 1) := by decide +kernel
theorem dX0_makeRaw_53 : decode cX0_makeRaw 53 = .ok (.iinc 2 1, 3) := by decide +kernel
theorem dX0_makeRaw_56 : decode cX0_makeRaw 56 = .ok (.goto (-30), 3) := by decide +kernel
theorem dX0_makeRaw_59 : decode cX0_makeRaw 59 = .ok (.return_, 1) := by decide +kernel
theorem dX0_stageLength_0 : decode cX0_stageLength 0 = .ok (.aload_n 0, 1) := by decide +kernel
theorem dX0_stageLength_1 : decode cX0_stageLength 1 = .ok (.getfield 62, 3) := by decide +kernel
theorem dX0_stageLength_4 : decode cX0_stageLength 4 = .ok (.ireturn, 1) := by decide +kernel
theorem dX0_stageByte_0 : decode cX0_stageByte 0 = .ok (.iload_n 1, 1) := by decide +kernel
theorem dX0_stageByte_1 : decode cX0_stageByte 1 = .ok (.ifCond .lt 11, 3) := by decide +kernel
theorem dX0_stageByte_4 : decode cX0_stageByte 4 = .ok (.iload_n 1, 1) := by decide +kernel
theorem dX0_stageByte_5 : decode cX0_stageByte 5 = .ok (.aload_n 0, 1) := by decide +kernel
theorem dX0_stageByte_6 : decode cX0_stageByte 6 = .ok (.getfield 62, 3) := by decide +kernel
theorem dX0_stageByte_9 : decode cX0_stageByte 9 = .ok (.if_icmp .lt 6, 3) := by decide +kernel
theorem dX0_stageByte_12 : decode cX0_stageByte 12 = .ok (.bipush (-5), 2) := by decide +kernel
theorem dX0_stageByte_14 : decode cX0_stageByte 14 = .ok (.ireturn, 1) := by decide +kernel
theorem dX0_stageByte_15 : decode cX0_stageByte 15 = .ok (.aload_n 0, 1) := by decide +kernel
theorem dX0_stageByte_16 : decode cX0_stageByte 16 = .ok (.getfield 7, 3) := by decide +kernel
theorem dX0_stageByte_19 : decode cX0_stageByte 19 = .ok (.iload_n 1, 1) := by decide +kernel
theorem dX0_stageByte_20 : decode cX0_stageByte 20 = .ok (.iaload, 1) := by decide +kernel
theorem dX0_stageByte_21 : decode cX0_stageByte 21 = .ok (.ireturn, 1) := by decide +kernel
theorem dX0_byteAt_0 : decode cX0_byteAt 0 = .ok (.aload_n 0, 1) := by decide +kernel
theorem dX0_byteAt_1 : decode cX0_byteAt 1 = .ok (.iload_n 1, 1) := by decide +kernel
theorem dX0_byteAt_2 : decode cX0_byteAt 2 = .ok (.invokevirtual 70, 3) := by decide +kernel
theorem dX0_byteAt_5 : decode cX0_byteAt 5 = .ok (.istore_n 3, 1) := by decide +kernel
theorem dX0_byteAt_6 : decode cX0_byteAt 6 = .ok (.iload_n 3, 1) := by decide +kernel
theorem dX0_byteAt_7 : decode cX0_byteAt 7 = .ok (.ifCond .ge 5, 3) := by decide +kernel
theorem dX0_byteAt_10 : decode cX0_byteAt 10 = .ok (.iload_n 3, 1) := by decide +kernel
theorem dX0_byteAt_11 : decode cX0_byteAt 11 = .ok (.ireturn, 1) := by decide +kernel
theorem dX0_byteAt_12 : decode cX0_byteAt 12 = .ok (.iload_n 2, 1) := by decide +kernel
theorem dX0_byteAt_13 : decode cX0_byteAt 13 = .ok (.ifCond .lt 8, 3) := by decide +kernel
theorem dX0_byteAt_16 : decode cX0_byteAt 16 = .ok (.iload_n 2, 1) := by decide +kernel
theorem dX0_byteAt_17 : decode cX0_byteAt 17 = .ok (.iload_n 3, 1) := by decide +kernel
theorem dX0_byteAt_18 : decode cX0_byteAt 18 = .ok (.if_icmp .lt 6, 3) := by decide +kernel
theorem dX0_byteAt_21 : decode cX0_byteAt 21 = .ok (.bipush (-5), 2) := by decide +kernel
theorem dX0_byteAt_23 : decode cX0_byteAt 23 = .ok (.ireturn, 1) := by decide +kernel
theorem dX0_byteAt_24 : decode cX0_byteAt 24 = .ok (.aload_n 0, 1) := by decide +kernel
theorem dX0_byteAt_25 : decode cX0_byteAt 25 = .ok (.iload_n 1, 1) := by decide +kernel
theorem dX0_byteAt_26 : decode cX0_byteAt 26 = .ok (.iload_n 2, 1) := by decide +kernel
theorem dX0_byteAt_27 : decode cX0_byteAt 27 = .ok (.invokevirtual 73, 3) := by decide +kernel
theorem dX0_byteAt_30 : decode cX0_byteAt 30 = .ok (.ireturn, 1) := by decide +kernel
theorem dX0_sum_0 : decode cX0_sum 0 = .ok (.iload_n 1, 1) := by decide +kernel
theorem dX0_sum_1 : decode cX0_sum 1 = .ok (.invokestatic 77, 3) := by decide +kernel
theorem dX0_sum_4 : decode cX0_sum 4 = .ok (.ifCond .ne 12, 3) := by decide +kernel
theorem dX0_sum_7 : decode cX0_sum 7 = .ok (.aload_n 0, 1) := by decide +kernel
theorem dX0_sum_8 : decode cX0_sum 8 = .ok (.getfield 13, 3) := by decide +kernel
theorem dX0_sum_11 : decode cX0_sum 11 = .ok (.iload_n 1, 1) := by decide +kernel
theorem dX0_sum_12 : decode cX0_sum 12 = .ok (.baload, 1) := by decide +kernel
theorem dX0_sum_13 : decode cX0_sum 13 = .ok (.ifCond .ne 5, 3) := by decide +kernel
theorem dX0_sum_16 : decode cX0_sum 16 = .ok (.iconst 0, 1) := by decide +kernel
theorem dX0_sum_17 : decode cX0_sum 17 = .ok (.ireturn, 1) := by decide +kernel
theorem dX0_sum_18 : decode cX0_sum 18 = .ok (.bipush 7, 2) := by decide +kernel
theorem dX0_sum_20 : decode cX0_sum 20 = .ok (.istore_n 2, 1) := by decide +kernel
theorem dX0_sum_21 : decode cX0_sum 21 = .ok (.iconst 0, 1) := by decide +kernel
theorem dX0_sum_22 : decode cX0_sum 22 = .ok (.istore_n 3, 1) := by decide +kernel
theorem dX0_sum_23 : decode cX0_sum 23 = .ok (.iload_n 3, 1) := by decide +kernel
theorem dX0_sum_24 : decode cX0_sum 24 = .ok (.aload_n 0, 1) := by decide +kernel
theorem dX0_sum_25 : decode cX0_sum 25 = .ok (.getfield 17, 3) := by decide +kernel
theorem dX0_sum_28 : decode cX0_sum 28 = .ok (.iload_n 1, 1) := by decide +kernel
theorem dX0_sum_29 : decode cX0_sum 29 = .ok (.iaload, 1) := by decide +kernel
theorem dX0_sum_30 : decode cX0_sum 30 = .ok (.if_icmp .ge 63, 3) := by decide +kernel
theorem dX0_sum_33 : decode cX0_sum 33 = .ok (.aload_n 0, 1) := by decide +kernel
theorem dX0_sum_34 : decode cX0_sum 34 = .ok (.getfield 20, 3) := by decide +kernel
theorem dX0_sum_37 : decode cX0_sum 37 = .ok (.iload_n 1, 1) := by decide +kernel
theorem dX0_sum_38 : decode cX0_sum 38 = .ok (.bipush 16, 2) := by decide +kernel
theorem dX0_sum_40 : decode cX0_sum 40 = .ok (.imul, 1) := by decide +kernel
theorem dX0_sum_41 : decode cX0_sum 41 = .ok (.iload_n 3, 1) := by decide +kernel
theorem dX0_sum_42 : decode cX0_sum 42 = .ok (.iadd, 1) := by decide +kernel
theorem dX0_sum_43 : decode cX0_sum 43 = .ok (.iaload, 1) := by decide +kernel
theorem dX0_sum_44 : decode cX0_sum 44 = .ok (.istore 4, 2) := by decide +kernel
theorem dX0_sum_46 : decode cX0_sum 46 = .ok (.aload_n 0, 1) := by decide +kernel
theorem dX0_sum_47 : decode cX0_sum 47 = .ok (.iload 4, 2) := by decide +kernel
theorem dX0_sum_49 : decode cX0_sum 49 = .ok (.invokevirtual 103, 3) := by decide +kernel
theorem dX0_sum_52 : decode cX0_sum 52 = .ok (.iconst 0, 1) := by decide +kernel
theorem dX0_sum_53 : decode cX0_sum 53 = .ok (.istore 5, 2) := by decide +kernel
theorem dX0_sum_55 : decode cX0_sum 55 = .ok (.iload 5, 2) := by decide +kernel
theorem dX0_sum_57 : decode cX0_sum 57 = .ok (.aload_n 0, 1) := by decide +kernel
theorem dX0_sum_58 : decode cX0_sum 58 = .ok (.getfield 26, 3) := by decide +kernel
theorem dX0_sum_61 : decode cX0_sum 61 = .ok (.iload 4, 2) := by decide +kernel
theorem dX0_sum_63 : decode cX0_sum 63 = .ok (.iaload, 1) := by decide +kernel
theorem dX0_sum_64 : decode cX0_sum 64 = .ok (.if_icmp .ge 23, 3) := by decide +kernel
theorem dX0_sum_67 : decode cX0_sum 67 = .ok (.iload_n 2, 1) := by decide +kernel
theorem dX0_sum_68 : decode cX0_sum 68 = .ok (.sipush 131, 3) := by decide +kernel
theorem dX0_sum_71 : decode cX0_sum 71 = .ok (.imul, 1) := by decide +kernel
theorem dX0_sum_72 : decode cX0_sum 72 = .ok (.aload_n 0, 1) := by decide +kernel
theorem dX0_sum_73 : decode cX0_sum 73 = .ok (.getfield 50, 3) := by decide +kernel
theorem dX0_sum_76 : decode cX0_sum 76 = .ok (.iload 5, 2) := by decide +kernel
theorem dX0_sum_78 : decode cX0_sum 78 = .ok (.iaload, 1) := by decide +kernel
theorem dX0_sum_79 : decode cX0_sum 79 = .ok (.iadd, 1) := by decide +kernel
theorem dX0_sum_80 : decode cX0_sum 80 = .ok (.istore_n 2, 1) := by decide +kernel
theorem dX0_sum_81 : decode cX0_sum 81 = .ok (.iinc 5 1, 3) := by decide +kernel
theorem dX0_sum_84 : decode cX0_sum 84 = .ok (.goto (-29), 3) := by decide +kernel
theorem dX0_sum_87 : decode cX0_sum 87 = .ok (.iinc 3 1, 3) := by decide +kernel
theorem dX0_sum_90 : decode cX0_sum 90 = .ok (.goto (-67), 3) := by decide +kernel
theorem dX0_sum_93 : decode cX0_sum 93 = .ok (.iload_n 2, 1) := by decide +kernel
theorem dX0_sum_94 : decode cX0_sum 94 = .ok (.ireturn, 1) := by decide +kernel
theorem dX0_commonStart_0 : decode cX0_commonStart 0 = .ok (.iload_n 1, 1) := by decide +kernel
theorem dX0_commonStart_1 : decode cX0_commonStart 1 = .ok (.invokestatic 77, 3) := by decide +kernel
theorem dX0_commonStart_4 : decode cX0_commonStart 4 = .ok (.ifCond .ne 10, 3) := by decide +kernel
theorem dX0_commonStart_7 : decode cX0_commonStart 7 = .ok (.iload_n 2, 1) := by decide +kernel
theorem dX0_commonStart_8 : decode cX0_commonStart 8 = .ok (.invokestatic 77, 3) := by decide +kernel
theorem dX0_commonStart_11 : decode cX0_commonStart 11 = .ok (.ifCond .eq 6, 3) := by decide +kernel
theorem dX0_commonStart_14 : decode cX0_commonStart 14 = .ok (.bipush (-2), 2) := by decide +kernel
theorem dX0_commonStart_16 : decode cX0_commonStart 16 = .ok (.ireturn, 1) := by decide +kernel
theorem dX0_commonStart_17 : decode cX0_commonStart 17 = .ok (.aload_n 0, 1) := by decide +kernel
theorem dX0_commonStart_18 : decode cX0_commonStart 18 = .ok (.getfield 13, 3) := by decide +kernel
theorem dX0_commonStart_21 : decode cX0_commonStart 21 = .ok (.iload_n 1, 1) := by decide +kernel
theorem dX0_commonStart_22 : decode cX0_commonStart 22 = .ok (.baload, 1) := by decide +kernel
theorem dX0_commonStart_23 : decode cX0_commonStart 23 = .ok (.ifCond .eq 12, 3) := by decide +kernel
theorem dX0_commonStart_26 : decode cX0_commonStart 26 = .ok (.aload_n 0, 1) := by decide +kernel
theorem dX0_commonStart_27 : decode cX0_commonStart 27 = .ok (.getfield 13, 3) := by decide +kernel
theorem dX0_commonStart_30 : decode cX0_commonStart 30 = .ok (.iload_n 2, 1) := by decide +kernel
theorem dX0_commonStart_31 : decode cX0_commonStart 31 = .ok (.baload, 1) := by decide +kernel
theorem dX0_commonStart_32 : decode cX0_commonStart 32 = .ok (.ifCond .ne 6, 3) := by decide +kernel
theorem dX0_commonStart_35 : decode cX0_commonStart 35 = .ok (.bipush (-4), 2) := by decide +kernel
theorem dX0_commonStart_37 : decode cX0_commonStart 37 = .ok (.ireturn, 1) := by decide +kernel
theorem dX0_commonStart_38 : decode cX0_commonStart 38 = .ok (.iconst 0, 1) := by decide +kernel
theorem dX0_commonStart_39 : decode cX0_commonStart 39 = .ok (.istore_n 3, 1) := by decide +kernel
theorem dX0_commonStart_40 : decode cX0_commonStart 40 = .ok (.iconst 0, 1) := by decide +kernel
theorem dX0_commonStart_41 : decode cX0_commonStart 41 = .ok (.istore 4, 2) := by decide +kernel
theorem dX0_commonStart_43 : decode cX0_commonStart 43 = .ok (.iload 4, 2) := by decide +kernel
theorem dX0_commonStart_45 : decode cX0_commonStart 45 = .ok (.aload_n 0, 1) := by decide +kernel
theorem dX0_commonStart_46 : decode cX0_commonStart 46 = .ok (.getfield 17, 3) := by decide +kernel
theorem dX0_commonStart_49 : decode cX0_commonStart 49 = .ok (.iload_n 1, 1) := by decide +kernel
theorem dX0_commonStart_50 : decode cX0_commonStart 50 = .ok (.iaload, 1) := by decide +kernel
theorem dX0_commonStart_51 : decode cX0_commonStart 51 = .ok (.if_icmp .ge 67, 3) := by decide +kernel
theorem dX0_commonStart_54 : decode cX0_commonStart 54 = .ok (.iload 4, 2) := by decide +kernel
theorem dX0_commonStart_56 : decode cX0_commonStart 56 = .ok (.aload_n 0, 1) := by decide +kernel
theorem dX0_commonStart_57 : decode cX0_commonStart 57 = .ok (.getfield 17, 3) := by decide +kernel
theorem dX0_commonStart_60 : decode cX0_commonStart 60 = .ok (.iload_n 2, 1) := by decide +kernel
theorem dX0_commonStart_61 : decode cX0_commonStart 61 = .ok (.iaload, 1) := by decide +kernel
theorem dX0_commonStart_62 : decode cX0_commonStart 62 = .ok (.if_icmp .ge 56, 3) := by decide +kernel
theorem dX0_commonStart_65 : decode cX0_commonStart 65 = .ok (.aload_n 0, 1) := by decide +kernel
theorem dX0_commonStart_66 : decode cX0_commonStart 66 = .ok (.getfield 20, 3) := by decide +kernel
theorem dX0_commonStart_69 : decode cX0_commonStart 69 = .ok (.iload_n 1, 1) := by decide +kernel
theorem dX0_commonStart_70 : decode cX0_commonStart 70 = .ok (.bipush 16, 2) := by decide +kernel
theorem dX0_commonStart_72 : decode cX0_commonStart 72 = .ok (.imul, 1) := by decide +kernel
theorem dX0_commonStart_73 : decode cX0_commonStart 73 = .ok (.iload 4, 2) := by decide +kernel
theorem dX0_commonStart_75 : decode cX0_commonStart 75 = .ok (.iadd, 1) := by decide +kernel
theorem dX0_commonStart_76 : decode cX0_commonStart 76 = .ok (.iaload, 1) := by decide +kernel
theorem dX0_commonStart_77 : decode cX0_commonStart 77 = .ok (.aload_n 0, 1) := by decide +kernel
end
section
set_option maxRecDepth 100000
theorem dX0_commonStart_78 : decode cX0_commonStart 78 = .ok (.getfield 20, 3) := by decide +kernel
theorem dX0_commonStart_81 : decode cX0_commonStart 81 = .ok (.iload_n 2, 1) := by decide +kernel
theorem dX0_commonStart_82 : decode cX0_commonStart 82 = .ok (.bipush 16, 2) := by decide +kernel
theorem dX0_commonStart_84 : decode cX0_commonStart 84 = .ok (.imul, 1) := by decide +kernel
theorem dX0_commonStart_85 : decode cX0_commonStart 85 = .ok (.iload 4, 2) := by decide +kernel
theorem dX0_commonStart_87 : decode cX0_commonStart 87 = .ok (.iadd, 1) := by decide +kernel
theorem dX0_commonStart_88 : decode cX0_commonStart 88 = .ok (.iaload, 1) := by decide +kernel
theorem dX0_commonStart_89 : decode cX0_commonStart 89 = .ok (.if_icmp .ne 29, 3) := by decide +kernel
theorem dX0_commonStart_92 : decode cX0_commonStart 92 = .ok (.iload_n 3, 1) := by decide +kernel
theorem dX0_commonStart_93 : decode cX0_commonStart 93 = .ok (.aload_n 0, 1) := by decide +kernel
theorem dX0_commonStart_94 : decode cX0_commonStart 94 = .ok (.getfield 26, 3) := by decide +kernel
theorem dX0_commonStart_97 : decode cX0_commonStart 97 = .ok (.aload_n 0, 1) := by decide +kernel
theorem dX0_commonStart_98 : decode cX0_commonStart 98 = .ok (.getfield 20, 3) := by decide +kernel
theorem dX0_commonStart_101 : decode cX0_commonStart 101 = .ok (.iload_n 1, 1) := by decide +kernel
theorem dX0_commonStart_102 : decode cX0_commonStart 102 = .ok (.bipush 16, 2) := by decide +kernel
theorem dX0_commonStart_104 : decode cX0_commonStart 104 = .ok (.imul, 1) := by decide +kernel
theorem dX0_commonStart_105 : decode cX0_commonStart 105 = .ok (.iload 4, 2) := by decide +kernel
theorem dX0_commonStart_107 : decode cX0_commonStart 107 = .ok (.iadd, 1) := by decide +kernel
theorem dX0_commonStart_108 : decode cX0_commonStart 108 = .ok (.iaload, 1) := by decide +kernel
theorem dX0_commonStart_109 : decode cX0_commonStart 109 = .ok (.iaload, 1) := by decide +kernel
theorem dX0_commonStart_110 : decode cX0_commonStart 110 = .ok (.iadd, 1) := by decide +kernel
theorem dX0_commonStart_111 : decode cX0_commonStart 111 = .ok (.istore_n 3, 1) := by decide +kernel
theorem dX0_commonStart_112 : decode cX0_commonStart 112 = .ok (.iinc 4 1, 3) := by decide +kernel
theorem dX0_commonStart_115 : decode cX0_commonStart 115 = .ok (.goto (-72), 3) := by decide +kernel
theorem dX0_commonStart_118 : decode cX0_commonStart 118 = .ok (.aload_n 0, 1) := by decide +kernel
theorem dX0_commonStart_119 : decode cX0_commonStart 119 = .ok (.iload_n 1, 1) := by decide +kernel
theorem dX0_commonStart_120 : decode cX0_commonStart 120 = .ok (.invokevirtual 70, 3) := by decide +kernel
theorem dX0_commonStart_123 : decode cX0_commonStart 123 = .ok (.istore 5, 2) := by decide +kernel
theorem dX0_commonStart_125 : decode cX0_commonStart 125 = .ok (.aload_n 0, 1) := by decide +kernel
theorem dX0_commonStart_126 : decode cX0_commonStart 126 = .ok (.iload_n 2, 1) := by decide +kernel
theorem dX0_commonStart_127 : decode cX0_commonStart 127 = .ok (.invokevirtual 70, 3) := by decide +kernel
theorem dX0_commonStart_130 : decode cX0_commonStart 130 = .ok (.istore 6, 2) := by decide +kernel
theorem dX0_commonStart_132 : decode cX0_commonStart 132 = .ok (.iload 5, 2) := by decide +kernel
theorem dX0_commonStart_134 : decode cX0_commonStart 134 = .ok (.iload 6, 2) := by decide +kernel
theorem dX0_commonStart_136 : decode cX0_commonStart 136 = .ok (.if_icmp .ge 8, 3) := by decide +kernel
theorem dX0_commonStart_139 : decode cX0_commonStart 139 = .ok (.iload 5, 2) := by decide +kernel
theorem dX0_commonStart_141 : decode cX0_commonStart 141 = .ok (.goto 5, 3) := by decide +kernel
theorem dX0_commonStart_144 : decode cX0_commonStart 144 = .ok (.iload 6, 2) := by decide +kernel
theorem dX0_commonStart_146 : decode cX0_commonStart 146 = .ok (.istore 7, 2) := by decide +kernel
theorem dX0_commonStart_148 : decode cX0_commonStart 148 = .ok (.iload_n 3, 1) := by decide +kernel
theorem dX0_commonStart_149 : decode cX0_commonStart 149 = .ok (.istore 8, 2) := by decide +kernel
theorem dX0_commonStart_151 : decode cX0_commonStart 151 = .ok (.iload 8, 2) := by decide +kernel
theorem dX0_commonStart_153 : decode cX0_commonStart 153 = .ok (.iload 7, 2) := by decide +kernel
theorem dX0_commonStart_155 : decode cX0_commonStart 155 = .ok (.if_icmp .ge 37, 3) := by decide +kernel
theorem dX0_commonStart_158 : decode cX0_commonStart 158 = .ok (.aload_n 0, 1) := by decide +kernel
theorem dX0_commonStart_159 : decode cX0_commonStart 159 = .ok (.iload_n 1, 1) := by decide +kernel
theorem dX0_commonStart_160 : decode cX0_commonStart 160 = .ok (.iload 8, 2) := by decide +kernel
theorem dX0_commonStart_162 : decode cX0_commonStart 162 = .ok (.invokevirtual 73, 3) := by decide +kernel
theorem dX0_commonStart_165 : decode cX0_commonStart 165 = .ok (.istore 9, 2) := by decide +kernel
theorem dX0_commonStart_167 : decode cX0_commonStart 167 = .ok (.aload_n 0, 1) := by decide +kernel
theorem dX0_commonStart_168 : decode cX0_commonStart 168 = .ok (.iload_n 2, 1) := by decide +kernel
theorem dX0_commonStart_169 : decode cX0_commonStart 169 = .ok (.iload 8, 2) := by decide +kernel
theorem dX0_commonStart_171 : decode cX0_commonStart 171 = .ok (.invokevirtual 73, 3) := by decide +kernel
theorem dX0_commonStart_174 : decode cX0_commonStart 174 = .ok (.istore 10, 2) := by decide +kernel
theorem dX0_commonStart_176 : decode cX0_commonStart 176 = .ok (.iload 9, 2) := by decide +kernel
theorem dX0_commonStart_178 : decode cX0_commonStart 178 = .ok (.iload 10, 2) := by decide +kernel
theorem dX0_commonStart_180 : decode cX0_commonStart 180 = .ok (.if_icmp .eq 6, 3) := by decide +kernel
theorem dX0_commonStart_183 : decode cX0_commonStart 183 = .ok (.iload 8, 2) := by decide +kernel
theorem dX0_commonStart_185 : decode cX0_commonStart 185 = .ok (.ireturn, 1) := by decide +kernel
theorem dX0_commonStart_186 : decode cX0_commonStart 186 = .ok (.iinc 8 1, 3) := by decide +kernel
theorem dX0_commonStart_189 : decode cX0_commonStart 189 = .ok (.goto (-38), 3) := by decide +kernel
theorem dX0_commonStart_192 : decode cX0_commonStart 192 = .ok (.iload 7, 2) := by decide +kernel
theorem dX0_commonStart_194 : decode cX0_commonStart 194 = .ok (.ireturn, 1) := by decide +kernel
theorem dX1_init_0 : decode cX1_init 0 = .ok (.aload_n 0, 1) := by decide +kernel
theorem dX1_init_1 : decode cX1_init 1 = .ok (.invokespecial 1, 3) := by decide +kernel
theorem dX1_init_4 : decode cX1_init 4 = .ok (.aload_n 0, 1) := by decide +kernel
theorem dX1_init_5 : decode cX1_init 5 = .ok (.bipush 96, 2) := by decide +kernel
theorem dX1_init_7 : decode cX1_init 7 = .ok (.newarray .int, 2) := by decide +kernel
theorem dX1_init_9 : decode cX1_init 9 = .ok (.putfield 7, 3) := by decide +kernel
theorem dX1_init_12 : decode cX1_init 12 = .ok (.aload_n 0, 1) := by decide +kernel
theorem dX1_init_13 : decode cX1_init 13 = .ok (.bipush 6, 2) := by decide +kernel
theorem dX1_init_15 : decode cX1_init 15 = .ok (.newarray .boolean, 2) := by decide +kernel
theorem dX1_init_17 : decode cX1_init 17 = .ok (.putfield 13, 3) := by decide +kernel
theorem dX1_init_20 : decode cX1_init 20 = .ok (.aload_n 0, 1) := by decide +kernel
theorem dX1_init_21 : decode cX1_init 21 = .ok (.bipush 6, 2) := by decide +kernel
theorem dX1_init_23 : decode cX1_init 23 = .ok (.newarray .int, 2) := by decide +kernel
theorem dX1_init_25 : decode cX1_init 25 = .ok (.putfield 17, 3) := by decide +kernel
theorem dX1_init_28 : decode cX1_init 28 = .ok (.aload_n 0, 1) := by decide +kernel
theorem dX1_init_29 : decode cX1_init 29 = .ok (.sipush 576, 3) := by decide +kernel
theorem dX1_init_32 : decode cX1_init 32 = .ok (.newarray .int, 2) := by decide +kernel
theorem dX1_init_34 : decode cX1_init 34 = .ok (.putfield 20, 3) := by decide +kernel
theorem dX1_init_37 : decode cX1_init 37 = .ok (.return_, 1) := by decide +kernel
theorem dX1_begin_0 : decode cX1_begin 0 = .ok (.aload_n 0, 1) := by decide +kernel
theorem dX1_begin_1 : decode cX1_begin 1 = .ok (.iconst 0, 1) := by decide +kernel
theorem dX1_begin_2 : decode cX1_begin 2 = .ok (.putfield 23, 3) := by decide +kernel
theorem dX1_begin_5 : decode cX1_begin 5 = .ok (.return_, 1) := by decide +kernel
theorem dX1_feed_0 : decode cX1_feed 0 = .ok (.aload_n 0, 1) := by decide +kernel
theorem dX1_feed_1 : decode cX1_feed 1 = .ok (.iload_n 1, 1) := by decide +kernel
theorem dX1_feed_2 : decode cX1_feed 2 = .ok (.iconst 0, 1) := by decide +kernel
theorem dX1_feed_3 : decode cX1_feed 3 = .ok (.iconst 1, 1) := by decide +kernel
theorem dX1_feed_4 : decode cX1_feed 4 = .ok (.invokevirtual 27, 3) := by decide +kernel
theorem dX1_feed_7 : decode cX1_feed 7 = .ok (.ireturn, 1) := by decide +kernel
theorem dX1_feedRun_0 : decode cX1_feedRun 0 = .ok (.iload_n 3, 1) := by decide +kernel
theorem dX1_feedRun_1 : decode cX1_feedRun 1 = .ok (.bipush 96, 2) := by decide +kernel
theorem dX1_feedRun_3 : decode cX1_feedRun 3 = .ok (.aload_n 0, 1) := by decide +kernel
theorem dX1_feedRun_4 : decode cX1_feedRun 4 = .ok (.getfield 23, 3) := by decide +kernel
theorem dX1_feedRun_7 : decode cX1_feedRun 7 = .ok (.isub, 1) := by decide +kernel
theorem dX1_feedRun_8 : decode cX1_feedRun 8 = .ok (.if_icmp .le 5, 3) := by decide +kernel
theorem dX1_feedRun_11 : decode cX1_feedRun 11 = .ok (.iconst (-1), 1) := by decide +kernel
theorem dX1_feedRun_12 : decode cX1_feedRun 12 = .ok (.ireturn, 1) := by decide +kernel
theorem dX1_feedRun_13 : decode cX1_feedRun 13 = .ok (.iconst 0, 1) := by decide +kernel
theorem dX1_feedRun_14 : decode cX1_feedRun 14 = .ok (.istore 4, 2) := by decide +kernel
theorem dX1_feedRun_16 : decode cX1_feedRun 16 = .ok (.iload 4, 2) := by decide +kernel
theorem dX1_feedRun_18 : decode cX1_feedRun 18 = .ok (.iload_n 3, 1) := by decide +kernel
theorem dX1_feedRun_19 : decode cX1_feedRun 19 = .ok (.if_icmp .ge 31, 3) := by decide +kernel
theorem dX1_feedRun_22 : decode cX1_feedRun 22 = .ok (.aload_n 0, 1) := by decide +kernel
theorem dX1_feedRun_23 : decode cX1_feedRun 23 = .ok (.getfield 7, 3) := by decide +kernel
theorem dX1_feedRun_26 : decode cX1_feedRun 26 = .ok (.aload_n 0, 1) := by decide +kernel
theorem dX1_feedRun_27 : decode cX1_feedRun 27 = .ok (.getfield 23, 3) := by decide +kernel
theorem dX1_feedRun_30 : decode cX1_feedRun 30 = .ok (.iload 4, 2) := by decide +kernel
theorem dX1_feedRun_32 : decode cX1_feedRun 32 = .ok (.iadd, 1) := by decide +kernel
theorem dX1_feedRun_33 : decode cX1_feedRun 33 = .ok (.iload_n 1, 1) := by decide +kernel
theorem dX1_feedRun_34 : decode cX1_feedRun 34 = .ok (.iload 4, 2) := by decide +kernel
theorem dX1_feedRun_36 : decode cX1_feedRun 36 = .ok (.iload_n 2, 1) := by decide +kernel
theorem dX1_feedRun_37 : decode cX1_feedRun 37 = .ok (.imul, 1) := by decide +kernel
theorem dX1_feedRun_38 : decode cX1_feedRun 38 = .ok (.iadd, 1) := by decide +kernel
theorem dX1_feedRun_39 : decode cX1_feedRun 39 = .ok (.sipush 255, 3) := by decide +kernel
theorem dX1_feedRun_42 : decode cX1_feedRun 42 = .ok (.iand, 1) := by decide +kernel
theorem dX1_feedRun_43 : decode cX1_feedRun 43 = .ok (.iastore, 1) := by decide +kernel
theorem dX1_feedRun_44 : decode cX1_feedRun 44 = .ok (.iinc 4 1, 3) := by decide +kernel
theorem dX1_feedRun_47 : decode cX1_feedRun 47 = .ok (.goto (-31), 3) := by decide +kernel
theorem dX1_feedRun_50 : decode cX1_feedRun 50 = .ok (.iload_n 3, 1) := by decide +kernel
theorem dX1_feedRun_51 : decode cX1_feedRun 51 = .ok (.ifCond .le 13, 3) := by decide +kernel
theorem dX1_feedRun_54 : decode cX1_feedRun 54 = .ok (.aload_n 0, 1) := by decide +kernel
theorem dX1_feedRun_55 : decode cX1_feedRun 55 = .ok (.aload_n 0, 1) := by decide +kernel
theorem dX1_feedRun_56 : decode cX1_feedRun 56 = .ok (.getfield 23, 3) := by decide +kernel
theorem dX1_feedRun_59 : decode cX1_feedRun 59 = .ok (.iload_n 3, 1) := by decide +kernel
theorem dX1_feedRun_60 : decode cX1_feedRun 60 = .ok (.iadd, 1) := by decide +kernel
theorem dX1_feedRun_61 : decode cX1_feedRun 61 = .ok (.putfield 23, 3) := by decide +kernel
theorem dX1_feedRun_64 : decode cX1_feedRun 64 = .ok (.aload_n 0, 1) := by decide +kernel
theorem dX1_feedRun_65 : decode cX1_feedRun 65 = .ok (.getfield 23, 3) := by decide +kernel
theorem dX1_feedRun_68 : decode cX1_feedRun 68 = .ok (.ireturn, 1) := by decide +kernel
theorem dX1_feedFrom_0 : decode cX1_feedFrom 0 = .ok (.aload_n 0, 1) := by decide +kernel
theorem dX1_feedFrom_1 : decode cX1_feedFrom 1 = .ok (.iload_n 1, 1) := by decide +kernel
theorem dX1_feedFrom_2 : decode cX1_feedFrom 2 = .ok (.invokevirtual 31, 3) := by decide +kernel
theorem dX1_feedFrom_5 : decode cX1_feedFrom 5 = .ok (.istore 4, 2) := by decide +kernel
theorem dX1_feedFrom_7 : decode cX1_feedFrom 7 = .ok (.iload 4, 2) := by decide +kernel
theorem dX1_feedFrom_9 : decode cX1_feedFrom 9 = .ok (.ifCond .eq 6, 3) := by decide +kernel
theorem dX1_feedFrom_12 : decode cX1_feedFrom 12 = .ok (.iload 4, 2) := by decide +kernel
theorem dX1_feedFrom_14 : decode cX1_feedFrom 14 = .ok (.ireturn, 1) := by decide +kernel
theorem dX1_feedFrom_15 : decode cX1_feedFrom 15 = .ok (.iload_n 2, 1) := by decide +kernel
theorem dX1_feedFrom_16 : decode cX1_feedFrom 16 = .ok (.ifCond .lt 29, 3) := by decide +kernel
theorem dX1_feedFrom_19 : decode cX1_feedFrom 19 = .ok (.iload_n 3, 1) := by decide +kernel
theorem dX1_feedFrom_20 : decode cX1_feedFrom 20 = .ok (.ifCond .lt 25, 3) := by decide +kernel
theorem dX1_feedFrom_23 : decode cX1_feedFrom 23 = .ok (.iload_n 2, 1) := by decide +kernel
theorem dX1_feedFrom_24 : decode cX1_feedFrom 24 = .ok (.aload_n 0, 1) := by decide +kernel
theorem dX1_feedFrom_25 : decode cX1_feedFrom 25 = .ok (.getfield 17, 3) := by decide +kernel
theorem dX1_feedFrom_28 : decode cX1_feedFrom 28 = .ok (.iload_n 1, 1) := by decide +kernel
theorem dX1_feedFrom_29 : decode cX1_feedFrom 29 = .ok (.iaload, 1) := by decide +kernel
theorem dX1_feedFrom_30 : decode cX1_feedFrom 30 = .ok (.if_icmp .gt 15, 3) := by decide +kernel
theorem dX1_feedFrom_33 : decode cX1_feedFrom 33 = .ok (.iload_n 3, 1) := by decide +kernel
theorem dX1_feedFrom_34 : decode cX1_feedFrom 34 = .ok (.aload_n 0, 1) := by decide +kernel
theorem dX1_feedFrom_35 : decode cX1_feedFrom 35 = .ok (.getfield 17, 3) := by decide +kernel
theorem dX1_feedFrom_38 : decode cX1_feedFrom 38 = .ok (.iload_n 1, 1) := by decide +kernel
theorem dX1_feedFrom_39 : decode cX1_feedFrom 39 = .ok (.iaload, 1) := by decide +kernel
theorem dX1_feedFrom_40 : decode cX1_feedFrom 40 = .ok (.iload_n 2, 1) := by decide +kernel
theorem dX1_feedFrom_41 : decode cX1_feedFrom 41 = .ok (.isub, 1) := by decide +kernel
theorem dX1_feedFrom_42 : decode cX1_feedFrom 42 = .ok (.if_icmp .le 6, 3) := by decide +kernel
theorem dX1_feedFrom_45 : decode cX1_feedFrom 45 = .ok (.bipush (-5), 2) := by decide +kernel
theorem dX1_feedFrom_47 : decode cX1_feedFrom 47 = .ok (.ireturn, 1) := by decide +kernel
theorem dX1_feedFrom_48 : decode cX1_feedFrom 48 = .ok (.iload_n 3, 1) := by decide +kernel
theorem dX1_feedFrom_49 : decode cX1_feedFrom 49 = .ok (.bipush 96, 2) := by decide +kernel
theorem dX1_feedFrom_51 : decode cX1_feedFrom 51 = .ok (.aload_n 0, 1) := by decide +kernel
theorem dX1_feedFrom_52 : decode cX1_feedFrom 52 = .ok (.getfield 23, 3) := by decide +kernel
theorem dX1_feedFrom_55 : decode cX1_feedFrom 55 = .ok (.isub, 1) := by decide +kernel
theorem dX1_feedFrom_56 : decode cX1_feedFrom 56 = .ok (.if_icmp .le 5, 3) := by decide +kernel
theorem dX1_feedFrom_59 : decode cX1_feedFrom 59 = .ok (.iconst (-1), 1) := by decide +kernel
theorem dX1_feedFrom_60 : decode cX1_feedFrom 60 = .ok (.ireturn, 1) := by decide +kernel
theorem dX1_feedFrom_61 : decode cX1_feedFrom 61 = .ok (.iconst 0, 1) := by decide +kernel
theorem dX1_feedFrom_62 : decode cX1_feedFrom 62 = .ok (.istore 5, 2) := by decide +kernel
theorem dX1_feedFrom_64 : decode cX1_feedFrom 64 = .ok (.iload 5, 2) := by decide +kernel
theorem dX1_feedFrom_66 : decode cX1_feedFrom 66 = .ok (.iload_n 3, 1) := by decide +kernel
theorem dX1_feedFrom_67 : decode cX1_feedFrom 67 = .ok (.if_icmp .ge 35, 3) := by decide +kernel
theorem dX1_feedFrom_70 : decode cX1_feedFrom 70 = .ok (.aload_n 0, 1) := by decide +kernel
theorem dX1_feedFrom_71 : decode cX1_feedFrom 71 = .ok (.getfield 7, 3) := by decide +kernel
theorem dX1_feedFrom_74 : decode cX1_feedFrom 74 = .ok (.aload_n 0, 1) := by decide +kernel
theorem dX1_feedFrom_75 : decode cX1_feedFrom 75 = .ok (.getfield 23, 3) := by decide +kernel
theorem dX1_feedFrom_78 : decode cX1_feedFrom 78 = .ok (.iload 5, 2) := by decide +kernel
theorem dX1_feedFrom_80 : decode cX1_feedFrom 80 = .ok (.iadd, 1) := by decide +kernel
theorem dX1_feedFrom_81 : decode cX1_feedFrom 81 = .ok (.aload_n 0, 1) := by decide +kernel
theorem dX1_feedFrom_82 : decode cX1_feedFrom 82 = .ok (.getfield 20, 3) := by decide +kernel
theorem dX1_feedFrom_85 : decode cX1_feedFrom 85 = .ok (.iload_n 1, 1) := by decide +kernel
theorem dX1_feedFrom_86 : decode cX1_feedFrom 86 = .ok (.bipush 96, 2) := by decide +kernel
theorem dX1_feedFrom_88 : decode cX1_feedFrom 88 = .ok (.imul, 1) := by decide +kernel
theorem dX1_feedFrom_89 : decode cX1_feedFrom 89 = .ok (.iload_n 2, 1) := by decide +kernel
theorem dX1_feedFrom_90 : decode cX1_feedFrom 90 = .ok (.iadd, 1) := by decide +kernel
theorem dX1_feedFrom_91 : decode cX1_feedFrom 91 = .ok (.iload 5, 2) := by decide +kernel
theorem dX1_feedFrom_93 : decode cX1_feedFrom 93 = .ok (.iadd, 1) := by decide +kernel
theorem dX1_feedFrom_94 : decode cX1_feedFrom 94 = .ok (.iaload, 1) := by decide +kernel
theorem dX1_feedFrom_95 : decode cX1_feedFrom 95 = .ok (.iastore, 1) := by decide +kernel
theorem dX1_feedFrom_96 : decode cX1_feedFrom 96 = .ok (.iinc 5 1, 3) := by decide +kernel
theorem dX1_feedFrom_99 : decode cX1_feedFrom 99 = .ok (.goto (-35), 3) := by decide +kernel
theorem dX1_feedFrom_102 : decode cX1_feedFrom 102 = .ok (.aload_n 0, 1) := by decide +kernel
theorem dX1_feedFrom_103 : decode cX1_feedFrom 103 = .ok (.aload_n 0, 1) := by decide +kernel
theorem dX1_feedFrom_104 : decode cX1_feedFrom 104 = .ok (.getfield 23, 3) := by decide +kernel
theorem dX1_feedFrom_107 : decode cX1_feedFrom 107 = .ok (.iload_n 3, 1) := by decide +kernel
theorem dX1_feedFrom_108 : decode cX1_feedFrom 108 = .ok (.iadd, 1) := by decide +kernel
theorem dX1_feedFrom_109 : decode cX1_feedFrom 109 = .ok (.putfield 23, 3) := by decide +kernel
theorem dX1_feedFrom_112 : decode cX1_feedFrom 112 = .ok (.aload_n 0, 1) := by decide +kernel
theorem dX1_feedFrom_113 : decode cX1_feedFrom 113 = .ok (.getfield 23, 3) := by decide +kernel
theorem dX1_feedFrom_116 : decode cX1_feedFrom 116 = .ok (.ireturn, 1) := by decide +kernel
theorem dX1_missing_0 : decode cX1_missing 0 = .ok (.iload_n 1, 1) := by decide +kernel
theorem dX1_missing_1 : decode cX1_missing 1 = .ok (.ifCond .lt 8, 3) := by decide +kernel
theorem dX1_missing_4 : decode cX1_missing 4 = .ok (.iload_n 1, 1) := by decide +kernel
theorem dX1_missing_5 : decode cX1_missing 5 = .ok (.iconst 5, 1) := by decide +kernel
theorem dX1_missing_6 : decode cX1_missing 6 = .ok (.if_icmp .le 6, 3) := by decide +kernel
theorem dX1_missing_9 : decode cX1_missing 9 = .ok (.bipush (-2), 2) := by decide +kernel
theorem dX1_missing_11 : decode cX1_missing 11 = .ok (.ireturn, 1) := by decide +kernel
theorem dX1_missing_12 : decode cX1_missing 12 = .ok (.aload_n 0, 1) := by decide +kernel
theorem dX1_missing_13 : decode cX1_missing 13 = .ok (.getfield 13, 3) := by decide +kernel
theorem dX1_missing_16 : decode cX1_missing 16 = .ok (.iload_n 1, 1) := by decide +kernel
theorem dX1_missing_17 : decode cX1_missing 17 = .ok (.baload, 1) := by decide +kernel
theorem dX1_missing_18 : decode cX1_missing 18 = .ok (.ifCond .eq 7, 3) := by decide +kernel
theorem dX1_missing_21 : decode cX1_missing 21 = .ok (.iconst 0, 1) := by decide +kernel
theorem dX1_missing_22 : decode cX1_missing 22 = .ok (.goto 5, 3) := by decide +kernel
theorem dX1_missing_25 : decode cX1_missing 25 = .ok (.bipush (-4), 2) := by decide +kernel
theorem dX1_missing_27 : decode cX1_missing 27 = .ok (.ireturn, 1) := by decide +kernel
theorem dX1_poke_0 : decode cX1_poke 0 = .ok (.iload_n 1, 1) := by decide +kernel
theorem dX1_poke_1 : decode cX1_poke 1 = .ok (.ifCond .lt 11, 3) := by decide +kernel
theorem dX1_poke_4 : decode cX1_poke 4 = .ok (.iload_n 1, 1) := by decide +kernel
theorem dX1_poke_5 : decode cX1_poke 5 = .ok (.aload_n 0, 1) := by decide +kernel
theorem dX1_poke_6 : decode cX1_poke 6 = .ok (.getfield 23, 3) := by decide +kernel
theorem dX1_poke_9 : decode cX1_poke 9 = .ok (.if_icmp .lt 6, 3) := by decide +kernel
theorem dX1_poke_12 : decode cX1_poke 12 = .ok (.bipush (-5), 2) := by decide +kernel
theorem dX1_poke_14 : decode cX1_poke 14 = .ok (.ireturn, 1) := by decide +kernel
theorem dX1_poke_15 : decode cX1_poke 15 = .ok (.aload_n 0, 1) := by decide +kernel
theorem dX1_poke_16 : decode cX1_poke 16 = .ok (.getfield 7, 3) := by decide +kernel
theorem dX1_poke_19 : decode cX1_poke 19 = .ok (.iload_n 1, 1) := by decide +kernel
theorem dX1_poke_20 : decode cX1_poke 20 = .ok (.iaload, 1) := by decide +kernel
theorem dX1_poke_21 : decode cX1_poke 21 = .ok (.istore_n 3, 1) := by decide +kernel
theorem dX1_poke_22 : decode cX1_poke 22 = .ok (.aload_n 0, 1) := by decide +kernel
theorem dX1_poke_23 : decode cX1_poke 23 = .ok (.getfield 7, 3) := by decide +kernel
theorem dX1_poke_26 : decode cX1_poke 26 = .ok (.iload_n 1, 1) := by decide +kernel
theorem dX1_poke_27 : decode cX1_poke 27 = .ok (.iload_n 2, 1) := by decide +kernel
theorem dX1_poke_28 : decode cX1_poke 28 = .ok (.sipush 255, 3) := by decide +kernel
theorem dX1_poke_31 : decode cX1_poke 31 = .ok (.iand, 1) := by decide +kernel
theorem dX1_poke_32 : decode cX1_poke 32 = .ok (.iastore, 1) := by decide +kernel
theorem dX1_poke_33 : decode cX1_poke 33 = .ok (.iload_n 3, 1) := by decide +kernel
theorem dX1_poke_34 : decode cX1_poke 34 = .ok (.ireturn, 1) := by decide +kernel
theorem dX1_insert_0 : decode cX1_insert 0 = .ok (.iload_n 1, 1) := by decide +kernel
theorem dX1_insert_1 : decode cX1_insert 1 = .ok (.ifCond .lt 11, 3) := by decide +kernel
theorem dX1_insert_4 : decode cX1_insert 4 = .ok (.iload_n 1, 1) := by decide +kernel
theorem dX1_insert_5 : decode cX1_insert 5 = .ok (.aload_n 0, 1) := by decide +kernel
theorem dX1_insert_6 : decode cX1_insert 6 = .ok (.getfield 23, 3) := by decide +kernel
theorem dX1_insert_9 : decode cX1_insert 9 = .ok (.if_icmp .le 6, 3) := by decide +kernel
theorem dX1_insert_12 : decode cX1_insert 12 = .ok (.bipush (-5), 2) := by decide +kernel
theorem dX1_insert_14 : decode cX1_insert 14 = .ok (.ireturn, 1) := by decide +kernel
theorem dX1_insert_15 : decode cX1_insert 15 = .ok (.aload_n 0, 1) := by decide +kernel
theorem dX1_insert_16 : decode cX1_insert 16 = .ok (.getfield 23, 3) := by decide +kernel
theorem dX1_insert_19 : decode cX1_insert 19 = .ok (.bipush 96, 2) := by decide +kernel
theorem dX1_insert_21 : decode cX1_insert 21 = .ok (.if_icmp .lt 5, 3) := by decide +kernel
theorem dX1_insert_24 : decode cX1_insert 24 = .ok (.iconst (-1), 1) := by decide +kernel
theorem dX1_insert_25 : decode cX1_insert 25 = .ok (.ireturn, 1) := by decide +kernel
theorem dX1_insert_26 : decode cX1_insert 26 = .ok (.aload_n 0, 1) := by decide +kernel
theorem dX1_insert_27 : decode cX1_insert 27 = .ok (.getfield 23, 3) := by decide +kernel
theorem dX1_insert_30 : decode cX1_insert 30 = .ok (.istore_n 3, 1) := by decide +kernel
theorem dX1_insert_31 : decode cX1_insert 31 = .ok (.iload_n 3, 1) := by decide +kernel
theorem dX1_insert_32 : decode cX1_insert 32 = .ok (.iload_n 1, 1) := by decide +kernel
theorem dX1_insert_33 : decode cX1_insert 33 = .ok (.if_icmp .le 23, 3) := by decide +kernel
theorem dX1_insert_36 : decode cX1_insert 36 = .ok (.aload_n 0, 1) := by decide +kernel
theorem dX1_insert_37 : decode cX1_insert 37 = .ok (.getfield 7, 3) := by decide +kernel
theorem dX1_insert_40 : decode cX1_insert 40 = .ok (.iload_n 3, 1) := by decide +kernel
theorem dX1_insert_41 : decode cX1_insert 41 = .ok (.aload_n 0, 1) := by decide +kernel
theorem dX1_insert_42 : decode cX1_insert 42 = .ok (.getfield 7, 3) := by decide +kernel
theorem dX1_insert_45 : decode cX1_insert 45 = .ok (.iload_n 3, 1) := by decide +kernel
theorem dX1_insert_46 : decode cX1_insert 46 = .ok (.iconst 1, 1) := by decide +kernel
theorem dX1_insert_47 : decode cX1_insert 47 = .ok (.isub, 1) := by decide +kernel
theorem dX1_insert_48 : decode cX1_insert 48 = .ok (.iaload, 1) := by decide +kernel
theorem dX1_insert_49 : decode cX1_insert 49 = .ok (.iastore, 1) := by decide +kernel
theorem dX1_insert_50 : decode cX1_insert 50 = .ok (.iinc 3 (-1), 3) := by decide +kernel
theorem dX1_insert_53 : decode cX1_insert 53 = .ok (.goto (-22), 3) := by decide +kernel
theorem dX1_insert_56 : decode cX1_insert 56 = .ok (.aload_n 0, 1) := by decide +kernel
theorem dX1_insert_57 : decode cX1_insert 57 = .ok (.getfield 7, 3) := by decide +kernel
theorem dX1_insert_60 : decode cX1_insert 60 = .ok (.iload_n 1, 1) := by decide +kernel
theorem dX1_insert_61 : decode cX1_insert 61 = .ok (.iload_n 2, 1) := by decide +kernel
theorem dX1_insert_62 : decode cX1_insert 62 = .ok (.sipush 255, 3) := by decide +kernel
theorem dX1_insert_65 : decode cX1_insert 65 = .ok (.iand, 1) := by decide +kernel
theorem dX1_insert_66 : decode cX1_insert 66 = .ok (.iastore, 1) := by decide +kernel
theorem dX1_insert_67 : decode cX1_insert 67 = .ok (.aload_n 0, 1) := by decide +kernel
theorem dX1_insert_68 : decode cX1_insert 68 = .ok (.aload_n 0, 1) := by decide +kernel
theorem dX1_insert_69 : decode cX1_insert 69 = .ok (.getfield 23, 3) := by decide +kernel
theorem dX1_insert_72 : decode cX1_insert 72 = .ok (.iconst 1, 1) := by decide +kernel
theorem dX1_insert_73 : decode cX1_insert 73 = .ok (.iadd, 1) := by decide +kernel
theorem dX1_insert_74 : decode cX1_insert 74 = .ok (.putfield 23, 3) := by decide +kernel
theorem dX1_insert_77 : decode cX1_insert 77 = .ok (.aload_n 0, 1) := by decide +kernel
theorem dX1_insert_78 : decode cX1_insert 78 = .ok (.getfield 23, 3) := by decide +kernel
theorem dX1_insert_81 : decode cX1_insert 81 = .ok (.ireturn, 1) := by decide +kernel
theorem dX1_cut_0 : decode cX1_cut 0 = .ok (.iload_n 1, 1) := by decide +kernel
theorem dX1_cut_1 : decode cX1_cut 1 = .ok (.ifCond .lt 25, 3) := by decide +kernel
theorem dX1_cut_4 : decode cX1_cut 4 = .ok (.iload_n 2, 1) := by decide +kernel
theorem dX1_cut_5 : decode cX1_cut 5 = .ok (.ifCond .lt 21, 3) := by decide +kernel
theorem dX1_cut_8 : decode cX1_cut 8 = .ok (.iload_n 1, 1) := by decide +kernel
theorem dX1_cut_9 : decode cX1_cut 9 = .ok (.aload_n 0, 1) := by decide +kernel
theorem dX1_cut_10 : decode cX1_cut 10 = .ok (.getfield 23, 3) := by decide +kernel
theorem dX1_cut_13 : decode cX1_cut 13 = .ok (.if_icmp .gt 13, 3) := by decide +kernel
theorem dX1_cut_16 : decode cX1_cut 16 = .ok (.iload_n 2, 1) := by decide +kernel
theorem dX1_cut_17 : decode cX1_cut 17 = .ok (.aload_n 0, 1) := by decide +kernel
theorem dX1_cut_18 : decode cX1_cut 18 = .ok (.getfield 23, 3) := by decide +kernel
theorem dX1_cut_21 : decode cX1_cut 21 = .ok (.iload_n 1, 1) := by decide +kernel
theorem dX1_cut_22 : decode cX1_cut 22 = .ok (.isub, 1) := by decide +kernel
theorem dX1_cut_23 : decode cX1_cut 23 = .ok (.if_icmp .le 6, 3) := by decide +kernel
theorem dX1_cut_26 : decode cX1_cut 26 = .ok (.bipush (-5), 2) := by decide +kernel
theorem dX1_cut_28 : decode cX1_cut 28 = .ok (.ireturn, 1) := by decide +kernel
theorem dX1_cut_29 : decode cX1_cut 29 = .ok (.iload_n 1, 1) := by decide +kernel
theorem dX1_cut_30 : decode cX1_cut 30 = .ok (.istore_n 3, 1) := by decide +kernel
theorem dX1_cut_31 : decode cX1_cut 31 = .ok (.iload_n 3, 1) := by decide +kernel
theorem dX1_cut_32 : decode cX1_cut 32 = .ok (.iload_n 2, 1) := by decide +kernel
theorem dX1_cut_33 : decode cX1_cut 33 = .ok (.iadd, 1) := by decide +kernel
theorem dX1_cut_34 : decode cX1_cut 34 = .ok (.aload_n 0, 1) := by decide +kernel
theorem dX1_cut_35 : decode cX1_cut 35 = .ok (.getfield 23, 3) := by decide +kernel
theorem dX1_cut_38 : decode cX1_cut 38 = .ok (.if_icmp .ge 23, 3) := by decide +kernel
theorem dX1_cut_41 : decode cX1_cut 41 = .ok (.aload_n 0, 1) := by decide +kernel
theorem dX1_cut_42 : decode cX1_cut 42 = .ok (.getfield 7, 3) := by decide +kernel
theorem dX1_cut_45 : decode cX1_cut 45 = .ok (.iload_n 3, 1) := by decide +kernel
theorem dX1_cut_46 : decode cX1_cut 46 = .ok (.aload_n 0, 1) := by decide +kernel
theorem dX1_cut_47 : decode cX1_cut 47 = .ok (.getfield 7, 3) := by decide +kernel
theorem dX1_cut_50 : decode cX1_cut 50 = .ok (.iload_n 3, 1) := by decide +kernel
theorem dX1_cut_51 : decode cX1_cut 51 = .ok (.iload_n 2, 1) := by decide +kernel
theorem dX1_cut_52 : decode cX1_cut 52 = .ok (.iadd, 1) := by decide +kernel
theorem dX1_cut_53 : decode cX1_cut 53 = .ok (.iaload, 1) := by decide +kernel
theorem dX1_cut_54 : decode cX1_cut 54 = .ok (.iastore, 1) := by decide +kernel
theorem dX1_cut_55 : decode cX1_cut 55 = .ok (.iinc 3 1, 3) := by decide +kernel
theorem dX1_cut_58 : decode cX1_cut 58 = .ok (.goto (-27), 3) := by decide +kernel
theorem dX1_cut_61 : decode cX1_cut 61 = .ok (.aload_n 0, 1) := by decide +kernel
theorem dX1_cut_62 : decode cX1_cut 62 = .ok (.aload_n 0, 1) := by decide +kernel
theorem dX1_cut_63 : decode cX1_cut 63 = .ok (.getfield 23, 3) := by decide +kernel
theorem dX1_cut_66 : decode cX1_cut 66 = .ok (.iload_n 2, 1) := by decide +kernel
theorem dX1_cut_67 : decode cX1_cut 67 = .ok (.isub, 1) := by decide +kernel
theorem dX1_cut_68 : decode cX1_cut 68 = .ok (.putfield 23, 3) := by decide +kernel
theorem dX1_cut_71 : decode cX1_cut 71 = .ok (.aload_n 0, 1) := by decide +kernel
theorem dX1_cut_72 : decode cX1_cut 72 = .ok (.getfield 23, 3) := by decide +kernel
theorem dX1_cut_75 : decode cX1_cut 75 = .ok (.ireturn, 1) := by decide +kernel
theorem dX1_save_0 : decode cX1_save 0 = .ok (.aload_n 0, 1) := by decide +kernel
theorem dX1_save_1 : decode cX1_save 1 = .ok (.iload_n 1, 1) := by decide +kernel
theorem dX1_save_2 : decode cX1_save 2 = .ok (.invokevirtual 31, 3) := by decide +kernel
theorem dX1_save_5 : decode cX1_save 5 = .ok (.istore_n 2, 1) := by decide +kernel
theorem dX1_save_6 : decode cX1_save 6 = .ok (.iload_n 2, 1) := by decide +kernel
theorem dX1_save_7 : decode cX1_save 7 = .ok (.bipush (-2), 2) := by decide +kernel
theorem dX1_save_9 : decode cX1_save 9 = .ok (.if_icmp .ne 6, 3) := by decide +kernel
theorem dX1_save_12 : decode cX1_save 12 = .ok (.bipush (-2), 2) := by decide +kernel
theorem dX1_save_14 : decode cX1_save 14 = .ok (.ireturn, 1) := by decide +kernel
theorem dX1_save_15 : decode cX1_save 15 = .ok (.iload_n 2, 1) := by decide +kernel
theorem dX1_save_16 : decode cX1_save 16 = .ok (.ifCond .ne 6, 3) := by decide +kernel
theorem dX1_save_19 : decode cX1_save 19 = .ok (.bipush (-3), 2) := by decide +kernel
theorem dX1_save_21 : decode cX1_save 21 = .ok (.ireturn, 1) := by decide +kernel
theorem dX1_save_22 : decode cX1_save 22 = .ok (.iconst 0, 1) := by decide +kernel
theorem dX1_save_23 : decode cX1_save 23 = .ok (.istore_n 3, 1) := by decide +kernel
theorem dX1_save_24 : decode cX1_save 24 = .ok (.iload_n 3, 1) := by decide +kernel
theorem dX1_save_25 : decode cX1_save 25 = .ok (.aload_n 0, 1) := by decide +kernel
theorem dX1_save_26 : decode cX1_save 26 = .ok (.getfield 23, 3) := by decide +kernel
theorem dX1_save_29 : decode cX1_save 29 = .ok (.if_icmp .ge 26, 3) := by decide +kernel
theorem dX1_save_32 : decode cX1_save 32 = .ok (.aload_n 0, 1) := by decide +kernel
theorem dX1_save_33 : decode cX1_save 33 = .ok (.getfield 20, 3) := by decide +kernel
theorem dX1_save_36 : decode cX1_save 36 = .ok (.iload_n 1, 1) := by decide +kernel
theorem dX1_save_37 : decode cX1_save 37 = .ok (.bipush 96, 2) := by decide +kernel
theorem dX1_save_39 : decode cX1_save 39 = .ok (.imul, 1) := by decide +kernel
theorem dX1_save_40 : decode cX1_save 40 = .ok (.iload_n 3, 1) := by decide +kernel
theorem dX1_save_41 : decode cX1_save 41 = .ok (.iadd, 1) := by decide +kernel
theorem dX1_save_42 : decode cX1_save 42 = .ok (.aload_n 0, 1) := by decide +kernel
theorem dX1_save_43 : decode cX1_save 43 = .ok (.getfield 7, 3) := by decide +kernel
theorem dX1_save_46 : decode cX1_save 46 = .ok (.iload_n 3, 1) := by decide +kernel
theorem dX1_save_47 : decode cX1_save 47 = .ok (.iaload, 1) := by decide +kernel
theorem dX1_save_48 : decode cX1_save 48 = .ok (.iastore, 1) := by decide +kernel
theorem dX1_save_49 : decode cX1_save 49 = .ok (.iinc 3 1, 3) := by decide +kernel
theorem dX1_save_52 : decode cX1_save 52 = .ok (.goto (-28), 3) := by decide +kernel
theorem dX1_save_55 : decode cX1_save 55 = .ok (.aload_n 0, 1) := by decide +kernel
theorem dX1_save_56 : decode cX1_save 56 = .ok (.getfield 17, 3) := by decide +kernel
theorem dX1_save_59 : decode cX1_save 59 = .ok (.iload_n 1, 1) := by decide +kernel
theorem dX1_save_60 : decode cX1_save 60 = .ok (.aload_n 0, 1) := by decide +kernel
theorem dX1_save_61 : decode cX1_save 61 = .ok (.getfield 23, 3) := by decide +kernel
theorem dX1_save_64 : decode cX1_save 64 = .ok (.iastore, 1) := by decide +kernel
theorem dX1_save_65 : decode cX1_save 65 = .ok (.aload_n 0, 1) := by decide +kernel
theorem dX1_save_66 : decode cX1_save 66 = .ok (.getfield 13, 3) := by decide +kernel
theorem dX1_save_69 : decode cX1_save 69 = .ok (.iload_n 1, 1) := by decide +kernel
theorem dX1_save_70 : decode cX1_save 70 = .ok (.iconst 1, 1) := by decide +kernel
theorem dX1_save_71 : decode cX1_save 71 = .ok (.bastore, 1) := by decide +kernel
theorem dX1_save_72 : decode cX1_save 72 = .ok (.aload_n 0, 1) := by decide +kernel
theorem dX1_save_73 : decode cX1_save 73 = .ok (.getfield 23, 3) := by decide +kernel
theorem dX1_save_76 : decode cX1_save 76 = .ok (.ireturn, 1) := by decide +kernel
theorem dX1_drop_0 : decode cX1_drop 0 = .ok (.aload_n 0, 1) := by decide +kernel
theorem dX1_drop_1 : decode cX1_drop 1 = .ok (.iload_n 1, 1) := by decide +kernel
theorem dX1_drop_2 : decode cX1_drop 2 = .ok (.invokevirtual 31, 3) := by decide +kernel
theorem dX1_drop_5 : decode cX1_drop 5 = .ok (.istore_n 2, 1) := by decide +kernel
theorem dX1_drop_6 : decode cX1_drop 6 = .ok (.iload_n 2, 1) := by decide +kernel
theorem dX1_drop_7 : decode cX1_drop 7 = .ok (.ifCond .eq 5, 3) := by decide +kernel
theorem dX1_drop_10 : decode cX1_drop 10 = .ok (.iload_n 2, 1) := by decide +kernel
theorem dX1_drop_11 : decode cX1_drop 11 = .ok (.ireturn, 1) := by decide +kernel
theorem dX1_drop_12 : decode cX1_drop 12 = .ok (.aload_n 0, 1) := by decide +kernel
theorem dX1_drop_13 : decode cX1_drop 13 = .ok (.getfield 13, 3) := by decide +kernel
theorem dX1_drop_16 : decode cX1_drop 16 = .ok (.iload_n 1, 1) := by decide +kernel
theorem dX1_drop_17 : decode cX1_drop 17 = .ok (.iconst 0, 1) := by decide +kernel
theorem dX1_drop_18 : decode cX1_drop 18 = .ok (.bastore, 1) := by decide +kernel
theorem dX1_drop_19 : decode cX1_drop 19 = .ok (.aload_n 0, 1) := by decide +kernel
theorem dX1_drop_20 : decode cX1_drop 20 = .ok (.getfield 17, 3) := by decide +kernel
theorem dX1_drop_23 : decode cX1_drop 23 = .ok (.iload_n 1, 1) := by decide +kernel
theorem dX1_drop_24 : decode cX1_drop 24 = .ok (.iaload, 1) := by decide +kernel
theorem dX1_drop_25 : decode cX1_drop 25 = .ok (.ireturn, 1) := by decide +kernel
theorem dX1_stageLength_0 : decode cX1_stageLength 0 = .ok (.aload_n 0, 1) := by decide +kernel
theorem dX1_stageLength_1 : decode cX1_stageLength 1 = .ok (.getfield 23, 3) := by decide +kernel
theorem dX1_stageLength_4 : decode cX1_stageLength 4 = .ok (.ireturn, 1) := by decide +kernel
theorem dX1_stageByte_0 : decode cX1_stageByte 0 = .ok (.iload_n 1, 1) := by decide +kernel
theorem dX1_stageByte_1 : decode cX1_stageByte 1 = .ok (.ifCond .lt 11, 3) := by decide +kernel
theorem dX1_stageByte_4 : decode cX1_stageByte 4 = .ok (.iload_n 1, 1) := by decide +kernel
theorem dX1_stageByte_5 : decode cX1_stageByte 5 = .ok (.aload_n 0, 1) := by decide +kernel
theorem dX1_stageByte_6 : decode cX1_stageByte 6 = .ok (.getfield 23, 3) := by decide +kernel
theorem dX1_stageByte_9 : decode cX1_stageByte 9 = .ok (.if_icmp .lt 6, 3) := by decide +kernel
theorem dX1_stageByte_12 : decode cX1_stageByte 12 = .ok (.bipush (-5), 2) := by decide +kernel
theorem dX1_stageByte_14 : decode cX1_stageByte 14 = .ok (.ireturn, 1) := by decide +kernel
theorem dX1_stageByte_15 : decode cX1_stageByte 15 = .ok (.aload_n 0, 1) := by decide +kernel
theorem dX1_stageByte_16 : decode cX1_stageByte 16 = .ok (.getfield 7, 3) := by decide +kernel
theorem dX1_stageByte_19 : decode cX1_stageByte 19 = .ok (.iload_n 1, 1) := by decide +kernel
theorem dX1_stageByte_20 : decode cX1_stageByte 20 = .ok (.iaload, 1) := by decide +kernel
theorem dX1_stageByte_21 : decode cX1_stageByte 21 = .ok (.ireturn, 1) := by decide +kernel
theorem dX1_length_0 : decode cX1_length 0 = .ok (.aload_n 0, 1) := by decide +kernel
theorem dX1_length_1 : decode cX1_length 1 = .ok (.iload_n 1, 1) := by decide +kernel
theorem dX1_length_2 : decode cX1_length 2 = .ok (.invokevirtual 31, 3) := by decide +kernel
theorem dX1_length_5 : decode cX1_length 5 = .ok (.istore_n 2, 1) := by decide +kernel
theorem dX1_length_6 : decode cX1_length 6 = .ok (.iload_n 2, 1) := by decide +kernel
theorem dX1_length_7 : decode cX1_length 7 = .ok (.ifCond .eq 5, 3) := by decide +kernel
theorem dX1_length_10 : decode cX1_length 10 = .ok (.iload_n 2, 1) := by decide +kernel
theorem dX1_length_11 : decode cX1_length 11 = .ok (.ireturn, 1) := by decide +kernel
theorem dX1_length_12 : decode cX1_length 12 = .ok (.aload_n 0, 1) := by decide +kernel
theorem dX1_length_13 : decode cX1_length 13 = .ok (.getfield 17, 3) := by decide +kernel
theorem dX1_length_16 : decode cX1_length 16 = .ok (.iload_n 1, 1) := by decide +kernel
theorem dX1_length_17 : decode cX1_length 17 = .ok (.iaload, 1) := by decide +kernel
theorem dX1_length_18 : decode cX1_length 18 = .ok (.ireturn, 1) := by decide +kernel
theorem dX1_byteAt_0 : decode cX1_byteAt 0 = .ok (.aload_n 0, 1) := by decide +kernel
theorem dX1_byteAt_1 : decode cX1_byteAt 1 = .ok (.iload_n 1, 1) := by decide +kernel
theorem dX1_byteAt_2 : decode cX1_byteAt 2 = .ok (.invokevirtual 31, 3) := by decide +kernel
theorem dX1_byteAt_5 : decode cX1_byteAt 5 = .ok (.istore_n 3, 1) := by decide +kernel
theorem dX1_byteAt_6 : decode cX1_byteAt 6 = .ok (.iload_n 3, 1) := by decide +kernel
theorem dX1_byteAt_7 : decode cX1_byteAt 7 = .ok (.ifCond .eq 5, 3) := by decide +kernel
theorem dX1_byteAt_10 : decode cX1_byteAt 10 = .ok (.iload_n 3, 1) := by decide +kernel
theorem dX1_byteAt_11 : decode cX1_byteAt 11 = .ok (.ireturn, 1) := by decide +kernel
theorem dX1_byteAt_12 : decode cX1_byteAt 12 = .ok (.iload_n 2, 1) := by decide +kernel
theorem dX1_byteAt_13 : decode cX1_byteAt 13 = .ok (.ifCond .lt 13, 3) := by decide +kernel
theorem dX1_byteAt_16 : decode cX1_byteAt 16 = .ok (.iload_n 2, 1) := by decide +kernel
theorem dX1_byteAt_17 : decode cX1_byteAt 17 = .ok (.aload_n 0, 1) := by decide +kernel
theorem dX1_byteAt_18 : decode cX1_byteAt 18 = .ok (.getfield 17, 3) := by decide +kernel
theorem dX1_byteAt_21 : decode cX1_byteAt 21 = .ok (.iload_n 1, 1) := by decide +kernel
theorem dX1_byteAt_22 : decode cX1_byteAt 22 = .ok (.iaload, 1) := by decide +kernel
theorem dX1_byteAt_23 : decode cX1_byteAt 23 = .ok (.if_icmp .lt 6, 3) := by decide +kernel
theorem dX1_byteAt_26 : decode cX1_byteAt 26 = .ok (.bipush (-5), 2) := by decide +kernel
theorem dX1_byteAt_28 : decode cX1_byteAt 28 = .ok (.ireturn, 1) := by decide +kernel
theorem dX1_byteAt_29 : decode cX1_byteAt 29 = .ok (.aload_n 0, 1) := by decide +kernel
theorem dX1_byteAt_30 : decode cX1_byteAt 30 = .ok (.getfield 20, 3) := by decide +kernel
theorem dX1_byteAt_33 : decode cX1_byteAt 33 = .ok (.iload_n 1, 1) := by decide +kernel
theorem dX1_byteAt_34 : decode cX1_byteAt 34 = .ok (.bipush 96, 2) := by decide +kernel
theorem dX1_byteAt_36 : decode cX1_byteAt 36 = .ok (.imul, 1) := by decide +kernel
theorem dX1_byteAt_37 : decode cX1_byteAt 37 = .ok (.iload_n 2, 1) := by decide +kernel
theorem dX1_byteAt_38 : decode cX1_byteAt 38 = .ok (.iadd, 1) := by decide +kernel
theorem dX1_byteAt_39 : decode cX1_byteAt 39 = .ok (.iaload, 1) := by decide +kernel
theorem dX1_byteAt_40 : decode cX1_byteAt 40 = .ok (.ireturn, 1) := by decide +kernel
theorem dX1_sum_0 : decode cX1_sum 0 = .ok (.aload_n 0, 1) := by decide +kernel
theorem dX1_sum_1 : decode cX1_sum 1 = .ok (.iload_n 1, 1) := by decide +kernel
theorem dX1_sum_2 : decode cX1_sum 2 = .ok (.invokevirtual 31, 3) := by decide +kernel
theorem dX1_sum_5 : decode cX1_sum 5 = .ok (.ifCond .eq 5, 3) := by decide +kernel
theorem dX1_sum_8 : decode cX1_sum 8 = .ok (.iconst 0, 1) := by decide +kernel
theorem dX1_sum_9 : decode cX1_sum 9 = .ok (.ireturn, 1) := by decide +kernel
theorem dX1_sum_10 : decode cX1_sum 10 = .ok (.bipush 7, 2) := by decide +kernel
theorem dX1_sum_12 : decode cX1_sum 12 = .ok (.istore_n 2, 1) := by decide +kernel
theorem dX1_sum_13 : decode cX1_sum 13 = .ok (.iconst 0, 1) := by decide +kernel
theorem dX1_sum_14 : decode cX1_sum 14 = .ok (.istore_n 3, 1) := by decide +kernel
theorem dX1_sum_15 : decode cX1_sum 15 = .ok (.iload_n 3, 1) := by decide +kernel
theorem dX1_sum_16 : decode cX1_sum 16 = .ok (.aload_n 0, 1) := by decide +kernel
theorem dX1_sum_17 : decode cX1_sum 17 = .ok (.getfield 17, 3) := by decide +kernel
theorem dX1_sum_20 : decode cX1_sum 20 = .ok (.iload_n 1, 1) := by decide +kernel
theorem dX1_sum_21 : decode cX1_sum 21 = .ok (.iaload, 1) := by decide +kernel
theorem dX1_sum_22 : decode cX1_sum 22 = .ok (.if_icmp .ge 27, 3) := by decide +kernel
theorem dX1_sum_25 : decode cX1_sum 25 = .ok (.iload_n 2, 1) := by decide +kernel
theorem dX1_sum_26 : decode cX1_sum 26 = .ok (.sipush 131, 3) := by decide +kernel
theorem dX1_sum_29 : decode cX1_sum 29 = .ok (.imul, 1) := by decide +kernel
theorem dX1_sum_30 : decode cX1_sum 30 = .ok (.aload_n 0, 1) := by decide +kernel
theorem dX1_sum_31 : decode cX1_sum 31 = .ok (.getfield 20, 3) := by decide +kernel
theorem dX1_sum_34 : decode cX1_sum 34 = .ok (.iload_n 1, 1) := by decide +kernel
theorem dX1_sum_35 : decode cX1_sum 35 = .ok (.bipush 96, 2) := by decide +kernel
theorem dX1_sum_37 : decode cX1_sum 37 = .ok (.imul, 1) := by decide +kernel
theorem dX1_sum_38 : decode cX1_sum 38 = .ok (.iload_n 3, 1) := by decide +kernel
theorem dX1_sum_39 : decode cX1_sum 39 = .ok (.iadd, 1) := by decide +kernel
theorem dX1_sum_40 : decode cX1_sum 40 = .ok (.iaload, 1) := by decide +kernel
end
section
set_option maxRecDepth 100000
theorem dX1_sum_41 : decode cX1_sum 41 = .ok (.iadd, 1) := by decide +kernel
theorem dX1_sum_42 : decode cX1_sum 42 = .ok (.istore_n 2, 1) := by decide +kernel
theorem dX1_sum_43 : decode cX1_sum 43 = .ok (.iinc 3 1, 3) := by decide +kernel
theorem dX1_sum_46 : decode cX1_sum 46 = .ok (.goto (-31), 3) := by decide +kernel
theorem dX1_sum_49 : decode cX1_sum 49 = .ok (.iload_n 2, 1) := by decide +kernel
theorem dX1_sum_50 : decode cX1_sum 50 = .ok (.ireturn, 1) := by decide +kernel
theorem dX1_commonStart_0 : decode cX1_commonStart 0 = .ok (.aload_n 0, 1) := by decide +kernel
theorem dX1_commonStart_1 : decode cX1_commonStart 1 = .ok (.iload_n 1, 1) := by decide +kernel
theorem dX1_commonStart_2 : decode cX1_commonStart 2 = .ok (.invokevirtual 31, 3) := by decide +kernel
theorem dX1_commonStart_5 : decode cX1_commonStart 5 = .ok (.istore_n 3, 1) := by decide +kernel
theorem dX1_commonStart_6 : decode cX1_commonStart 6 = .ok (.aload_n 0, 1) := by decide +kernel
theorem dX1_commonStart_7 : decode cX1_commonStart 7 = .ok (.iload_n 2, 1) := by decide +kernel
theorem dX1_commonStart_8 : decode cX1_commonStart 8 = .ok (.invokevirtual 31, 3) := by decide +kernel
theorem dX1_commonStart_11 : decode cX1_commonStart 11 = .ok (.istore 4, 2) := by decide +kernel
theorem dX1_commonStart_13 : decode cX1_commonStart 13 = .ok (.iload_n 3, 1) := by decide +kernel
theorem dX1_commonStart_14 : decode cX1_commonStart 14 = .ok (.bipush (-2), 2) := by decide +kernel
theorem dX1_commonStart_16 : decode cX1_commonStart 16 = .ok (.if_icmp .eq 10, 3) := by decide +kernel
theorem dX1_commonStart_19 : decode cX1_commonStart 19 = .ok (.iload 4, 2) := by decide +kernel
theorem dX1_commonStart_21 : decode cX1_commonStart 21 = .ok (.bipush (-2), 2) := by decide +kernel
theorem dX1_commonStart_23 : decode cX1_commonStart 23 = .ok (.if_icmp .ne 6, 3) := by decide +kernel
theorem dX1_commonStart_26 : decode cX1_commonStart 26 = .ok (.bipush (-2), 2) := by decide +kernel
theorem dX1_commonStart_28 : decode cX1_commonStart 28 = .ok (.ireturn, 1) := by decide +kernel
theorem dX1_commonStart_29 : decode cX1_commonStart 29 = .ok (.iload_n 3, 1) := by decide +kernel
theorem dX1_commonStart_30 : decode cX1_commonStart 30 = .ok (.ifCond .ne 8, 3) := by decide +kernel
theorem dX1_commonStart_33 : decode cX1_commonStart 33 = .ok (.iload 4, 2) := by decide +kernel
theorem dX1_commonStart_35 : decode cX1_commonStart 35 = .ok (.ifCond .eq 6, 3) := by decide +kernel
theorem dX1_commonStart_38 : decode cX1_commonStart 38 = .ok (.bipush (-4), 2) := by decide +kernel
theorem dX1_commonStart_40 : decode cX1_commonStart 40 = .ok (.ireturn, 1) := by decide +kernel
theorem dX1_commonStart_41 : decode cX1_commonStart 41 = .ok (.iconst 0, 1) := by decide +kernel
theorem dX1_commonStart_42 : decode cX1_commonStart 42 = .ok (.istore 5, 2) := by decide +kernel
theorem dX1_commonStart_44 : decode cX1_commonStart 44 = .ok (.iconst 0, 1) := by decide +kernel
theorem dX1_commonStart_45 : decode cX1_commonStart 45 = .ok (.istore 6, 2) := by decide +kernel
theorem dX1_commonStart_47 : decode cX1_commonStart 47 = .ok (.iload 6, 2) := by decide +kernel
theorem dX1_commonStart_49 : decode cX1_commonStart 49 = .ok (.bipush 96, 2) := by decide +kernel
theorem dX1_commonStart_51 : decode cX1_commonStart 51 = .ok (.if_icmp .ge 68, 3) := by decide +kernel
theorem dX1_commonStart_54 : decode cX1_commonStart 54 = .ok (.iload 5, 2) := by decide +kernel
theorem dX1_commonStart_56 : decode cX1_commonStart 56 = .ok (.iload 6, 2) := by decide +kernel
theorem dX1_commonStart_58 : decode cX1_commonStart 58 = .ok (.if_icmp .ne 55, 3) := by decide +kernel
theorem dX1_commonStart_61 : decode cX1_commonStart 61 = .ok (.iload 6, 2) := by decide +kernel
theorem dX1_commonStart_63 : decode cX1_commonStart 63 = .ok (.aload_n 0, 1) := by decide +kernel
theorem dX1_commonStart_64 : decode cX1_commonStart 64 = .ok (.getfield 17, 3) := by decide +kernel
theorem dX1_commonStart_67 : decode cX1_commonStart 67 = .ok (.iload_n 1, 1) := by decide +kernel
theorem dX1_commonStart_68 : decode cX1_commonStart 68 = .ok (.iaload, 1) := by decide +kernel
theorem dX1_commonStart_69 : decode cX1_commonStart 69 = .ok (.if_icmp .ge 44, 3) := by decide +kernel
theorem dX1_commonStart_72 : decode cX1_commonStart 72 = .ok (.iload 6, 2) := by decide +kernel
theorem dX1_commonStart_74 : decode cX1_commonStart 74 = .ok (.aload_n 0, 1) := by decide +kernel
theorem dX1_commonStart_75 : decode cX1_commonStart 75 = .ok (.getfield 17, 3) := by decide +kernel
theorem dX1_commonStart_78 : decode cX1_commonStart 78 = .ok (.iload_n 2, 1) := by decide +kernel
theorem dX1_commonStart_79 : decode cX1_commonStart 79 = .ok (.iaload, 1) := by decide +kernel
theorem dX1_commonStart_80 : decode cX1_commonStart 80 = .ok (.if_icmp .ge 33, 3) := by decide +kernel
theorem dX1_commonStart_83 : decode cX1_commonStart 83 = .ok (.aload_n 0, 1) := by decide +kernel
theorem dX1_commonStart_84 : decode cX1_commonStart 84 = .ok (.getfield 20, 3) := by decide +kernel
theorem dX1_commonStart_87 : decode cX1_commonStart 87 = .ok (.iload_n 1, 1) := by decide +kernel
theorem dX1_commonStart_88 : decode cX1_commonStart 88 = .ok (.bipush 96, 2) := by decide +kernel
theorem dX1_commonStart_90 : decode cX1_commonStart 90 = .ok (.imul, 1) := by decide +kernel
theorem dX1_commonStart_91 : decode cX1_commonStart 91 = .ok (.iload 6, 2) := by decide +kernel
theorem dX1_commonStart_93 : decode cX1_commonStart 93 = .ok (.iadd, 1) := by decide +kernel
theorem dX1_commonStart_94 : decode cX1_commonStart 94 = .ok (.iaload, 1) := by decide +kernel
theorem dX1_commonStart_95 : decode cX1_commonStart 95 = .ok (.aload_n 0, 1) := by decide +kernel
theorem dX1_commonStart_96 : decode cX1_commonStart 96 = .ok (.getfield 20, 3) := by decide +kernel
theorem dX1_commonStart_99 : decode cX1_commonStart 99 = .ok (.iload_n 2, 1) := by decide +kernel
theorem dX1_commonStart_100 : decode cX1_commonStart 100 = .ok (.bipush 96, 2) := by decide +kernel
theorem dX1_commonStart_102 : decode cX1_commonStart 102 = .ok (.imul, 1) := by decide +kernel
theorem dX1_commonStart_103 : decode cX1_commonStart 103 = .ok (.iload 6, 2) := by decide +kernel
theorem dX1_commonStart_105 : decode cX1_commonStart 105 = .ok (.iadd, 1) := by decide +kernel
theorem dX1_commonStart_106 : decode cX1_commonStart 106 = .ok (.iaload, 1) := by decide +kernel
theorem dX1_commonStart_107 : decode cX1_commonStart 107 = .ok (.if_icmp .ne 6, 3) := by decide +kernel
theorem dX1_commonStart_110 : decode cX1_commonStart 110 = .ok (.iinc 5 1, 3) := by decide +kernel
theorem dX1_commonStart_113 : decode cX1_commonStart 113 = .ok (.iinc 6 1, 3) := by decide +kernel
theorem dX1_commonStart_116 : decode cX1_commonStart 116 = .ok (.goto (-69), 3) := by decide +kernel
theorem dX1_commonStart_119 : decode cX1_commonStart 119 = .ok (.iload 5, 2) := by decide +kernel
theorem dX1_commonStart_121 : decode cX1_commonStart 121 = .ok (.ireturn, 1) := by decide +kernel
theorem dL_law_0 : decode cL_law 0 = .ok (.new 7, 3) := by decide +kernel
theorem dL_law_3 : decode cL_law 3 = .ok (.dup, 1) := by decide +kernel
theorem dL_law_4 : decode cL_law 4 = .ok (.invokespecial 9, 3) := by decide +kernel
theorem dL_law_7 : decode cL_law 7 = .ok (.astore_n 1, 1) := by decide +kernel
theorem dL_law_8 : decode cL_law 8 = .ok (.new 10, 3) := by decide +kernel
theorem dL_law_11 : decode cL_law 11 = .ok (.dup, 1) := by decide +kernel
theorem dL_law_12 : decode cL_law 12 = .ok (.invokespecial 12, 3) := by decide +kernel
theorem dL_law_15 : decode cL_law 15 = .ok (.astore_n 2, 1) := by decide +kernel
theorem dL_law_16 : decode cL_law 16 = .ok (.iconst 0, 1) := by decide +kernel
theorem dL_law_17 : decode cL_law 17 = .ok (.istore_n 3, 1) := by decide +kernel
theorem dL_law_18 : decode cL_law 18 = .ok (.iload_n 3, 1) := by decide +kernel
theorem dL_law_19 : decode cL_law 19 = .ok (.aload_n 0, 1) := by decide +kernel
theorem dL_law_20 : decode cL_law 20 = .ok (.arraylength, 1) := by decide +kernel
theorem dL_law_21 : decode cL_law 21 = .ok (.iconst 4, 1) := by decide +kernel
theorem dL_law_22 : decode cL_law 22 = .ok (.isub, 1) := by decide +kernel
theorem dL_law_23 : decode cL_law 23 = .ok (.if_icmp .gt 504, 3) := by decide +kernel
theorem dL_law_26 : decode cL_law 26 = .ok (.aload_n 0, 1) := by decide +kernel
theorem dL_law_27 : decode cL_law 27 = .ok (.iload_n 3, 1) := by decide +kernel
theorem dL_law_28 : decode cL_law 28 = .ok (.iaload, 1) := by decide +kernel
theorem dL_law_29 : decode cL_law 29 = .ok (.bipush 15, 2) := by decide +kernel
theorem dL_law_31 : decode cL_law 31 = .ok (.iand, 1) := by decide +kernel
theorem dL_law_32 : decode cL_law 32 = .ok (.tableswitch 489 0 14 #[76, 87, 110, 153, 196, 229, 262, 295, 318, 341, 354, 377, 400, 433, 456], 76) := by decide +kernel
theorem dL_law_108 : decode cL_law 108 = .ok (.aload_n 1, 1) := by decide +kernel
theorem dL_law_109 : decode cL_law 109 = .ok (.invokevirtual 13, 3) := by decide +kernel
theorem dL_law_112 : decode cL_law 112 = .ok (.aload_n 2, 1) := by decide +kernel
theorem dL_law_113 : decode cL_law 113 = .ok (.invokevirtual 16, 3) := by decide +kernel
theorem dL_law_116 : decode cL_law 116 = .ok (.goto 405, 3) := by decide +kernel
theorem dL_law_119 : decode cL_law 119 = .ok (.aload_n 1, 1) := by decide +kernel
theorem dL_law_120 : decode cL_law 120 = .ok (.aload_n 0, 1) := by decide +kernel
theorem dL_law_121 : decode cL_law 121 = .ok (.iload_n 3, 1) := by decide +kernel
theorem dL_law_122 : decode cL_law 122 = .ok (.iconst 1, 1) := by decide +kernel
theorem dL_law_123 : decode cL_law 123 = .ok (.iadd, 1) := by decide +kernel
theorem dL_law_124 : decode cL_law 124 = .ok (.iaload, 1) := by decide +kernel
theorem dL_law_125 : decode cL_law 125 = .ok (.invokevirtual 17, 3) := by decide +kernel
theorem dL_law_128 : decode cL_law 128 = .ok (.aload_n 2, 1) := by decide +kernel
theorem dL_law_129 : decode cL_law 129 = .ok (.aload_n 0, 1) := by decide +kernel
theorem dL_law_130 : decode cL_law 130 = .ok (.iload_n 3, 1) := by decide +kernel
theorem dL_law_131 : decode cL_law 131 = .ok (.iconst 1, 1) := by decide +kernel
theorem dL_law_132 : decode cL_law 132 = .ok (.iadd, 1) := by decide +kernel
theorem dL_law_133 : decode cL_law 133 = .ok (.iaload, 1) := by decide +kernel
theorem dL_law_134 : decode cL_law 134 = .ok (.invokevirtual 21, 3) := by decide +kernel
theorem dL_law_137 : decode cL_law 137 = .ok (.if_icmp .eq 384, 3) := by decide +kernel
theorem dL_law_140 : decode cL_law 140 = .ok (.iconst 0, 1) := by decide +kernel
theorem dL_law_141 : decode cL_law 141 = .ok (.ireturn, 1) := by decide +kernel
theorem dL_law_142 : decode cL_law 142 = .ok (.aload_n 1, 1) := by decide +kernel
theorem dL_law_143 : decode cL_law 143 = .ok (.aload_n 0, 1) := by decide +kernel
theorem dL_law_144 : decode cL_law 144 = .ok (.iload_n 3, 1) := by decide +kernel
theorem dL_law_145 : decode cL_law 145 = .ok (.iconst 1, 1) := by decide +kernel
theorem dL_law_146 : decode cL_law 146 = .ok (.iadd, 1) := by decide +kernel
theorem dL_law_147 : decode cL_law 147 = .ok (.iaload, 1) := by decide +kernel
theorem dL_law_148 : decode cL_law 148 = .ok (.aload_n 0, 1) := by decide +kernel
theorem dL_law_149 : decode cL_law 149 = .ok (.iload_n 3, 1) := by decide +kernel
theorem dL_law_150 : decode cL_law 150 = .ok (.iconst 2, 1) := by decide +kernel
theorem dL_law_151 : decode cL_law 151 = .ok (.iadd, 1) := by decide +kernel
theorem dL_law_152 : decode cL_law 152 = .ok (.iaload, 1) := by decide +kernel
theorem dL_law_153 : decode cL_law 153 = .ok (.aload_n 0, 1) := by decide +kernel
theorem dL_law_154 : decode cL_law 154 = .ok (.iload_n 3, 1) := by decide +kernel
theorem dL_law_155 : decode cL_law 155 = .ok (.iconst 3, 1) := by decide +kernel
theorem dL_law_156 : decode cL_law 156 = .ok (.iadd, 1) := by decide +kernel
theorem dL_law_157 : decode cL_law 157 = .ok (.iaload, 1) := by decide +kernel
theorem dL_law_158 : decode cL_law 158 = .ok (.invokevirtual 22, 3) := by decide +kernel
theorem dL_law_161 : decode cL_law 161 = .ok (.aload_n 2, 1) := by decide +kernel
theorem dL_law_162 : decode cL_law 162 = .ok (.aload_n 0, 1) := by decide +kernel
theorem dL_law_163 : decode cL_law 163 = .ok (.iload_n 3, 1) := by decide +kernel
theorem dL_law_164 : decode cL_law 164 = .ok (.iconst 1, 1) := by decide +kernel
theorem dL_law_165 : decode cL_law 165 = .ok (.iadd, 1) := by decide +kernel
theorem dL_law_166 : decode cL_law 166 = .ok (.iaload, 1) := by decide +kernel
theorem dL_law_167 : decode cL_law 167 = .ok (.aload_n 0, 1) := by decide +kernel
theorem dL_law_168 : decode cL_law 168 = .ok (.iload_n 3, 1) := by decide +kernel
theorem dL_law_169 : decode cL_law 169 = .ok (.iconst 2, 1) := by decide +kernel
theorem dL_law_170 : decode cL_law 170 = .ok (.iadd, 1) := by decide +kernel
theorem dL_law_171 : decode cL_law 171 = .ok (.iaload, 1) := by decide +kernel
theorem dL_law_172 : decode cL_law 172 = .ok (.aload_n 0, 1) := by decide +kernel
theorem dL_law_173 : decode cL_law 173 = .ok (.iload_n 3, 1) := by decide +kernel
theorem dL_law_174 : decode cL_law 174 = .ok (.iconst 3, 1) := by decide +kernel
theorem dL_law_175 : decode cL_law 175 = .ok (.iadd, 1) := by decide +kernel
theorem dL_law_176 : decode cL_law 176 = .ok (.iaload, 1) := by decide +kernel
theorem dL_law_177 : decode cL_law 177 = .ok (.invokevirtual 26, 3) := by decide +kernel
theorem dL_law_180 : decode cL_law 180 = .ok (.if_icmp .eq 341, 3) := by decide +kernel
theorem dL_law_183 : decode cL_law 183 = .ok (.iconst 0, 1) := by decide +kernel
theorem dL_law_184 : decode cL_law 184 = .ok (.ireturn, 1) := by decide +kernel
theorem dL_law_185 : decode cL_law 185 = .ok (.aload_n 1, 1) := by decide +kernel
theorem dL_law_186 : decode cL_law 186 = .ok (.aload_n 0, 1) := by decide +kernel
theorem dL_law_187 : decode cL_law 187 = .ok (.iload_n 3, 1) := by decide +kernel
theorem dL_law_188 : decode cL_law 188 = .ok (.iconst 1, 1) := by decide +kernel
theorem dL_law_189 : decode cL_law 189 = .ok (.iadd, 1) := by decide +kernel
theorem dL_law_190 : decode cL_law 190 = .ok (.iaload, 1) := by decide +kernel
theorem dL_law_191 : decode cL_law 191 = .ok (.aload_n 0, 1) := by decide +kernel
theorem dL_law_192 : decode cL_law 192 = .ok (.iload_n 3, 1) := by decide +kernel
theorem dL_law_193 : decode cL_law 193 = .ok (.iconst 2, 1) := by decide +kernel
theorem dL_law_194 : decode cL_law 194 = .ok (.iadd, 1) := by decide +kernel
theorem dL_law_195 : decode cL_law 195 = .ok (.iaload, 1) := by decide +kernel
theorem dL_law_196 : decode cL_law 196 = .ok (.aload_n 0, 1) := by decide +kernel
theorem dL_law_197 : decode cL_law 197 = .ok (.iload_n 3, 1) := by decide +kernel
theorem dL_law_198 : decode cL_law 198 = .ok (.iconst 3, 1) := by decide +kernel
theorem dL_law_199 : decode cL_law 199 = .ok (.iadd, 1) := by decide +kernel
theorem dL_law_200 : decode cL_law 200 = .ok (.iaload, 1) := by decide +kernel
theorem dL_law_201 : decode cL_law 201 = .ok (.invokevirtual 27, 3) := by decide +kernel
theorem dL_law_204 : decode cL_law 204 = .ok (.aload_n 2, 1) := by decide +kernel
theorem dL_law_205 : decode cL_law 205 = .ok (.aload_n 0, 1) := by decide +kernel
theorem dL_law_206 : decode cL_law 206 = .ok (.iload_n 3, 1) := by decide +kernel
theorem dL_law_207 : decode cL_law 207 = .ok (.iconst 1, 1) := by decide +kernel
theorem dL_law_208 : decode cL_law 208 = .ok (.iadd, 1) := by decide +kernel
theorem dL_law_209 : decode cL_law 209 = .ok (.iaload, 1) := by decide +kernel
theorem dL_law_210 : decode cL_law 210 = .ok (.aload_n 0, 1) := by decide +kernel
theorem dL_law_211 : decode cL_law 211 = .ok (.iload_n 3, 1) := by decide +kernel
theorem dL_law_212 : decode cL_law 212 = .ok (.iconst 2, 1) := by decide +kernel
theorem dL_law_213 : decode cL_law 213 = .ok (.iadd, 1) := by decide +kernel
theorem dL_law_214 : decode cL_law 214 = .ok (.iaload, 1) := by decide +kernel
theorem dL_law_215 : decode cL_law 215 = .ok (.aload_n 0, 1) := by decide +kernel
theorem dL_law_216 : decode cL_law 216 = .ok (.iload_n 3, 1) := by decide +kernel
theorem dL_law_217 : decode cL_law 217 = .ok (.iconst 3, 1) := by decide +kernel
theorem dL_law_218 : decode cL_law 218 = .ok (.iadd, 1) := by decide +kernel
theorem dL_law_219 : decode cL_law 219 = .ok (.iaload, 1) := by decide +kernel
theorem dL_law_220 : decode cL_law 220 = .ok (.invokevirtual 30, 3) := by decide +kernel
theorem dL_law_223 : decode cL_law 223 = .ok (.if_icmp .eq 298, 3) := by decide +kernel
theorem dL_law_226 : decode cL_law 226 = .ok (.iconst 0, 1) := by decide +kernel
theorem dL_law_227 : decode cL_law 227 = .ok (.ireturn, 1) := by decide +kernel
theorem dL_law_228 : decode cL_law 228 = .ok (.aload_n 1, 1) := by decide +kernel
theorem dL_law_229 : decode cL_law 229 = .ok (.aload_n 0, 1) := by decide +kernel
theorem dL_law_230 : decode cL_law 230 = .ok (.iload_n 3, 1) := by decide +kernel
theorem dL_law_231 : decode cL_law 231 = .ok (.iconst 1, 1) := by decide +kernel
theorem dL_law_232 : decode cL_law 232 = .ok (.iadd, 1) := by decide +kernel
theorem dL_law_233 : decode cL_law 233 = .ok (.iaload, 1) := by decide +kernel
theorem dL_law_234 : decode cL_law 234 = .ok (.aload_n 0, 1) := by decide +kernel
theorem dL_law_235 : decode cL_law 235 = .ok (.iload_n 3, 1) := by decide +kernel
theorem dL_law_236 : decode cL_law 236 = .ok (.iconst 2, 1) := by decide +kernel
theorem dL_law_237 : decode cL_law 237 = .ok (.iadd, 1) := by decide +kernel
theorem dL_law_238 : decode cL_law 238 = .ok (.iaload, 1) := by decide +kernel
theorem dL_law_239 : decode cL_law 239 = .ok (.invokevirtual 31, 3) := by decide +kernel
theorem dL_law_242 : decode cL_law 242 = .ok (.aload_n 2, 1) := by decide +kernel
theorem dL_law_243 : decode cL_law 243 = .ok (.aload_n 0, 1) := by decide +kernel
theorem dL_law_244 : decode cL_law 244 = .ok (.iload_n 3, 1) := by decide +kernel
theorem dL_law_245 : decode cL_law 245 = .ok (.iconst 1, 1) := by decide +kernel
theorem dL_law_246 : decode cL_law 246 = .ok (.iadd, 1) := by decide +kernel
theorem dL_law_247 : decode cL_law 247 = .ok (.iaload, 1) := by decide +kernel
theorem dL_law_248 : decode cL_law 248 = .ok (.aload_n 0, 1) := by decide +kernel
theorem dL_law_249 : decode cL_law 249 = .ok (.iload_n 3, 1) := by decide +kernel
theorem dL_law_250 : decode cL_law 250 = .ok (.iconst 2, 1) := by decide +kernel
theorem dL_law_251 : decode cL_law 251 = .ok (.iadd, 1) := by decide +kernel
theorem dL_law_252 : decode cL_law 252 = .ok (.iaload, 1) := by decide +kernel
theorem dL_law_253 : decode cL_law 253 = .ok (.invokevirtual 35, 3) := by decide +kernel
theorem dL_law_256 : decode cL_law 256 = .ok (.if_icmp .eq 265, 3) := by decide +kernel
theorem dL_law_259 : decode cL_law 259 = .ok (.iconst 0, 1) := by decide +kernel
theorem dL_law_260 : decode cL_law 260 = .ok (.ireturn, 1) := by decide +kernel
theorem dL_law_261 : decode cL_law 261 = .ok (.aload_n 1, 1) := by decide +kernel
theorem dL_law_262 : decode cL_law 262 = .ok (.aload_n 0, 1) := by decide +kernel
theorem dL_law_263 : decode cL_law 263 = .ok (.iload_n 3, 1) := by decide +kernel
theorem dL_law_264 : decode cL_law 264 = .ok (.iconst 1, 1) := by decide +kernel
theorem dL_law_265 : decode cL_law 265 = .ok (.iadd, 1) := by decide +kernel
theorem dL_law_266 : decode cL_law 266 = .ok (.iaload, 1) := by decide +kernel
theorem dL_law_267 : decode cL_law 267 = .ok (.aload_n 0, 1) := by decide +kernel
theorem dL_law_268 : decode cL_law 268 = .ok (.iload_n 3, 1) := by decide +kernel
theorem dL_law_269 : decode cL_law 269 = .ok (.iconst 2, 1) := by decide +kernel
theorem dL_law_270 : decode cL_law 270 = .ok (.iadd, 1) := by decide +kernel
theorem dL_law_271 : decode cL_law 271 = .ok (.iaload, 1) := by decide +kernel
theorem dL_law_272 : decode cL_law 272 = .ok (.invokevirtual 36, 3) := by decide +kernel
theorem dL_law_275 : decode cL_law 275 = .ok (.aload_n 2, 1) := by decide +kernel
theorem dL_law_276 : decode cL_law 276 = .ok (.aload_n 0, 1) := by decide +kernel
theorem dL_law_277 : decode cL_law 277 = .ok (.iload_n 3, 1) := by decide +kernel
theorem dL_law_278 : decode cL_law 278 = .ok (.iconst 1, 1) := by decide +kernel
theorem dL_law_279 : decode cL_law 279 = .ok (.iadd, 1) := by decide +kernel
theorem dL_law_280 : decode cL_law 280 = .ok (.iaload, 1) := by decide +kernel
theorem dL_law_281 : decode cL_law 281 = .ok (.aload_n 0, 1) := by decide +kernel
theorem dL_law_282 : decode cL_law 282 = .ok (.iload_n 3, 1) := by decide +kernel
theorem dL_law_283 : decode cL_law 283 = .ok (.iconst 2, 1) := by decide +kernel
theorem dL_law_284 : decode cL_law 284 = .ok (.iadd, 1) := by decide +kernel
theorem dL_law_285 : decode cL_law 285 = .ok (.iaload, 1) := by decide +kernel
theorem dL_law_286 : decode cL_law 286 = .ok (.invokevirtual 39, 3) := by decide +kernel
theorem dL_law_289 : decode cL_law 289 = .ok (.if_icmp .eq 232, 3) := by decide +kernel
theorem dL_law_292 : decode cL_law 292 = .ok (.iconst 0, 1) := by decide +kernel
theorem dL_law_293 : decode cL_law 293 = .ok (.ireturn, 1) := by decide +kernel
theorem dL_law_294 : decode cL_law 294 = .ok (.aload_n 1, 1) := by decide +kernel
theorem dL_law_295 : decode cL_law 295 = .ok (.aload_n 0, 1) := by decide +kernel
theorem dL_law_296 : decode cL_law 296 = .ok (.iload_n 3, 1) := by decide +kernel
theorem dL_law_297 : decode cL_law 297 = .ok (.iconst 1, 1) := by decide +kernel
theorem dL_law_298 : decode cL_law 298 = .ok (.iadd, 1) := by decide +kernel
theorem dL_law_299 : decode cL_law 299 = .ok (.iaload, 1) := by decide +kernel
theorem dL_law_300 : decode cL_law 300 = .ok (.aload_n 0, 1) := by decide +kernel
theorem dL_law_301 : decode cL_law 301 = .ok (.iload_n 3, 1) := by decide +kernel
theorem dL_law_302 : decode cL_law 302 = .ok (.iconst 2, 1) := by decide +kernel
theorem dL_law_303 : decode cL_law 303 = .ok (.iadd, 1) := by decide +kernel
theorem dL_law_304 : decode cL_law 304 = .ok (.iaload, 1) := by decide +kernel
theorem dL_law_305 : decode cL_law 305 = .ok (.invokevirtual 40, 3) := by decide +kernel
theorem dL_law_308 : decode cL_law 308 = .ok (.aload_n 2, 1) := by decide +kernel
theorem dL_law_309 : decode cL_law 309 = .ok (.aload_n 0, 1) := by decide +kernel
theorem dL_law_310 : decode cL_law 310 = .ok (.iload_n 3, 1) := by decide +kernel
theorem dL_law_311 : decode cL_law 311 = .ok (.iconst 1, 1) := by decide +kernel
theorem dL_law_312 : decode cL_law 312 = .ok (.iadd, 1) := by decide +kernel
theorem dL_law_313 : decode cL_law 313 = .ok (.iaload, 1) := by decide +kernel
theorem dL_law_314 : decode cL_law 314 = .ok (.aload_n 0, 1) := by decide +kernel
theorem dL_law_315 : decode cL_law 315 = .ok (.iload_n 3, 1) := by decide +kernel
theorem dL_law_316 : decode cL_law 316 = .ok (.iconst 2, 1) := by decide +kernel
theorem dL_law_317 : decode cL_law 317 = .ok (.iadd, 1) := by decide +kernel
theorem dL_law_318 : decode cL_law 318 = .ok (.iaload, 1) := by decide +kernel
theorem dL_law_319 : decode cL_law 319 = .ok (.invokevirtual 43, 3) := by decide +kernel
theorem dL_law_322 : decode cL_law 322 = .ok (.if_icmp .eq 199, 3) := by decide +kernel
theorem dL_law_325 : decode cL_law 325 = .ok (.iconst 0, 1) := by decide +kernel
theorem dL_law_326 : decode cL_law 326 = .ok (.ireturn, 1) := by decide +kernel
theorem dL_law_327 : decode cL_law 327 = .ok (.aload_n 1, 1) := by decide +kernel
theorem dL_law_328 : decode cL_law 328 = .ok (.aload_n 0, 1) := by decide +kernel
theorem dL_law_329 : decode cL_law 329 = .ok (.iload_n 3, 1) := by decide +kernel
theorem dL_law_330 : decode cL_law 330 = .ok (.iconst 1, 1) := by decide +kernel
theorem dL_law_331 : decode cL_law 331 = .ok (.iadd, 1) := by decide +kernel
theorem dL_law_332 : decode cL_law 332 = .ok (.iaload, 1) := by decide +kernel
theorem dL_law_333 : decode cL_law 333 = .ok (.invokevirtual 44, 3) := by decide +kernel
theorem dL_law_336 : decode cL_law 336 = .ok (.aload_n 2, 1) := by decide +kernel
theorem dL_law_337 : decode cL_law 337 = .ok (.aload_n 0, 1) := by decide +kernel
theorem dL_law_338 : decode cL_law 338 = .ok (.iload_n 3, 1) := by decide +kernel
theorem dL_law_339 : decode cL_law 339 = .ok (.iconst 1, 1) := by decide +kernel
theorem dL_law_340 : decode cL_law 340 = .ok (.iadd, 1) := by decide +kernel
theorem dL_law_341 : decode cL_law 341 = .ok (.iaload, 1) := by decide +kernel
theorem dL_law_342 : decode cL_law 342 = .ok (.invokevirtual 47, 3) := by decide +kernel
theorem dL_law_345 : decode cL_law 345 = .ok (.if_icmp .eq 176, 3) := by decide +kernel
theorem dL_law_348 : decode cL_law 348 = .ok (.iconst 0, 1) := by decide +kernel
theorem dL_law_349 : decode cL_law 349 = .ok (.ireturn, 1) := by decide +kernel
theorem dL_law_350 : decode cL_law 350 = .ok (.aload_n 1, 1) := by decide +kernel
theorem dL_law_351 : decode cL_law 351 = .ok (.aload_n 0, 1) := by decide +kernel
theorem dL_law_352 : decode cL_law 352 = .ok (.iload_n 3, 1) := by decide +kernel
theorem dL_law_353 : decode cL_law 353 = .ok (.iconst 1, 1) := by decide +kernel
theorem dL_law_354 : decode cL_law 354 = .ok (.iadd, 1) := by decide +kernel
theorem dL_law_355 : decode cL_law 355 = .ok (.iaload, 1) := by decide +kernel
theorem dL_law_356 : decode cL_law 356 = .ok (.invokevirtual 48, 3) := by decide +kernel
theorem dL_law_359 : decode cL_law 359 = .ok (.aload_n 2, 1) := by decide +kernel
theorem dL_law_360 : decode cL_law 360 = .ok (.aload_n 0, 1) := by decide +kernel
theorem dL_law_361 : decode cL_law 361 = .ok (.iload_n 3, 1) := by decide +kernel
theorem dL_law_362 : decode cL_law 362 = .ok (.iconst 1, 1) := by decide +kernel
theorem dL_law_363 : decode cL_law 363 = .ok (.iadd, 1) := by decide +kernel
theorem dL_law_364 : decode cL_law 364 = .ok (.iaload, 1) := by decide +kernel
theorem dL_law_365 : decode cL_law 365 = .ok (.invokevirtual 51, 3) := by decide +kernel
theorem dL_law_368 : decode cL_law 368 = .ok (.if_icmp .eq 153, 3) := by decide +kernel
theorem dL_law_371 : decode cL_law 371 = .ok (.iconst 0, 1) := by decide +kernel
theorem dL_law_372 : decode cL_law 372 = .ok (.ireturn, 1) := by decide +kernel
theorem dL_law_373 : decode cL_law 373 = .ok (.aload_n 1, 1) := by decide +kernel
theorem dL_law_374 : decode cL_law 374 = .ok (.invokevirtual 52, 3) := by decide +kernel
theorem dL_law_377 : decode cL_law 377 = .ok (.aload_n 2, 1) := by decide +kernel
theorem dL_law_378 : decode cL_law 378 = .ok (.invokevirtual 56, 3) := by decide +kernel
theorem dL_law_381 : decode cL_law 381 = .ok (.if_icmp .eq 140, 3) := by decide +kernel
theorem dL_law_384 : decode cL_law 384 = .ok (.iconst 0, 1) := by decide +kernel
theorem dL_law_385 : decode cL_law 385 = .ok (.ireturn, 1) := by decide +kernel
theorem dL_law_386 : decode cL_law 386 = .ok (.aload_n 1, 1) := by decide +kernel
theorem dL_law_387 : decode cL_law 387 = .ok (.aload_n 0, 1) := by decide +kernel
theorem dL_law_388 : decode cL_law 388 = .ok (.iload_n 3, 1) := by decide +kernel
theorem dL_law_389 : decode cL_law 389 = .ok (.iconst 1, 1) := by decide +kernel
theorem dL_law_390 : decode cL_law 390 = .ok (.iadd, 1) := by decide +kernel
theorem dL_law_391 : decode cL_law 391 = .ok (.iaload, 1) := by decide +kernel
theorem dL_law_392 : decode cL_law 392 = .ok (.invokevirtual 57, 3) := by decide +kernel
theorem dL_law_395 : decode cL_law 395 = .ok (.aload_n 2, 1) := by decide +kernel
theorem dL_law_396 : decode cL_law 396 = .ok (.aload_n 0, 1) := by decide +kernel
theorem dL_law_397 : decode cL_law 397 = .ok (.iload_n 3, 1) := by decide +kernel
theorem dL_law_398 : decode cL_law 398 = .ok (.iconst 1, 1) := by decide +kernel
theorem dL_law_399 : decode cL_law 399 = .ok (.iadd, 1) := by decide +kernel
theorem dL_law_400 : decode cL_law 400 = .ok (.iaload, 1) := by decide +kernel
theorem dL_law_401 : decode cL_law 401 = .ok (.invokevirtual 60, 3) := by decide +kernel
theorem dL_law_404 : decode cL_law 404 = .ok (.if_icmp .eq 117, 3) := by decide +kernel
theorem dL_law_407 : decode cL_law 407 = .ok (.iconst 0, 1) := by decide +kernel
theorem dL_law_408 : decode cL_law 408 = .ok (.ireturn, 1) := by decide +kernel
theorem dL_law_409 : decode cL_law 409 = .ok (.aload_n 1, 1) := by decide +kernel
theorem dL_law_410 : decode cL_law 410 = .ok (.aload_n 0, 1) := by decide +kernel
theorem dL_law_411 : decode cL_law 411 = .ok (.iload_n 3, 1) := by decide +kernel
theorem dL_law_412 : decode cL_law 412 = .ok (.iconst 1, 1) := by decide +kernel
theorem dL_law_413 : decode cL_law 413 = .ok (.iadd, 1) := by decide +kernel
theorem dL_law_414 : decode cL_law 414 = .ok (.iaload, 1) := by decide +kernel
theorem dL_law_415 : decode cL_law 415 = .ok (.invokevirtual 61, 3) := by decide +kernel
theorem dL_law_418 : decode cL_law 418 = .ok (.aload_n 2, 1) := by decide +kernel
theorem dL_law_419 : decode cL_law 419 = .ok (.aload_n 0, 1) := by decide +kernel
theorem dL_law_420 : decode cL_law 420 = .ok (.iload_n 3, 1) := by decide +kernel
theorem dL_law_421 : decode cL_law 421 = .ok (.iconst 1, 1) := by decide +kernel
theorem dL_law_422 : decode cL_law 422 = .ok (.iadd, 1) := by decide +kernel
theorem dL_law_423 : decode cL_law 423 = .ok (.iaload, 1) := by decide +kernel
theorem dL_law_424 : decode cL_law 424 = .ok (.invokevirtual 64, 3) := by decide +kernel
theorem dL_law_427 : decode cL_law 427 = .ok (.if_icmp .eq 94, 3) := by decide +kernel
theorem dL_law_430 : decode cL_law 430 = .ok (.iconst 0, 1) := by decide +kernel
theorem dL_law_431 : decode cL_law 431 = .ok (.ireturn, 1) := by decide +kernel
theorem dL_law_432 : decode cL_law 432 = .ok (.aload_n 1, 1) := by decide +kernel
theorem dL_law_433 : decode cL_law 433 = .ok (.aload_n 0, 1) := by decide +kernel
theorem dL_law_434 : decode cL_law 434 = .ok (.iload_n 3, 1) := by decide +kernel
theorem dL_law_435 : decode cL_law 435 = .ok (.iconst 1, 1) := by decide +kernel
theorem dL_law_436 : decode cL_law 436 = .ok (.iadd, 1) := by decide +kernel
theorem dL_law_437 : decode cL_law 437 = .ok (.iaload, 1) := by decide +kernel
theorem dL_law_438 : decode cL_law 438 = .ok (.aload_n 0, 1) := by decide +kernel
theorem dL_law_439 : decode cL_law 439 = .ok (.iload_n 3, 1) := by decide +kernel
theorem dL_law_440 : decode cL_law 440 = .ok (.iconst 2, 1) := by decide +kernel
theorem dL_law_441 : decode cL_law 441 = .ok (.iadd, 1) := by decide +kernel
theorem dL_law_442 : decode cL_law 442 = .ok (.iaload, 1) := by decide +kernel
theorem dL_law_443 : decode cL_law 443 = .ok (.invokevirtual 65, 3) := by decide +kernel
theorem dL_law_446 : decode cL_law 446 = .ok (.aload_n 2, 1) := by decide +kernel
theorem dL_law_447 : decode cL_law 447 = .ok (.aload_n 0, 1) := by decide +kernel
theorem dL_law_448 : decode cL_law 448 = .ok (.iload_n 3, 1) := by decide +kernel
theorem dL_law_449 : decode cL_law 449 = .ok (.iconst 1, 1) := by decide +kernel
theorem dL_law_450 : decode cL_law 450 = .ok (.iadd, 1) := by decide +kernel
theorem dL_law_451 : decode cL_law 451 = .ok (.iaload, 1) := by decide +kernel
theorem dL_law_452 : decode cL_law 452 = .ok (.aload_n 0, 1) := by decide +kernel
theorem dL_law_453 : decode cL_law 453 = .ok (.iload_n 3, 1) := by decide +kernel
theorem dL_law_454 : decode cL_law 454 = .ok (.iconst 2, 1) := by decide +kernel
theorem dL_law_455 : decode cL_law 455 = .ok (.iadd, 1) := by decide +kernel
theorem dL_law_456 : decode cL_law 456 = .ok (.iaload, 1) := by decide +kernel
theorem dL_law_457 : decode cL_law 457 = .ok (.invokevirtual 68, 3) := by decide +kernel
theorem dL_law_460 : decode cL_law 460 = .ok (.if_icmp .eq 61, 3) := by decide +kernel
theorem dL_law_463 : decode cL_law 463 = .ok (.iconst 0, 1) := by decide +kernel
theorem dL_law_464 : decode cL_law 464 = .ok (.ireturn, 1) := by decide +kernel
theorem dL_law_465 : decode cL_law 465 = .ok (.aload_n 1, 1) := by decide +kernel
theorem dL_law_466 : decode cL_law 466 = .ok (.aload_n 0, 1) := by decide +kernel
theorem dL_law_467 : decode cL_law 467 = .ok (.iload_n 3, 1) := by decide +kernel
theorem dL_law_468 : decode cL_law 468 = .ok (.iconst 1, 1) := by decide +kernel
theorem dL_law_469 : decode cL_law 469 = .ok (.iadd, 1) := by decide +kernel
theorem dL_law_470 : decode cL_law 470 = .ok (.iaload, 1) := by decide +kernel
theorem dL_law_471 : decode cL_law 471 = .ok (.invokevirtual 69, 3) := by decide +kernel
theorem dL_law_474 : decode cL_law 474 = .ok (.aload_n 2, 1) := by decide +kernel
theorem dL_law_475 : decode cL_law 475 = .ok (.aload_n 0, 1) := by decide +kernel
theorem dL_law_476 : decode cL_law 476 = .ok (.iload_n 3, 1) := by decide +kernel
theorem dL_law_477 : decode cL_law 477 = .ok (.iconst 1, 1) := by decide +kernel
theorem dL_law_478 : decode cL_law 478 = .ok (.iadd, 1) := by decide +kernel
theorem dL_law_479 : decode cL_law 479 = .ok (.iaload, 1) := by decide +kernel
theorem dL_law_480 : decode cL_law 480 = .ok (.invokevirtual 72, 3) := by decide +kernel
theorem dL_law_483 : decode cL_law 483 = .ok (.if_icmp .eq 38, 3) := by decide +kernel
theorem dL_law_486 : decode cL_law 486 = .ok (.iconst 0, 1) := by decide +kernel
theorem dL_law_487 : decode cL_law 487 = .ok (.ireturn, 1) := by decide +kernel
theorem dL_law_488 : decode cL_law 488 = .ok (.aload_n 1, 1) := by decide +kernel
theorem dL_law_489 : decode cL_law 489 = .ok (.aload_n 0, 1) := by decide +kernel
theorem dL_law_490 : decode cL_law 490 = .ok (.iload_n 3, 1) := by decide +kernel
theorem dL_law_491 : decode cL_law 491 = .ok (.iconst 1, 1) := by decide +kernel
theorem dL_law_492 : decode cL_law 492 = .ok (.iadd, 1) := by decide +kernel
theorem dL_law_493 : decode cL_law 493 = .ok (.iaload, 1) := by decide +kernel
theorem dL_law_494 : decode cL_law 494 = .ok (.aload_n 0, 1) := by decide +kernel
theorem dL_law_495 : decode cL_law 495 = .ok (.iload_n 3, 1) := by decide +kernel
theorem dL_law_496 : decode cL_law 496 = .ok (.iconst 2, 1) := by decide +kernel
theorem dL_law_497 : decode cL_law 497 = .ok (.iadd, 1) := by decide +kernel
theorem dL_law_498 : decode cL_law 498 = .ok (.iaload, 1) := by decide +kernel
theorem dL_law_499 : decode cL_law 499 = .ok (.invokevirtual 73, 3) := by decide +kernel
theorem dL_law_502 : decode cL_law 502 = .ok (.aload_n 2, 1) := by decide +kernel
theorem dL_law_503 : decode cL_law 503 = .ok (.aload_n 0, 1) := by decide +kernel
theorem dL_law_504 : decode cL_law 504 = .ok (.iload_n 3, 1) := by decide +kernel
theorem dL_law_505 : decode cL_law 505 = .ok (.iconst 1, 1) := by decide +kernel
theorem dL_law_506 : decode cL_law 506 = .ok (.iadd, 1) := by decide +kernel
theorem dL_law_507 : decode cL_law 507 = .ok (.iaload, 1) := by decide +kernel
theorem dL_law_508 : decode cL_law 508 = .ok (.aload_n 0, 1) := by decide +kernel
theorem dL_law_509 : decode cL_law 509 = .ok (.iload_n 3, 1) := by decide +kernel
theorem dL_law_510 : decode cL_law 510 = .ok (.iconst 2, 1) := by decide +kernel
theorem dL_law_511 : decode cL_law 511 = .ok (.iadd, 1) := by decide +kernel
theorem dL_law_512 : decode cL_law 512 = .ok (.iaload, 1) := by decide +kernel
theorem dL_law_513 : decode cL_law 513 = .ok (.invokevirtual 76, 3) := by decide +kernel
theorem dL_law_516 : decode cL_law 516 = .ok (.if_icmp .eq 5, 3) := by decide +kernel
theorem dL_law_519 : decode cL_law 519 = .ok (.iconst 0, 1) := by decide +kernel
theorem dL_law_520 : decode cL_law 520 = .ok (.ireturn, 1) := by decide +kernel
theorem dL_law_521 : decode cL_law 521 = .ok (.iinc 3 4, 3) := by decide +kernel
theorem dL_law_524 : decode cL_law 524 = .ok (.goto (-506), 3) := by decide +kernel
theorem dL_law_527 : decode cL_law 527 = .ok (.iconst 1, 1) := by decide +kernel
theorem dL_law_528 : decode cL_law 528 = .ok (.ireturn, 1) := by decide +kernel
end
section
set_option maxRecDepth 100000
/-! the machine layer: zz_W: the run from a frame, whatever heap holds the world; a row an instruction, ints as nI of a Nat where they can be -/
abbrev vwCl : List vw_C := [(RX0, TX0, 19), (RX1, TX1, 5)]
abbrev ZG : Type := (Nat → Nat) × ClassId × ClassId
abbrev ZK : Type := Program × Launch × Env × Room × State × MethodId × Array Value × List Frame × Method × Code × (State → Prop) × (Nat → Prop) × va_G × Nat × Nat
abbrev ZL : Type := List (Option Value)
def zk_l (k : ZK) : Launch := k.2.1
def zk_D (k : ZK) : va_G := k.2.2.2.2.2.2.2.2.2.2.2.2.1
def zl_has (ls : Array Slot) (n : Nat) (L : ZL) : Prop := ls.size = n ∧ lv_wf ls ∧ ∀ (i : Nat) (v : Value), L[i]? = some (some v) → v.category = 1 ∧ ls[i]? = some (.val v)
def zz_W : ZK → va_W → Nat → ZL → List Value → Prop
  | (p, l, e, R, s, m, args, below, meth, c, Q, A, D, nc, ns), ws, pc, L, st => ∀ (H : Heap) (locs : List Loc) (ls : Array Slot), va_P D vwCl ws H → va_D A ws → va_S A s.heap H locs → zl_has ls c.maxLocals L → W p l e R s m args below meth c H locs nc ns Q (F0 m pc ls st)
def zz_F : ZK → ZG → String → ByteArray → Nat → Nat → Nat → Prop
  | (p, l, e, R, s, m, args, below, meth, c, Q, A, D, nc, ns), g, own, cc, nL, fr, lo => p.tables.exec = Jvm.exec ∧ c.code = cc ∧ c.maxLocals = nL ∧ s.vm.findClass own = some m.cls ∧ (∀ w ∈ lw_all, w.before args s = true) ∧ va_K D vwCl [(g.2.1, .int), (g.2.2, .boolean)] s ∧ (∀ q, s.heap.size ≤ q → A q) ∧ nc ≤ R.cells ∧ ns ≤ R.slots ∧ fr ≤ R.frames ∧ lo ≤ R.locals
def zl_l (L : ZL) : List (Nat × Value) := (List.range L.length).filterMap (fun i => match L[i]? with
  | some (some v) => some (i, v)
  | _ => none)
theorem zl_mem {L : ZL} {i : Nat} {v : Value} : (i, v) ∈ zl_l L ↔ L[i]? = some (some v) := by
  unfold zl_l
  rw [List.mem_filterMap]
  constructor
  · rintro ⟨j, hj, h⟩
    split at h
    next x hx =>
      cases h
      exact hx
    next => cases h
  · intro h
    refine ⟨i, List.mem_range.mpr (List.getElem?_eq_some_iff.mp h).1, ?_⟩
    rw [h]
theorem zl_lv {ls : Array Slot} {n : Nat} {L : ZL} (h : zl_has ls n L) : lv_has ls n (zl_l L) := ⟨h.1, h.2.1, fun q hq => (h.2.2 q.1 q.2 (zl_mem.mp hq)).2⟩
theorem zl_set {ls ls' : Array Slot} {n : Nat} {L : ZL} {i : Nat} {v : Value} (h : zl_has ls n L) (hc : v.category = 1) (h' : lv_has ls' n ((i, v) :: (zl_l L).filter (fun q => !(q.1 == i) && !(q.1 + 1 == i && q.2.category == 2)))) : zl_has ls' n (L.set i (some v)) := by
  refine ⟨h'.1, h'.2.1, fun j x hj => ?_⟩
  by_cases e : j = i
  · subst e
    have hl : j < L.length := by
      have := (List.getElem?_eq_some_iff.mp hj).1
      simpa using this
    rw [List.getElem?_set_self hl] at hj
    cases hj
    exact ⟨hc, h'.2.2 (j, v) List.mem_cons_self⟩
  · rw [List.getElem?_set_ne (Ne.symm e)] at hj
    have h1 := (h.2.2 j x hj).1
    refine ⟨h1, h'.2.2 (j, x) (List.mem_cons_of_mem _ (List.mem_filter.mpr ⟨zl_mem.mpr hj, ?_⟩))⟩
    simp [e, h1]
theorem zl_args : ∀ (vs : List Value) (i : Nat), (∀ v ∈ vs, v.category = 1) → ∀ (j : Nat) (v : Value), vs[j]? = some v → (i + j, v) ∈ lv_args i vs
  | [], i, _, j, v, h => by simp at h
  | x :: vs, i, hc, j, v, h => by
    have hx : ¬ x.category = 2 := by
      have := hc x List.mem_cons_self
      omega
    cases j with
    | zero =>
      rw [List.getElem?_cons_zero] at h
      cases h
      exact List.mem_cons_self
    | succ j =>
      rw [List.getElem?_cons_succ] at h
      have := zl_args vs (i + 1) (fun v hv => hc v (List.mem_cons_of_mem _ hv)) j v h
      rw [show i + 1 + j = i + (j + 1) by omega] at this
      unfold lv_args
      rw [if_neg hx]
      exact List.mem_cons_of_mem _ this
theorem zl_entry {av : List Value} {nL r : Nat} (hc : ∀ v ∈ av, v.category = 1) (h : (lg_sl av).length ≤ nL) : zl_has ((lg_sl av ++ List.replicate (nL - (lg_sl av).length) Slot.unset).toArray) nL (av.map some ++ List.replicate r none) := by
  have h1 := lv_entry av h
  refine ⟨h1.1, h1.2.1, fun i v hi => ?_⟩
  have hi2 : av[i]? = some v := by
    by_cases hl : i < av.length
    · rw [List.getElem?_append_left (by simpa using hl), List.getElem?_map] at hi
      cases ha : av[i]? with
      | none => rw [ha] at hi; cases hi
      | some x => rw [ha] at hi; simpa using hi
    · rw [List.getElem?_append_right (by simpa using hl)] at hi
      have := List.mem_of_getElem? hi
      simp at this
  refine ⟨hc v (List.mem_of_getElem? hi2), ?_⟩
  have := zl_args av 0 hc i v hi2
  rw [Nat.zero_add] at this
  exact h1.2.2 (i, v) this
end
section
set_option maxRecDepth 100000
theorem zz_iconst {k : ZK} {g : ZG} {own : String} {cc : ByteArray} {nL fr lo pc : Nat} {ws : va_W} {L : ZL} {rest : List Value} {n : Int} {v : Int32} (F : zz_F k g own cc nL fr lo) (hd : decode cc pc = .ok (.iconst n, 1)) (hv : Int32.ofInt n = v) (kk : zz_W k ws (pc + 1) L (.int v :: rest)) : zz_W k ws pc L (rest) := by
  obtain ⟨p, l, e, R, s, m, args, below, meth, c, Q, A, D, nc, ns⟩ := k
  obtain ⟨hx, hb, hml, hown, hts, hK, hA, hnc, hns, hfr, hlo⟩ := F
  intro H locs ls hP hD hS hl
  exact lv_iconst hx hb hd hv (kk H locs ls hP hD hS hl)
theorem zz_bipush {k : ZK} {g : ZG} {own : String} {cc : ByteArray} {nL fr lo pc : Nat} {ws : va_W} {L : ZL} {rest : List Value} {n : Int} {v : Int32} (F : zz_F k g own cc nL fr lo) (hd : decode cc pc = .ok (.bipush n, 2)) (hv : (Int8.ofInt n).toInt32 = v) (kk : zz_W k ws (pc + 2) L (.int v :: rest)) : zz_W k ws pc L (rest) := by
  obtain ⟨p, l, e, R, s, m, args, below, meth, c, Q, A, D, nc, ns⟩ := k
  obtain ⟨hx, hb, hml, hown, hts, hK, hA, hnc, hns, hfr, hlo⟩ := F
  intro H locs ls hP hD hS hl
  exact lv_bipush hx hb hd hv (kk H locs ls hP hD hS hl)
theorem zz_sipush {k : ZK} {g : ZG} {own : String} {cc : ByteArray} {nL fr lo pc : Nat} {ws : va_W} {L : ZL} {rest : List Value} {n : Int} {v : Int32} (F : zz_F k g own cc nL fr lo) (hd : decode cc pc = .ok (.sipush n, 3)) (hv : (Int16.ofInt n).toInt32 = v) (kk : zz_W k ws (pc + 3) L (.int v :: rest)) : zz_W k ws pc L (rest) := by
  obtain ⟨p, l, e, R, s, m, args, below, meth, c, Q, A, D, nc, ns⟩ := k
  obtain ⟨hx, hb, hml, hown, hts, hK, hA, hnc, hns, hfr, hlo⟩ := F
  intro H locs ls hP hD hS hl
  exact lv_sipush hx hb hd hv (kk H locs ls hP hD hS hl)
theorem zz_ldc {k : ZK} {g : ZG} {own : String} {cc : ByteArray} {nL fr lo pc : Nat} {ws : va_W} {L : ZL} {rest : List Value} {index : Nat} {v : Int32} (F : zz_F k g own cc nL fr lo) (hd : decode cc pc = .ok (.ldc index, 2)) (hq : Cond.constant own index v ∈ lw_all) (kk : zz_W k ws (pc + 2) L (.int v :: rest)) : zz_W k ws pc L (rest) := by
  obtain ⟨p, l, e, R, s, m, args, below, meth, c, Q, A, D, nc, ns⟩ := k
  obtain ⟨hx, hb, hml, hown, hts, hK, hA, hnc, hns, hfr, hlo⟩ := F
  intro H locs ls hP hD hS hl
  exact lv_ldc hx hb hown (hts _ hq) hd (kk H locs ls hP hD hS hl)
theorem zz_bipush_m5 {k : ZK} {g : ZG} {own : String} {cc : ByteArray} {nL fr lo pc : Nat} {ws : va_W} {L : ZL} {rest : List Value} (F : zz_F k g own cc nL fr lo) (hd : decode cc pc = .ok (.bipush (-5), 2)) (kk : zz_W k ws (pc + 2) L (.int ((-5)) :: rest)) : zz_W k ws pc L rest := zz_bipush F hd (by decide) kk
theorem zz_bipush_m4 {k : ZK} {g : ZG} {own : String} {cc : ByteArray} {nL fr lo pc : Nat} {ws : va_W} {L : ZL} {rest : List Value} (F : zz_F k g own cc nL fr lo) (hd : decode cc pc = .ok (.bipush (-4), 2)) (kk : zz_W k ws (pc + 2) L (.int ((-4)) :: rest)) : zz_W k ws pc L rest := zz_bipush F hd (by decide) kk
theorem zz_bipush_m3 {k : ZK} {g : ZG} {own : String} {cc : ByteArray} {nL fr lo pc : Nat} {ws : va_W} {L : ZL} {rest : List Value} (F : zz_F k g own cc nL fr lo) (hd : decode cc pc = .ok (.bipush (-3), 2)) (kk : zz_W k ws (pc + 2) L (.int ((-3)) :: rest)) : zz_W k ws pc L rest := zz_bipush F hd (by decide) kk
theorem zz_bipush_m2 {k : ZK} {g : ZG} {own : String} {cc : ByteArray} {nL fr lo pc : Nat} {ws : va_W} {L : ZL} {rest : List Value} (F : zz_F k g own cc nL fr lo) (hd : decode cc pc = .ok (.bipush (-2), 2)) (kk : zz_W k ws (pc + 2) L (.int ((-2)) :: rest)) : zz_W k ws pc L rest := zz_bipush F hd (by decide) kk
theorem zz_bipush_6 {k : ZK} {g : ZG} {own : String} {cc : ByteArray} {nL fr lo pc : Nat} {ws : va_W} {L : ZL} {rest : List Value} (F : zz_F k g own cc nL fr lo) (hd : decode cc pc = .ok (.bipush 6, 2)) (kk : zz_W k ws (pc + 2) L (.int (nI 6) :: rest)) : zz_W k ws pc L rest := zz_bipush F hd (by decide) kk
theorem zz_bipush_7 {k : ZK} {g : ZG} {own : String} {cc : ByteArray} {nL fr lo pc : Nat} {ws : va_W} {L : ZL} {rest : List Value} (F : zz_F k g own cc nL fr lo) (hd : decode cc pc = .ok (.bipush 7, 2)) (kk : zz_W k ws (pc + 2) L (.int (nI 7) :: rest)) : zz_W k ws pc L rest := zz_bipush F hd (by decide) kk
theorem zz_bipush_8 {k : ZK} {g : ZG} {own : String} {cc : ByteArray} {nL fr lo pc : Nat} {ws : va_W} {L : ZL} {rest : List Value} (F : zz_F k g own cc nL fr lo) (hd : decode cc pc = .ok (.bipush 8, 2)) (kk : zz_W k ws (pc + 2) L (.int (nI 8) :: rest)) : zz_W k ws pc L rest := zz_bipush F hd (by decide) kk
theorem zz_bipush_11 {k : ZK} {g : ZG} {own : String} {cc : ByteArray} {nL fr lo pc : Nat} {ws : va_W} {L : ZL} {rest : List Value} (F : zz_F k g own cc nL fr lo) (hd : decode cc pc = .ok (.bipush 11, 2)) (kk : zz_W k ws (pc + 2) L (.int (nI 11) :: rest)) : zz_W k ws pc L rest := zz_bipush F hd (by decide) kk
theorem zz_bipush_13 {k : ZK} {g : ZG} {own : String} {cc : ByteArray} {nL fr lo pc : Nat} {ws : va_W} {L : ZL} {rest : List Value} (F : zz_F k g own cc nL fr lo) (hd : decode cc pc = .ok (.bipush 13, 2)) (kk : zz_W k ws (pc + 2) L (.int (nI 13) :: rest)) : zz_W k ws pc L rest := zz_bipush F hd (by decide) kk
theorem zz_bipush_15 {k : ZK} {g : ZG} {own : String} {cc : ByteArray} {nL fr lo pc : Nat} {ws : va_W} {L : ZL} {rest : List Value} (F : zz_F k g own cc nL fr lo) (hd : decode cc pc = .ok (.bipush 15, 2)) (kk : zz_W k ws (pc + 2) L (.int (nI 15) :: rest)) : zz_W k ws pc L rest := zz_bipush F hd (by decide) kk
theorem zz_bipush_16 {k : ZK} {g : ZG} {own : String} {cc : ByteArray} {nL fr lo pc : Nat} {ws : va_W} {L : ZL} {rest : List Value} (F : zz_F k g own cc nL fr lo) (hd : decode cc pc = .ok (.bipush 16, 2)) (kk : zz_W k ws (pc + 2) L (.int (nI 16) :: rest)) : zz_W k ws pc L rest := zz_bipush F hd (by decide) kk
theorem zz_bipush_17 {k : ZK} {g : ZG} {own : String} {cc : ByteArray} {nL fr lo pc : Nat} {ws : va_W} {L : ZL} {rest : List Value} (F : zz_F k g own cc nL fr lo) (hd : decode cc pc = .ok (.bipush 17, 2)) (kk : zz_W k ws (pc + 2) L (.int (nI 17) :: rest)) : zz_W k ws pc L rest := zz_bipush F hd (by decide) kk
theorem zz_bipush_23 {k : ZK} {g : ZG} {own : String} {cc : ByteArray} {nL fr lo pc : Nat} {ws : va_W} {L : ZL} {rest : List Value} (F : zz_F k g own cc nL fr lo) (hd : decode cc pc = .ok (.bipush 23, 2)) (kk : zz_W k ws (pc + 2) L (.int (nI 23) :: rest)) : zz_W k ws pc L rest := zz_bipush F hd (by decide) kk
theorem zz_bipush_95 {k : ZK} {g : ZG} {own : String} {cc : ByteArray} {nL fr lo pc : Nat} {ws : va_W} {L : ZL} {rest : List Value} (F : zz_F k g own cc nL fr lo) (hd : decode cc pc = .ok (.bipush 95, 2)) (kk : zz_W k ws (pc + 2) L (.int (nI 95) :: rest)) : zz_W k ws pc L rest := zz_bipush F hd (by decide) kk
theorem zz_bipush_96 {k : ZK} {g : ZG} {own : String} {cc : ByteArray} {nL fr lo pc : Nat} {ws : va_W} {L : ZL} {rest : List Value} (F : zz_F k g own cc nL fr lo) (hd : decode cc pc = .ok (.bipush 96, 2)) (kk : zz_W k ws (pc + 2) L (.int (nI 96) :: rest)) : zz_W k ws pc L rest := zz_bipush F hd (by decide) kk
theorem zz_iconst_m1 {k : ZK} {g : ZG} {own : String} {cc : ByteArray} {nL fr lo pc : Nat} {ws : va_W} {L : ZL} {rest : List Value} (F : zz_F k g own cc nL fr lo) (hd : decode cc pc = .ok (.iconst (-1), 1)) (kk : zz_W k ws (pc + 1) L (.int ((-1)) :: rest)) : zz_W k ws pc L rest := zz_iconst F hd (by decide) kk
theorem zz_iconst_0 {k : ZK} {g : ZG} {own : String} {cc : ByteArray} {nL fr lo pc : Nat} {ws : va_W} {L : ZL} {rest : List Value} (F : zz_F k g own cc nL fr lo) (hd : decode cc pc = .ok (.iconst 0, 1)) (kk : zz_W k ws (pc + 1) L (.int (nI 0) :: rest)) : zz_W k ws pc L rest := zz_iconst F hd (by decide) kk
theorem zz_iconst_1 {k : ZK} {g : ZG} {own : String} {cc : ByteArray} {nL fr lo pc : Nat} {ws : va_W} {L : ZL} {rest : List Value} (F : zz_F k g own cc nL fr lo) (hd : decode cc pc = .ok (.iconst 1, 1)) (kk : zz_W k ws (pc + 1) L (.int (nI 1) :: rest)) : zz_W k ws pc L rest := zz_iconst F hd (by decide) kk
theorem zz_iconst_2 {k : ZK} {g : ZG} {own : String} {cc : ByteArray} {nL fr lo pc : Nat} {ws : va_W} {L : ZL} {rest : List Value} (F : zz_F k g own cc nL fr lo) (hd : decode cc pc = .ok (.iconst 2, 1)) (kk : zz_W k ws (pc + 1) L (.int (nI 2) :: rest)) : zz_W k ws pc L rest := zz_iconst F hd (by decide) kk
theorem zz_iconst_3 {k : ZK} {g : ZG} {own : String} {cc : ByteArray} {nL fr lo pc : Nat} {ws : va_W} {L : ZL} {rest : List Value} (F : zz_F k g own cc nL fr lo) (hd : decode cc pc = .ok (.iconst 3, 1)) (kk : zz_W k ws (pc + 1) L (.int (nI 3) :: rest)) : zz_W k ws pc L rest := zz_iconst F hd (by decide) kk
theorem zz_iconst_4 {k : ZK} {g : ZG} {own : String} {cc : ByteArray} {nL fr lo pc : Nat} {ws : va_W} {L : ZL} {rest : List Value} (F : zz_F k g own cc nL fr lo) (hd : decode cc pc = .ok (.iconst 4, 1)) (kk : zz_W k ws (pc + 1) L (.int (nI 4) :: rest)) : zz_W k ws pc L rest := zz_iconst F hd (by decide) kk
theorem zz_iconst_5 {k : ZK} {g : ZG} {own : String} {cc : ByteArray} {nL fr lo pc : Nat} {ws : va_W} {L : ZL} {rest : List Value} (F : zz_F k g own cc nL fr lo) (hd : decode cc pc = .ok (.iconst 5, 1)) (kk : zz_W k ws (pc + 1) L (.int (nI 5) :: rest)) : zz_W k ws pc L rest := zz_iconst F hd (by decide) kk
theorem zz_sipush_131 {k : ZK} {g : ZG} {own : String} {cc : ByteArray} {nL fr lo pc : Nat} {ws : va_W} {L : ZL} {rest : List Value} (F : zz_F k g own cc nL fr lo) (hd : decode cc pc = .ok (.sipush 131, 3)) (kk : zz_W k ws (pc + 3) L (.int (nI 131) :: rest)) : zz_W k ws pc L rest := zz_sipush F hd (by decide) kk
theorem zz_sipush_255 {k : ZK} {g : ZG} {own : String} {cc : ByteArray} {nL fr lo pc : Nat} {ws : va_W} {L : ZL} {rest : List Value} (F : zz_F k g own cc nL fr lo) (hd : decode cc pc = .ok (.sipush 255, 3)) (kk : zz_W k ws (pc + 3) L (.int (nI 255) :: rest)) : zz_W k ws pc L rest := zz_sipush F hd (by decide) kk
theorem zz_sipush_256 {k : ZK} {g : ZG} {own : String} {cc : ByteArray} {nL fr lo pc : Nat} {ws : va_W} {L : ZL} {rest : List Value} (F : zz_F k g own cc nL fr lo) (hd : decode cc pc = .ok (.sipush 256, 3)) (kk : zz_W k ws (pc + 3) L (.int (nI 256) :: rest)) : zz_W k ws pc L rest := zz_sipush F hd (by decide) kk
theorem zz_sipush_257 {k : ZK} {g : ZG} {own : String} {cc : ByteArray} {nL fr lo pc : Nat} {ws : va_W} {L : ZL} {rest : List Value} (F : zz_F k g own cc nL fr lo) (hd : decode cc pc = .ok (.sipush 257, 3)) (kk : zz_W k ws (pc + 3) L (.int (nI 257) :: rest)) : zz_W k ws pc L rest := zz_sipush F hd (by decide) kk
theorem zz_sipush_576 {k : ZK} {g : ZG} {own : String} {cc : ByteArray} {nL fr lo pc : Nat} {ws : va_W} {L : ZL} {rest : List Value} (F : zz_F k g own cc nL fr lo) (hd : decode cc pc = .ok (.sipush 576, 3)) (kk : zz_W k ws (pc + 3) L (.int (nI 576) :: rest)) : zz_W k ws pc L rest := zz_sipush F hd (by decide) kk
theorem zz_sipush_1536 {k : ZK} {g : ZG} {own : String} {cc : ByteArray} {nL fr lo pc : Nat} {ws : va_W} {L : ZL} {rest : List Value} (F : zz_F k g own cc nL fr lo) (hd : decode cc pc = .ok (.sipush 1536, 3)) (kk : zz_W k ws (pc + 3) L (.int (nI 1536) :: rest)) : zz_W k ws pc L rest := zz_sipush F hd (by decide) kk
theorem zz_sipush_30011 {k : ZK} {g : ZG} {own : String} {cc : ByteArray} {nL fr lo pc : Nat} {ws : va_W} {L : ZL} {rest : List Value} (F : zz_F k g own cc nL fr lo) (hd : decode cc pc = .ok (.sipush 30011, 3)) (kk : zz_W k ws (pc + 3) L (.int (nI 30011) :: rest)) : zz_W k ws pc L rest := zz_sipush F hd (by decide) kk
end
section
set_option maxRecDepth 100000
theorem zz_iload_n0 {k : ZK} {g : ZG} {own : String} {cc : ByteArray} {nL fr lo pc : Nat} {ws : va_W} {rest : List Value} {v : Int32} {r : ZL} (F : zz_F k g own cc nL fr lo) (hd : decode cc pc = .ok (.iload_n 0, 1))  (kk : zz_W k ws (pc + 1) (some (.int v) :: r) (.int v :: rest)) : zz_W k ws pc (some (.int v) :: r) (rest) := by
  obtain ⟨p, l, e, R, s, m, args, below, meth, c, Q, A, D, nc, ns⟩ := k
  obtain ⟨hx, hb, hml, hown, hts, hK, hA, hnc, hns, hfr, hlo⟩ := F
  intro H locs ls hP hD hS hl
  exact lv_iload_n hx hb hd rfl (hl.2.2 0 _ rfl).2 (kk H locs ls hP hD hS hl)
theorem zz_iload0 {k : ZK} {g : ZG} {own : String} {cc : ByteArray} {nL fr lo pc : Nat} {ws : va_W} {rest : List Value} {v : Int32} {r : ZL} (F : zz_F k g own cc nL fr lo) (hd : decode cc pc = .ok (.iload 0, 2))  (kk : zz_W k ws (pc + 2) (some (.int v) :: r) (.int v :: rest)) : zz_W k ws pc (some (.int v) :: r) (rest) := by
  obtain ⟨p, l, e, R, s, m, args, below, meth, c, Q, A, D, nc, ns⟩ := k
  obtain ⟨hx, hb, hml, hown, hts, hK, hA, hnc, hns, hfr, hlo⟩ := F
  intro H locs ls hP hD hS hl
  exact lv_iload hx hb hd (hl.2.2 0 _ rfl).2 (kk H locs ls hP hD hS hl)
theorem zz_istore_n0 {k : ZK} {g : ZG} {own : String} {cc : ByteArray} {nL fr lo pc : Nat} {ws : va_W} {rest : List Value} {y : Option Value} {v : Int32} {r : ZL} (F : zz_F k g own cc nL fr lo) (hd : decode cc pc = .ok (.istore_n 0, 1)) (hi : 0 < nL) (kk : zz_W k ws (pc + 1) (some (.int v) :: r) (rest)) : zz_W k ws pc (y :: r) (.int v :: rest) := by
  obtain ⟨p, l, e, R, s, m, args, below, meth, c, Q, A, D, nc, ns⟩ := k
  obtain ⟨hx, hb, hml, hown, hts, hK, hA, hnc, hns, hfr, hlo⟩ := F
  intro H locs ls hP hD hS hl
  exact lv_istore_n hx hb hd rfl (zl_lv hl) (by rw [hml]; exact hi) rfl (fun ls2 h2 => kk H locs ls2 hP hD hS (zl_set (i := 0) hl rfl h2))
theorem zz_istore0 {k : ZK} {g : ZG} {own : String} {cc : ByteArray} {nL fr lo pc : Nat} {ws : va_W} {rest : List Value} {y : Option Value} {v : Int32} {r : ZL} (F : zz_F k g own cc nL fr lo) (hd : decode cc pc = .ok (.istore 0, 2)) (hi : 0 < nL) (kk : zz_W k ws (pc + 2) (some (.int v) :: r) (rest)) : zz_W k ws pc (y :: r) (.int v :: rest) := by
  obtain ⟨p, l, e, R, s, m, args, below, meth, c, Q, A, D, nc, ns⟩ := k
  obtain ⟨hx, hb, hml, hown, hts, hK, hA, hnc, hns, hfr, hlo⟩ := F
  intro H locs ls hP hD hS hl
  exact lv_istore hx hb hd (zl_lv hl) (by rw [hml]; exact hi) rfl (fun ls2 h2 => kk H locs ls2 hP hD hS (zl_set (i := 0) hl rfl h2))
theorem zz_aload_n0 {k : ZK} {g : ZG} {own : String} {cc : ByteArray} {nL fr lo pc : Nat} {ws : va_W} {rest : List Value} {v : Nat} {r : ZL} (F : zz_F k g own cc nL fr lo) (hd : decode cc pc = .ok (.aload_n 0, 1))  (kk : zz_W k ws (pc + 1) (some (.ref v) :: r) (.ref v :: rest)) : zz_W k ws pc (some (.ref v) :: r) (rest) := by
  obtain ⟨p, l, e, R, s, m, args, below, meth, c, Q, A, D, nc, ns⟩ := k
  obtain ⟨hx, hb, hml, hown, hts, hK, hA, hnc, hns, hfr, hlo⟩ := F
  intro H locs ls hP hD hS hl
  exact lv_aload_n hx hb hd rfl (hl.2.2 0 _ rfl).2 (kk H locs ls hP hD hS hl)
theorem zz_aload0 {k : ZK} {g : ZG} {own : String} {cc : ByteArray} {nL fr lo pc : Nat} {ws : va_W} {rest : List Value} {v : Nat} {r : ZL} (F : zz_F k g own cc nL fr lo) (hd : decode cc pc = .ok (.aload 0, 2))  (kk : zz_W k ws (pc + 2) (some (.ref v) :: r) (.ref v :: rest)) : zz_W k ws pc (some (.ref v) :: r) (rest) := by
  obtain ⟨p, l, e, R, s, m, args, below, meth, c, Q, A, D, nc, ns⟩ := k
  obtain ⟨hx, hb, hml, hown, hts, hK, hA, hnc, hns, hfr, hlo⟩ := F
  intro H locs ls hP hD hS hl
  exact lv_aload hx hb hd (hl.2.2 0 _ rfl).2 (kk H locs ls hP hD hS hl)
theorem zz_astore_n0 {k : ZK} {g : ZG} {own : String} {cc : ByteArray} {nL fr lo pc : Nat} {ws : va_W} {rest : List Value} {y : Option Value} {v : Nat} {r : ZL} (F : zz_F k g own cc nL fr lo) (hd : decode cc pc = .ok (.astore_n 0, 1)) (hi : 0 < nL) (kk : zz_W k ws (pc + 1) (some (.ref v) :: r) (rest)) : zz_W k ws pc (y :: r) (.ref v :: rest) := by
  obtain ⟨p, l, e, R, s, m, args, below, meth, c, Q, A, D, nc, ns⟩ := k
  obtain ⟨hx, hb, hml, hown, hts, hK, hA, hnc, hns, hfr, hlo⟩ := F
  intro H locs ls hP hD hS hl
  exact lv_astore_n hx hb hd rfl (zl_lv hl) (by rw [hml]; exact hi) rfl (fun ls2 h2 => kk H locs ls2 hP hD hS (zl_set (i := 0) hl rfl h2))
theorem zz_astore0 {k : ZK} {g : ZG} {own : String} {cc : ByteArray} {nL fr lo pc : Nat} {ws : va_W} {rest : List Value} {y : Option Value} {v : Nat} {r : ZL} (F : zz_F k g own cc nL fr lo) (hd : decode cc pc = .ok (.astore 0, 2)) (hi : 0 < nL) (kk : zz_W k ws (pc + 2) (some (.ref v) :: r) (rest)) : zz_W k ws pc (y :: r) (.ref v :: rest) := by
  obtain ⟨p, l, e, R, s, m, args, below, meth, c, Q, A, D, nc, ns⟩ := k
  obtain ⟨hx, hb, hml, hown, hts, hK, hA, hnc, hns, hfr, hlo⟩ := F
  intro H locs ls hP hD hS hl
  exact lv_astore hx hb hd (zl_lv hl) (by rw [hml]; exact hi) rfl (fun ls2 h2 => kk H locs ls2 hP hD hS (zl_set (i := 0) hl rfl h2))
theorem zz_iincG0 {k : ZK} {g : ZG} {own : String} {cc : ByteArray} {nL fr lo pc : Nat} {ws : va_W} {rest : List Value} {v v2 : Int32} {n : Int} {r : ZL} (F : zz_F k g own cc nL fr lo) (hd : decode cc pc = .ok (.iinc 0 n, 3)) (hi : 0 < nL) (hv : v + Int32.ofInt n = v2) (kk : zz_W k ws (pc + 3) (some (.int v2) :: r) (rest)) : zz_W k ws pc (some (.int v) :: r) (rest) := by
  obtain ⟨p, l, e, R, s, m, args, below, meth, c, Q, A, D, nc, ns⟩ := k
  obtain ⟨hx, hb, hml, hown, hts, hK, hA, hnc, hns, hfr, hlo⟩ := F
  intro H locs ls hP hD hS hl
  obtain ⟨kx, hkx⟩ := List.getElem?_of_mem (zl_mem.mpr (show (some (.int v) :: r)[0]? = some (some (.int v)) from rfl))
  exact lv_iinc hx hb hd (zl_lv hl) hkx hv (by rw [hml]; exact hi) rfl (fun ls2 h2 => kk H locs ls2 hP hD hS (zl_set (i := 0) hl rfl h2))
theorem zz_iinc0 {k : ZK} {g : ZG} {own : String} {cc : ByteArray} {nL fr lo pc : Nat} {ws : va_W} {rest : List Value} {a : Nat} {r : ZL} (F : zz_F k g own cc nL fr lo) (hd : decode cc pc = .ok (.iinc 0 1, 3)) (hi : 0 < nL) (kk : zz_W k ws (pc + 3) (some (.int (nI (a + 1))) :: r) rest) : zz_W k ws pc (some (.int (nI a)) :: r) rest := zz_iincG0 F hd hi (nI_1 a) kk
theorem zz_idec0 {k : ZK} {g : ZG} {own : String} {cc : ByteArray} {nL fr lo pc : Nat} {ws : va_W} {rest : List Value} {a : Nat} {r : ZL} (F : zz_F k g own cc nL fr lo) (hd : decode cc pc = .ok (.iinc 0 (-1), 3)) (hi : 0 < nL) (kk : zz_W k ws (pc + 3) (some (.int (nI a)) :: r) rest) : zz_W k ws pc (some (.int (nI (a + 1))) :: r) rest := zz_iincG0 F hd hi (pk_m1 a) kk
theorem zz_iload_n1 {k : ZK} {g : ZG} {own : String} {cc : ByteArray} {nL fr lo pc : Nat} {ws : va_W} {rest : List Value} {x0 : Option Value} {v : Int32} {r : ZL} (F : zz_F k g own cc nL fr lo) (hd : decode cc pc = .ok (.iload_n 1, 1))  (kk : zz_W k ws (pc + 1) (x0 :: some (.int v) :: r) (.int v :: rest)) : zz_W k ws pc (x0 :: some (.int v) :: r) (rest) := by
  obtain ⟨p, l, e, R, s, m, args, below, meth, c, Q, A, D, nc, ns⟩ := k
  obtain ⟨hx, hb, hml, hown, hts, hK, hA, hnc, hns, hfr, hlo⟩ := F
  intro H locs ls hP hD hS hl
  exact lv_iload_n hx hb hd rfl (hl.2.2 1 _ rfl).2 (kk H locs ls hP hD hS hl)
theorem zz_iload1 {k : ZK} {g : ZG} {own : String} {cc : ByteArray} {nL fr lo pc : Nat} {ws : va_W} {rest : List Value} {x0 : Option Value} {v : Int32} {r : ZL} (F : zz_F k g own cc nL fr lo) (hd : decode cc pc = .ok (.iload 1, 2))  (kk : zz_W k ws (pc + 2) (x0 :: some (.int v) :: r) (.int v :: rest)) : zz_W k ws pc (x0 :: some (.int v) :: r) (rest) := by
  obtain ⟨p, l, e, R, s, m, args, below, meth, c, Q, A, D, nc, ns⟩ := k
  obtain ⟨hx, hb, hml, hown, hts, hK, hA, hnc, hns, hfr, hlo⟩ := F
  intro H locs ls hP hD hS hl
  exact lv_iload hx hb hd (hl.2.2 1 _ rfl).2 (kk H locs ls hP hD hS hl)
theorem zz_istore_n1 {k : ZK} {g : ZG} {own : String} {cc : ByteArray} {nL fr lo pc : Nat} {ws : va_W} {rest : List Value} {x0 : Option Value} {y : Option Value} {v : Int32} {r : ZL} (F : zz_F k g own cc nL fr lo) (hd : decode cc pc = .ok (.istore_n 1, 1)) (hi : 1 < nL) (kk : zz_W k ws (pc + 1) (x0 :: some (.int v) :: r) (rest)) : zz_W k ws pc (x0 :: y :: r) (.int v :: rest) := by
  obtain ⟨p, l, e, R, s, m, args, below, meth, c, Q, A, D, nc, ns⟩ := k
  obtain ⟨hx, hb, hml, hown, hts, hK, hA, hnc, hns, hfr, hlo⟩ := F
  intro H locs ls hP hD hS hl
  exact lv_istore_n hx hb hd rfl (zl_lv hl) (by rw [hml]; exact hi) rfl (fun ls2 h2 => kk H locs ls2 hP hD hS (zl_set (i := 1) hl rfl h2))
theorem zz_istore1 {k : ZK} {g : ZG} {own : String} {cc : ByteArray} {nL fr lo pc : Nat} {ws : va_W} {rest : List Value} {x0 : Option Value} {y : Option Value} {v : Int32} {r : ZL} (F : zz_F k g own cc nL fr lo) (hd : decode cc pc = .ok (.istore 1, 2)) (hi : 1 < nL) (kk : zz_W k ws (pc + 2) (x0 :: some (.int v) :: r) (rest)) : zz_W k ws pc (x0 :: y :: r) (.int v :: rest) := by
  obtain ⟨p, l, e, R, s, m, args, below, meth, c, Q, A, D, nc, ns⟩ := k
  obtain ⟨hx, hb, hml, hown, hts, hK, hA, hnc, hns, hfr, hlo⟩ := F
  intro H locs ls hP hD hS hl
  exact lv_istore hx hb hd (zl_lv hl) (by rw [hml]; exact hi) rfl (fun ls2 h2 => kk H locs ls2 hP hD hS (zl_set (i := 1) hl rfl h2))
theorem zz_aload_n1 {k : ZK} {g : ZG} {own : String} {cc : ByteArray} {nL fr lo pc : Nat} {ws : va_W} {rest : List Value} {x0 : Option Value} {v : Nat} {r : ZL} (F : zz_F k g own cc nL fr lo) (hd : decode cc pc = .ok (.aload_n 1, 1))  (kk : zz_W k ws (pc + 1) (x0 :: some (.ref v) :: r) (.ref v :: rest)) : zz_W k ws pc (x0 :: some (.ref v) :: r) (rest) := by
  obtain ⟨p, l, e, R, s, m, args, below, meth, c, Q, A, D, nc, ns⟩ := k
  obtain ⟨hx, hb, hml, hown, hts, hK, hA, hnc, hns, hfr, hlo⟩ := F
  intro H locs ls hP hD hS hl
  exact lv_aload_n hx hb hd rfl (hl.2.2 1 _ rfl).2 (kk H locs ls hP hD hS hl)
theorem zz_aload1 {k : ZK} {g : ZG} {own : String} {cc : ByteArray} {nL fr lo pc : Nat} {ws : va_W} {rest : List Value} {x0 : Option Value} {v : Nat} {r : ZL} (F : zz_F k g own cc nL fr lo) (hd : decode cc pc = .ok (.aload 1, 2))  (kk : zz_W k ws (pc + 2) (x0 :: some (.ref v) :: r) (.ref v :: rest)) : zz_W k ws pc (x0 :: some (.ref v) :: r) (rest) := by
  obtain ⟨p, l, e, R, s, m, args, below, meth, c, Q, A, D, nc, ns⟩ := k
  obtain ⟨hx, hb, hml, hown, hts, hK, hA, hnc, hns, hfr, hlo⟩ := F
  intro H locs ls hP hD hS hl
  exact lv_aload hx hb hd (hl.2.2 1 _ rfl).2 (kk H locs ls hP hD hS hl)
theorem zz_astore_n1 {k : ZK} {g : ZG} {own : String} {cc : ByteArray} {nL fr lo pc : Nat} {ws : va_W} {rest : List Value} {x0 : Option Value} {y : Option Value} {v : Nat} {r : ZL} (F : zz_F k g own cc nL fr lo) (hd : decode cc pc = .ok (.astore_n 1, 1)) (hi : 1 < nL) (kk : zz_W k ws (pc + 1) (x0 :: some (.ref v) :: r) (rest)) : zz_W k ws pc (x0 :: y :: r) (.ref v :: rest) := by
  obtain ⟨p, l, e, R, s, m, args, below, meth, c, Q, A, D, nc, ns⟩ := k
  obtain ⟨hx, hb, hml, hown, hts, hK, hA, hnc, hns, hfr, hlo⟩ := F
  intro H locs ls hP hD hS hl
  exact lv_astore_n hx hb hd rfl (zl_lv hl) (by rw [hml]; exact hi) rfl (fun ls2 h2 => kk H locs ls2 hP hD hS (zl_set (i := 1) hl rfl h2))
theorem zz_astore1 {k : ZK} {g : ZG} {own : String} {cc : ByteArray} {nL fr lo pc : Nat} {ws : va_W} {rest : List Value} {x0 : Option Value} {y : Option Value} {v : Nat} {r : ZL} (F : zz_F k g own cc nL fr lo) (hd : decode cc pc = .ok (.astore 1, 2)) (hi : 1 < nL) (kk : zz_W k ws (pc + 2) (x0 :: some (.ref v) :: r) (rest)) : zz_W k ws pc (x0 :: y :: r) (.ref v :: rest) := by
  obtain ⟨p, l, e, R, s, m, args, below, meth, c, Q, A, D, nc, ns⟩ := k
  obtain ⟨hx, hb, hml, hown, hts, hK, hA, hnc, hns, hfr, hlo⟩ := F
  intro H locs ls hP hD hS hl
  exact lv_astore hx hb hd (zl_lv hl) (by rw [hml]; exact hi) rfl (fun ls2 h2 => kk H locs ls2 hP hD hS (zl_set (i := 1) hl rfl h2))
theorem zz_iincG1 {k : ZK} {g : ZG} {own : String} {cc : ByteArray} {nL fr lo pc : Nat} {ws : va_W} {rest : List Value} {x0 : Option Value} {v v2 : Int32} {n : Int} {r : ZL} (F : zz_F k g own cc nL fr lo) (hd : decode cc pc = .ok (.iinc 1 n, 3)) (hi : 1 < nL) (hv : v + Int32.ofInt n = v2) (kk : zz_W k ws (pc + 3) (x0 :: some (.int v2) :: r) (rest)) : zz_W k ws pc (x0 :: some (.int v) :: r) (rest) := by
  obtain ⟨p, l, e, R, s, m, args, below, meth, c, Q, A, D, nc, ns⟩ := k
  obtain ⟨hx, hb, hml, hown, hts, hK, hA, hnc, hns, hfr, hlo⟩ := F
  intro H locs ls hP hD hS hl
  obtain ⟨kx, hkx⟩ := List.getElem?_of_mem (zl_mem.mpr (show (x0 :: some (.int v) :: r)[1]? = some (some (.int v)) from rfl))
  exact lv_iinc hx hb hd (zl_lv hl) hkx hv (by rw [hml]; exact hi) rfl (fun ls2 h2 => kk H locs ls2 hP hD hS (zl_set (i := 1) hl rfl h2))
theorem zz_iinc1 {k : ZK} {g : ZG} {own : String} {cc : ByteArray} {nL fr lo pc : Nat} {ws : va_W} {rest : List Value} {x0 : Option Value} {a : Nat} {r : ZL} (F : zz_F k g own cc nL fr lo) (hd : decode cc pc = .ok (.iinc 1 1, 3)) (hi : 1 < nL) (kk : zz_W k ws (pc + 3) (x0 :: some (.int (nI (a + 1))) :: r) rest) : zz_W k ws pc (x0 :: some (.int (nI a)) :: r) rest := zz_iincG1 F hd hi (nI_1 a) kk
theorem zz_idec1 {k : ZK} {g : ZG} {own : String} {cc : ByteArray} {nL fr lo pc : Nat} {ws : va_W} {rest : List Value} {x0 : Option Value} {a : Nat} {r : ZL} (F : zz_F k g own cc nL fr lo) (hd : decode cc pc = .ok (.iinc 1 (-1), 3)) (hi : 1 < nL) (kk : zz_W k ws (pc + 3) (x0 :: some (.int (nI a)) :: r) rest) : zz_W k ws pc (x0 :: some (.int (nI (a + 1))) :: r) rest := zz_iincG1 F hd hi (pk_m1 a) kk
theorem zz_iload_n2 {k : ZK} {g : ZG} {own : String} {cc : ByteArray} {nL fr lo pc : Nat} {ws : va_W} {rest : List Value} {x0 x1 : Option Value} {v : Int32} {r : ZL} (F : zz_F k g own cc nL fr lo) (hd : decode cc pc = .ok (.iload_n 2, 1))  (kk : zz_W k ws (pc + 1) (x0 :: x1 :: some (.int v) :: r) (.int v :: rest)) : zz_W k ws pc (x0 :: x1 :: some (.int v) :: r) (rest) := by
  obtain ⟨p, l, e, R, s, m, args, below, meth, c, Q, A, D, nc, ns⟩ := k
  obtain ⟨hx, hb, hml, hown, hts, hK, hA, hnc, hns, hfr, hlo⟩ := F
  intro H locs ls hP hD hS hl
  exact lv_iload_n hx hb hd rfl (hl.2.2 2 _ rfl).2 (kk H locs ls hP hD hS hl)
theorem zz_iload2 {k : ZK} {g : ZG} {own : String} {cc : ByteArray} {nL fr lo pc : Nat} {ws : va_W} {rest : List Value} {x0 x1 : Option Value} {v : Int32} {r : ZL} (F : zz_F k g own cc nL fr lo) (hd : decode cc pc = .ok (.iload 2, 2))  (kk : zz_W k ws (pc + 2) (x0 :: x1 :: some (.int v) :: r) (.int v :: rest)) : zz_W k ws pc (x0 :: x1 :: some (.int v) :: r) (rest) := by
  obtain ⟨p, l, e, R, s, m, args, below, meth, c, Q, A, D, nc, ns⟩ := k
  obtain ⟨hx, hb, hml, hown, hts, hK, hA, hnc, hns, hfr, hlo⟩ := F
  intro H locs ls hP hD hS hl
  exact lv_iload hx hb hd (hl.2.2 2 _ rfl).2 (kk H locs ls hP hD hS hl)
theorem zz_istore_n2 {k : ZK} {g : ZG} {own : String} {cc : ByteArray} {nL fr lo pc : Nat} {ws : va_W} {rest : List Value} {x0 x1 : Option Value} {y : Option Value} {v : Int32} {r : ZL} (F : zz_F k g own cc nL fr lo) (hd : decode cc pc = .ok (.istore_n 2, 1)) (hi : 2 < nL) (kk : zz_W k ws (pc + 1) (x0 :: x1 :: some (.int v) :: r) (rest)) : zz_W k ws pc (x0 :: x1 :: y :: r) (.int v :: rest) := by
  obtain ⟨p, l, e, R, s, m, args, below, meth, c, Q, A, D, nc, ns⟩ := k
  obtain ⟨hx, hb, hml, hown, hts, hK, hA, hnc, hns, hfr, hlo⟩ := F
  intro H locs ls hP hD hS hl
  exact lv_istore_n hx hb hd rfl (zl_lv hl) (by rw [hml]; exact hi) rfl (fun ls2 h2 => kk H locs ls2 hP hD hS (zl_set (i := 2) hl rfl h2))
theorem zz_istore2 {k : ZK} {g : ZG} {own : String} {cc : ByteArray} {nL fr lo pc : Nat} {ws : va_W} {rest : List Value} {x0 x1 : Option Value} {y : Option Value} {v : Int32} {r : ZL} (F : zz_F k g own cc nL fr lo) (hd : decode cc pc = .ok (.istore 2, 2)) (hi : 2 < nL) (kk : zz_W k ws (pc + 2) (x0 :: x1 :: some (.int v) :: r) (rest)) : zz_W k ws pc (x0 :: x1 :: y :: r) (.int v :: rest) := by
  obtain ⟨p, l, e, R, s, m, args, below, meth, c, Q, A, D, nc, ns⟩ := k
  obtain ⟨hx, hb, hml, hown, hts, hK, hA, hnc, hns, hfr, hlo⟩ := F
  intro H locs ls hP hD hS hl
  exact lv_istore hx hb hd (zl_lv hl) (by rw [hml]; exact hi) rfl (fun ls2 h2 => kk H locs ls2 hP hD hS (zl_set (i := 2) hl rfl h2))
theorem zz_aload_n2 {k : ZK} {g : ZG} {own : String} {cc : ByteArray} {nL fr lo pc : Nat} {ws : va_W} {rest : List Value} {x0 x1 : Option Value} {v : Nat} {r : ZL} (F : zz_F k g own cc nL fr lo) (hd : decode cc pc = .ok (.aload_n 2, 1))  (kk : zz_W k ws (pc + 1) (x0 :: x1 :: some (.ref v) :: r) (.ref v :: rest)) : zz_W k ws pc (x0 :: x1 :: some (.ref v) :: r) (rest) := by
  obtain ⟨p, l, e, R, s, m, args, below, meth, c, Q, A, D, nc, ns⟩ := k
  obtain ⟨hx, hb, hml, hown, hts, hK, hA, hnc, hns, hfr, hlo⟩ := F
  intro H locs ls hP hD hS hl
  exact lv_aload_n hx hb hd rfl (hl.2.2 2 _ rfl).2 (kk H locs ls hP hD hS hl)
theorem zz_aload2 {k : ZK} {g : ZG} {own : String} {cc : ByteArray} {nL fr lo pc : Nat} {ws : va_W} {rest : List Value} {x0 x1 : Option Value} {v : Nat} {r : ZL} (F : zz_F k g own cc nL fr lo) (hd : decode cc pc = .ok (.aload 2, 2))  (kk : zz_W k ws (pc + 2) (x0 :: x1 :: some (.ref v) :: r) (.ref v :: rest)) : zz_W k ws pc (x0 :: x1 :: some (.ref v) :: r) (rest) := by
  obtain ⟨p, l, e, R, s, m, args, below, meth, c, Q, A, D, nc, ns⟩ := k
  obtain ⟨hx, hb, hml, hown, hts, hK, hA, hnc, hns, hfr, hlo⟩ := F
  intro H locs ls hP hD hS hl
  exact lv_aload hx hb hd (hl.2.2 2 _ rfl).2 (kk H locs ls hP hD hS hl)
theorem zz_astore_n2 {k : ZK} {g : ZG} {own : String} {cc : ByteArray} {nL fr lo pc : Nat} {ws : va_W} {rest : List Value} {x0 x1 : Option Value} {y : Option Value} {v : Nat} {r : ZL} (F : zz_F k g own cc nL fr lo) (hd : decode cc pc = .ok (.astore_n 2, 1)) (hi : 2 < nL) (kk : zz_W k ws (pc + 1) (x0 :: x1 :: some (.ref v) :: r) (rest)) : zz_W k ws pc (x0 :: x1 :: y :: r) (.ref v :: rest) := by
  obtain ⟨p, l, e, R, s, m, args, below, meth, c, Q, A, D, nc, ns⟩ := k
  obtain ⟨hx, hb, hml, hown, hts, hK, hA, hnc, hns, hfr, hlo⟩ := F
  intro H locs ls hP hD hS hl
  exact lv_astore_n hx hb hd rfl (zl_lv hl) (by rw [hml]; exact hi) rfl (fun ls2 h2 => kk H locs ls2 hP hD hS (zl_set (i := 2) hl rfl h2))
theorem zz_astore2 {k : ZK} {g : ZG} {own : String} {cc : ByteArray} {nL fr lo pc : Nat} {ws : va_W} {rest : List Value} {x0 x1 : Option Value} {y : Option Value} {v : Nat} {r : ZL} (F : zz_F k g own cc nL fr lo) (hd : decode cc pc = .ok (.astore 2, 2)) (hi : 2 < nL) (kk : zz_W k ws (pc + 2) (x0 :: x1 :: some (.ref v) :: r) (rest)) : zz_W k ws pc (x0 :: x1 :: y :: r) (.ref v :: rest) := by
  obtain ⟨p, l, e, R, s, m, args, below, meth, c, Q, A, D, nc, ns⟩ := k
  obtain ⟨hx, hb, hml, hown, hts, hK, hA, hnc, hns, hfr, hlo⟩ := F
  intro H locs ls hP hD hS hl
  exact lv_astore hx hb hd (zl_lv hl) (by rw [hml]; exact hi) rfl (fun ls2 h2 => kk H locs ls2 hP hD hS (zl_set (i := 2) hl rfl h2))
theorem zz_iincG2 {k : ZK} {g : ZG} {own : String} {cc : ByteArray} {nL fr lo pc : Nat} {ws : va_W} {rest : List Value} {x0 x1 : Option Value} {v v2 : Int32} {n : Int} {r : ZL} (F : zz_F k g own cc nL fr lo) (hd : decode cc pc = .ok (.iinc 2 n, 3)) (hi : 2 < nL) (hv : v + Int32.ofInt n = v2) (kk : zz_W k ws (pc + 3) (x0 :: x1 :: some (.int v2) :: r) (rest)) : zz_W k ws pc (x0 :: x1 :: some (.int v) :: r) (rest) := by
  obtain ⟨p, l, e, R, s, m, args, below, meth, c, Q, A, D, nc, ns⟩ := k
  obtain ⟨hx, hb, hml, hown, hts, hK, hA, hnc, hns, hfr, hlo⟩ := F
  intro H locs ls hP hD hS hl
  obtain ⟨kx, hkx⟩ := List.getElem?_of_mem (zl_mem.mpr (show (x0 :: x1 :: some (.int v) :: r)[2]? = some (some (.int v)) from rfl))
  exact lv_iinc hx hb hd (zl_lv hl) hkx hv (by rw [hml]; exact hi) rfl (fun ls2 h2 => kk H locs ls2 hP hD hS (zl_set (i := 2) hl rfl h2))
theorem zz_iinc2 {k : ZK} {g : ZG} {own : String} {cc : ByteArray} {nL fr lo pc : Nat} {ws : va_W} {rest : List Value} {x0 x1 : Option Value} {a : Nat} {r : ZL} (F : zz_F k g own cc nL fr lo) (hd : decode cc pc = .ok (.iinc 2 1, 3)) (hi : 2 < nL) (kk : zz_W k ws (pc + 3) (x0 :: x1 :: some (.int (nI (a + 1))) :: r) rest) : zz_W k ws pc (x0 :: x1 :: some (.int (nI a)) :: r) rest := zz_iincG2 F hd hi (nI_1 a) kk
theorem zz_idec2 {k : ZK} {g : ZG} {own : String} {cc : ByteArray} {nL fr lo pc : Nat} {ws : va_W} {rest : List Value} {x0 x1 : Option Value} {a : Nat} {r : ZL} (F : zz_F k g own cc nL fr lo) (hd : decode cc pc = .ok (.iinc 2 (-1), 3)) (hi : 2 < nL) (kk : zz_W k ws (pc + 3) (x0 :: x1 :: some (.int (nI a)) :: r) rest) : zz_W k ws pc (x0 :: x1 :: some (.int (nI (a + 1))) :: r) rest := zz_iincG2 F hd hi (pk_m1 a) kk
theorem zz_iload_n3 {k : ZK} {g : ZG} {own : String} {cc : ByteArray} {nL fr lo pc : Nat} {ws : va_W} {rest : List Value} {x0 x1 x2 : Option Value} {v : Int32} {r : ZL} (F : zz_F k g own cc nL fr lo) (hd : decode cc pc = .ok (.iload_n 3, 1))  (kk : zz_W k ws (pc + 1) (x0 :: x1 :: x2 :: some (.int v) :: r) (.int v :: rest)) : zz_W k ws pc (x0 :: x1 :: x2 :: some (.int v) :: r) (rest) := by
  obtain ⟨p, l, e, R, s, m, args, below, meth, c, Q, A, D, nc, ns⟩ := k
  obtain ⟨hx, hb, hml, hown, hts, hK, hA, hnc, hns, hfr, hlo⟩ := F
  intro H locs ls hP hD hS hl
  exact lv_iload_n hx hb hd rfl (hl.2.2 3 _ rfl).2 (kk H locs ls hP hD hS hl)
theorem zz_iload3 {k : ZK} {g : ZG} {own : String} {cc : ByteArray} {nL fr lo pc : Nat} {ws : va_W} {rest : List Value} {x0 x1 x2 : Option Value} {v : Int32} {r : ZL} (F : zz_F k g own cc nL fr lo) (hd : decode cc pc = .ok (.iload 3, 2))  (kk : zz_W k ws (pc + 2) (x0 :: x1 :: x2 :: some (.int v) :: r) (.int v :: rest)) : zz_W k ws pc (x0 :: x1 :: x2 :: some (.int v) :: r) (rest) := by
  obtain ⟨p, l, e, R, s, m, args, below, meth, c, Q, A, D, nc, ns⟩ := k
  obtain ⟨hx, hb, hml, hown, hts, hK, hA, hnc, hns, hfr, hlo⟩ := F
  intro H locs ls hP hD hS hl
  exact lv_iload hx hb hd (hl.2.2 3 _ rfl).2 (kk H locs ls hP hD hS hl)
theorem zz_istore_n3 {k : ZK} {g : ZG} {own : String} {cc : ByteArray} {nL fr lo pc : Nat} {ws : va_W} {rest : List Value} {x0 x1 x2 : Option Value} {y : Option Value} {v : Int32} {r : ZL} (F : zz_F k g own cc nL fr lo) (hd : decode cc pc = .ok (.istore_n 3, 1)) (hi : 3 < nL) (kk : zz_W k ws (pc + 1) (x0 :: x1 :: x2 :: some (.int v) :: r) (rest)) : zz_W k ws pc (x0 :: x1 :: x2 :: y :: r) (.int v :: rest) := by
  obtain ⟨p, l, e, R, s, m, args, below, meth, c, Q, A, D, nc, ns⟩ := k
  obtain ⟨hx, hb, hml, hown, hts, hK, hA, hnc, hns, hfr, hlo⟩ := F
  intro H locs ls hP hD hS hl
  exact lv_istore_n hx hb hd rfl (zl_lv hl) (by rw [hml]; exact hi) rfl (fun ls2 h2 => kk H locs ls2 hP hD hS (zl_set (i := 3) hl rfl h2))
theorem zz_istore3 {k : ZK} {g : ZG} {own : String} {cc : ByteArray} {nL fr lo pc : Nat} {ws : va_W} {rest : List Value} {x0 x1 x2 : Option Value} {y : Option Value} {v : Int32} {r : ZL} (F : zz_F k g own cc nL fr lo) (hd : decode cc pc = .ok (.istore 3, 2)) (hi : 3 < nL) (kk : zz_W k ws (pc + 2) (x0 :: x1 :: x2 :: some (.int v) :: r) (rest)) : zz_W k ws pc (x0 :: x1 :: x2 :: y :: r) (.int v :: rest) := by
  obtain ⟨p, l, e, R, s, m, args, below, meth, c, Q, A, D, nc, ns⟩ := k
  obtain ⟨hx, hb, hml, hown, hts, hK, hA, hnc, hns, hfr, hlo⟩ := F
  intro H locs ls hP hD hS hl
  exact lv_istore hx hb hd (zl_lv hl) (by rw [hml]; exact hi) rfl (fun ls2 h2 => kk H locs ls2 hP hD hS (zl_set (i := 3) hl rfl h2))
theorem zz_aload_n3 {k : ZK} {g : ZG} {own : String} {cc : ByteArray} {nL fr lo pc : Nat} {ws : va_W} {rest : List Value} {x0 x1 x2 : Option Value} {v : Nat} {r : ZL} (F : zz_F k g own cc nL fr lo) (hd : decode cc pc = .ok (.aload_n 3, 1))  (kk : zz_W k ws (pc + 1) (x0 :: x1 :: x2 :: some (.ref v) :: r) (.ref v :: rest)) : zz_W k ws pc (x0 :: x1 :: x2 :: some (.ref v) :: r) (rest) := by
  obtain ⟨p, l, e, R, s, m, args, below, meth, c, Q, A, D, nc, ns⟩ := k
  obtain ⟨hx, hb, hml, hown, hts, hK, hA, hnc, hns, hfr, hlo⟩ := F
  intro H locs ls hP hD hS hl
  exact lv_aload_n hx hb hd rfl (hl.2.2 3 _ rfl).2 (kk H locs ls hP hD hS hl)
theorem zz_aload3 {k : ZK} {g : ZG} {own : String} {cc : ByteArray} {nL fr lo pc : Nat} {ws : va_W} {rest : List Value} {x0 x1 x2 : Option Value} {v : Nat} {r : ZL} (F : zz_F k g own cc nL fr lo) (hd : decode cc pc = .ok (.aload 3, 2))  (kk : zz_W k ws (pc + 2) (x0 :: x1 :: x2 :: some (.ref v) :: r) (.ref v :: rest)) : zz_W k ws pc (x0 :: x1 :: x2 :: some (.ref v) :: r) (rest) := by
  obtain ⟨p, l, e, R, s, m, args, below, meth, c, Q, A, D, nc, ns⟩ := k
  obtain ⟨hx, hb, hml, hown, hts, hK, hA, hnc, hns, hfr, hlo⟩ := F
  intro H locs ls hP hD hS hl
  exact lv_aload hx hb hd (hl.2.2 3 _ rfl).2 (kk H locs ls hP hD hS hl)
theorem zz_astore_n3 {k : ZK} {g : ZG} {own : String} {cc : ByteArray} {nL fr lo pc : Nat} {ws : va_W} {rest : List Value} {x0 x1 x2 : Option Value} {y : Option Value} {v : Nat} {r : ZL} (F : zz_F k g own cc nL fr lo) (hd : decode cc pc = .ok (.astore_n 3, 1)) (hi : 3 < nL) (kk : zz_W k ws (pc + 1) (x0 :: x1 :: x2 :: some (.ref v) :: r) (rest)) : zz_W k ws pc (x0 :: x1 :: x2 :: y :: r) (.ref v :: rest) := by
  obtain ⟨p, l, e, R, s, m, args, below, meth, c, Q, A, D, nc, ns⟩ := k
  obtain ⟨hx, hb, hml, hown, hts, hK, hA, hnc, hns, hfr, hlo⟩ := F
  intro H locs ls hP hD hS hl
  exact lv_astore_n hx hb hd rfl (zl_lv hl) (by rw [hml]; exact hi) rfl (fun ls2 h2 => kk H locs ls2 hP hD hS (zl_set (i := 3) hl rfl h2))
theorem zz_astore3 {k : ZK} {g : ZG} {own : String} {cc : ByteArray} {nL fr lo pc : Nat} {ws : va_W} {rest : List Value} {x0 x1 x2 : Option Value} {y : Option Value} {v : Nat} {r : ZL} (F : zz_F k g own cc nL fr lo) (hd : decode cc pc = .ok (.astore 3, 2)) (hi : 3 < nL) (kk : zz_W k ws (pc + 2) (x0 :: x1 :: x2 :: some (.ref v) :: r) (rest)) : zz_W k ws pc (x0 :: x1 :: x2 :: y :: r) (.ref v :: rest) := by
  obtain ⟨p, l, e, R, s, m, args, below, meth, c, Q, A, D, nc, ns⟩ := k
  obtain ⟨hx, hb, hml, hown, hts, hK, hA, hnc, hns, hfr, hlo⟩ := F
  intro H locs ls hP hD hS hl
  exact lv_astore hx hb hd (zl_lv hl) (by rw [hml]; exact hi) rfl (fun ls2 h2 => kk H locs ls2 hP hD hS (zl_set (i := 3) hl rfl h2))
theorem zz_iincG3 {k : ZK} {g : ZG} {own : String} {cc : ByteArray} {nL fr lo pc : Nat} {ws : va_W} {rest : List Value} {x0 x1 x2 : Option Value} {v v2 : Int32} {n : Int} {r : ZL} (F : zz_F k g own cc nL fr lo) (hd : decode cc pc = .ok (.iinc 3 n, 3)) (hi : 3 < nL) (hv : v + Int32.ofInt n = v2) (kk : zz_W k ws (pc + 3) (x0 :: x1 :: x2 :: some (.int v2) :: r) (rest)) : zz_W k ws pc (x0 :: x1 :: x2 :: some (.int v) :: r) (rest) := by
  obtain ⟨p, l, e, R, s, m, args, below, meth, c, Q, A, D, nc, ns⟩ := k
  obtain ⟨hx, hb, hml, hown, hts, hK, hA, hnc, hns, hfr, hlo⟩ := F
  intro H locs ls hP hD hS hl
  obtain ⟨kx, hkx⟩ := List.getElem?_of_mem (zl_mem.mpr (show (x0 :: x1 :: x2 :: some (.int v) :: r)[3]? = some (some (.int v)) from rfl))
  exact lv_iinc hx hb hd (zl_lv hl) hkx hv (by rw [hml]; exact hi) rfl (fun ls2 h2 => kk H locs ls2 hP hD hS (zl_set (i := 3) hl rfl h2))
theorem zz_iinc3 {k : ZK} {g : ZG} {own : String} {cc : ByteArray} {nL fr lo pc : Nat} {ws : va_W} {rest : List Value} {x0 x1 x2 : Option Value} {a : Nat} {r : ZL} (F : zz_F k g own cc nL fr lo) (hd : decode cc pc = .ok (.iinc 3 1, 3)) (hi : 3 < nL) (kk : zz_W k ws (pc + 3) (x0 :: x1 :: x2 :: some (.int (nI (a + 1))) :: r) rest) : zz_W k ws pc (x0 :: x1 :: x2 :: some (.int (nI a)) :: r) rest := zz_iincG3 F hd hi (nI_1 a) kk
theorem zz_idec3 {k : ZK} {g : ZG} {own : String} {cc : ByteArray} {nL fr lo pc : Nat} {ws : va_W} {rest : List Value} {x0 x1 x2 : Option Value} {a : Nat} {r : ZL} (F : zz_F k g own cc nL fr lo) (hd : decode cc pc = .ok (.iinc 3 (-1), 3)) (hi : 3 < nL) (kk : zz_W k ws (pc + 3) (x0 :: x1 :: x2 :: some (.int (nI a)) :: r) rest) : zz_W k ws pc (x0 :: x1 :: x2 :: some (.int (nI (a + 1))) :: r) rest := zz_iincG3 F hd hi (pk_m1 a) kk
theorem zz_iload4 {k : ZK} {g : ZG} {own : String} {cc : ByteArray} {nL fr lo pc : Nat} {ws : va_W} {rest : List Value} {x0 x1 x2 x3 : Option Value} {v : Int32} {r : ZL} (F : zz_F k g own cc nL fr lo) (hd : decode cc pc = .ok (.iload 4, 2))  (kk : zz_W k ws (pc + 2) (x0 :: x1 :: x2 :: x3 :: some (.int v) :: r) (.int v :: rest)) : zz_W k ws pc (x0 :: x1 :: x2 :: x3 :: some (.int v) :: r) (rest) := by
  obtain ⟨p, l, e, R, s, m, args, below, meth, c, Q, A, D, nc, ns⟩ := k
  obtain ⟨hx, hb, hml, hown, hts, hK, hA, hnc, hns, hfr, hlo⟩ := F
  intro H locs ls hP hD hS hl
  exact lv_iload hx hb hd (hl.2.2 4 _ rfl).2 (kk H locs ls hP hD hS hl)
theorem zz_istore4 {k : ZK} {g : ZG} {own : String} {cc : ByteArray} {nL fr lo pc : Nat} {ws : va_W} {rest : List Value} {x0 x1 x2 x3 : Option Value} {y : Option Value} {v : Int32} {r : ZL} (F : zz_F k g own cc nL fr lo) (hd : decode cc pc = .ok (.istore 4, 2)) (hi : 4 < nL) (kk : zz_W k ws (pc + 2) (x0 :: x1 :: x2 :: x3 :: some (.int v) :: r) (rest)) : zz_W k ws pc (x0 :: x1 :: x2 :: x3 :: y :: r) (.int v :: rest) := by
  obtain ⟨p, l, e, R, s, m, args, below, meth, c, Q, A, D, nc, ns⟩ := k
  obtain ⟨hx, hb, hml, hown, hts, hK, hA, hnc, hns, hfr, hlo⟩ := F
  intro H locs ls hP hD hS hl
  exact lv_istore hx hb hd (zl_lv hl) (by rw [hml]; exact hi) rfl (fun ls2 h2 => kk H locs ls2 hP hD hS (zl_set (i := 4) hl rfl h2))
theorem zz_aload4 {k : ZK} {g : ZG} {own : String} {cc : ByteArray} {nL fr lo pc : Nat} {ws : va_W} {rest : List Value} {x0 x1 x2 x3 : Option Value} {v : Nat} {r : ZL} (F : zz_F k g own cc nL fr lo) (hd : decode cc pc = .ok (.aload 4, 2))  (kk : zz_W k ws (pc + 2) (x0 :: x1 :: x2 :: x3 :: some (.ref v) :: r) (.ref v :: rest)) : zz_W k ws pc (x0 :: x1 :: x2 :: x3 :: some (.ref v) :: r) (rest) := by
  obtain ⟨p, l, e, R, s, m, args, below, meth, c, Q, A, D, nc, ns⟩ := k
  obtain ⟨hx, hb, hml, hown, hts, hK, hA, hnc, hns, hfr, hlo⟩ := F
  intro H locs ls hP hD hS hl
  exact lv_aload hx hb hd (hl.2.2 4 _ rfl).2 (kk H locs ls hP hD hS hl)
theorem zz_astore4 {k : ZK} {g : ZG} {own : String} {cc : ByteArray} {nL fr lo pc : Nat} {ws : va_W} {rest : List Value} {x0 x1 x2 x3 : Option Value} {y : Option Value} {v : Nat} {r : ZL} (F : zz_F k g own cc nL fr lo) (hd : decode cc pc = .ok (.astore 4, 2)) (hi : 4 < nL) (kk : zz_W k ws (pc + 2) (x0 :: x1 :: x2 :: x3 :: some (.ref v) :: r) (rest)) : zz_W k ws pc (x0 :: x1 :: x2 :: x3 :: y :: r) (.ref v :: rest) := by
  obtain ⟨p, l, e, R, s, m, args, below, meth, c, Q, A, D, nc, ns⟩ := k
  obtain ⟨hx, hb, hml, hown, hts, hK, hA, hnc, hns, hfr, hlo⟩ := F
  intro H locs ls hP hD hS hl
  exact lv_astore hx hb hd (zl_lv hl) (by rw [hml]; exact hi) rfl (fun ls2 h2 => kk H locs ls2 hP hD hS (zl_set (i := 4) hl rfl h2))
theorem zz_iincG4 {k : ZK} {g : ZG} {own : String} {cc : ByteArray} {nL fr lo pc : Nat} {ws : va_W} {rest : List Value} {x0 x1 x2 x3 : Option Value} {v v2 : Int32} {n : Int} {r : ZL} (F : zz_F k g own cc nL fr lo) (hd : decode cc pc = .ok (.iinc 4 n, 3)) (hi : 4 < nL) (hv : v + Int32.ofInt n = v2) (kk : zz_W k ws (pc + 3) (x0 :: x1 :: x2 :: x3 :: some (.int v2) :: r) (rest)) : zz_W k ws pc (x0 :: x1 :: x2 :: x3 :: some (.int v) :: r) (rest) := by
  obtain ⟨p, l, e, R, s, m, args, below, meth, c, Q, A, D, nc, ns⟩ := k
  obtain ⟨hx, hb, hml, hown, hts, hK, hA, hnc, hns, hfr, hlo⟩ := F
  intro H locs ls hP hD hS hl
  obtain ⟨kx, hkx⟩ := List.getElem?_of_mem (zl_mem.mpr (show (x0 :: x1 :: x2 :: x3 :: some (.int v) :: r)[4]? = some (some (.int v)) from rfl))
  exact lv_iinc hx hb hd (zl_lv hl) hkx hv (by rw [hml]; exact hi) rfl (fun ls2 h2 => kk H locs ls2 hP hD hS (zl_set (i := 4) hl rfl h2))
theorem zz_iinc4 {k : ZK} {g : ZG} {own : String} {cc : ByteArray} {nL fr lo pc : Nat} {ws : va_W} {rest : List Value} {x0 x1 x2 x3 : Option Value} {a : Nat} {r : ZL} (F : zz_F k g own cc nL fr lo) (hd : decode cc pc = .ok (.iinc 4 1, 3)) (hi : 4 < nL) (kk : zz_W k ws (pc + 3) (x0 :: x1 :: x2 :: x3 :: some (.int (nI (a + 1))) :: r) rest) : zz_W k ws pc (x0 :: x1 :: x2 :: x3 :: some (.int (nI a)) :: r) rest := zz_iincG4 F hd hi (nI_1 a) kk
theorem zz_idec4 {k : ZK} {g : ZG} {own : String} {cc : ByteArray} {nL fr lo pc : Nat} {ws : va_W} {rest : List Value} {x0 x1 x2 x3 : Option Value} {a : Nat} {r : ZL} (F : zz_F k g own cc nL fr lo) (hd : decode cc pc = .ok (.iinc 4 (-1), 3)) (hi : 4 < nL) (kk : zz_W k ws (pc + 3) (x0 :: x1 :: x2 :: x3 :: some (.int (nI a)) :: r) rest) : zz_W k ws pc (x0 :: x1 :: x2 :: x3 :: some (.int (nI (a + 1))) :: r) rest := zz_iincG4 F hd hi (pk_m1 a) kk
theorem zz_iload5 {k : ZK} {g : ZG} {own : String} {cc : ByteArray} {nL fr lo pc : Nat} {ws : va_W} {rest : List Value} {x0 x1 x2 x3 x4 : Option Value} {v : Int32} {r : ZL} (F : zz_F k g own cc nL fr lo) (hd : decode cc pc = .ok (.iload 5, 2))  (kk : zz_W k ws (pc + 2) (x0 :: x1 :: x2 :: x3 :: x4 :: some (.int v) :: r) (.int v :: rest)) : zz_W k ws pc (x0 :: x1 :: x2 :: x3 :: x4 :: some (.int v) :: r) (rest) := by
  obtain ⟨p, l, e, R, s, m, args, below, meth, c, Q, A, D, nc, ns⟩ := k
  obtain ⟨hx, hb, hml, hown, hts, hK, hA, hnc, hns, hfr, hlo⟩ := F
  intro H locs ls hP hD hS hl
  exact lv_iload hx hb hd (hl.2.2 5 _ rfl).2 (kk H locs ls hP hD hS hl)
theorem zz_istore5 {k : ZK} {g : ZG} {own : String} {cc : ByteArray} {nL fr lo pc : Nat} {ws : va_W} {rest : List Value} {x0 x1 x2 x3 x4 : Option Value} {y : Option Value} {v : Int32} {r : ZL} (F : zz_F k g own cc nL fr lo) (hd : decode cc pc = .ok (.istore 5, 2)) (hi : 5 < nL) (kk : zz_W k ws (pc + 2) (x0 :: x1 :: x2 :: x3 :: x4 :: some (.int v) :: r) (rest)) : zz_W k ws pc (x0 :: x1 :: x2 :: x3 :: x4 :: y :: r) (.int v :: rest) := by
  obtain ⟨p, l, e, R, s, m, args, below, meth, c, Q, A, D, nc, ns⟩ := k
  obtain ⟨hx, hb, hml, hown, hts, hK, hA, hnc, hns, hfr, hlo⟩ := F
  intro H locs ls hP hD hS hl
  exact lv_istore hx hb hd (zl_lv hl) (by rw [hml]; exact hi) rfl (fun ls2 h2 => kk H locs ls2 hP hD hS (zl_set (i := 5) hl rfl h2))
theorem zz_aload5 {k : ZK} {g : ZG} {own : String} {cc : ByteArray} {nL fr lo pc : Nat} {ws : va_W} {rest : List Value} {x0 x1 x2 x3 x4 : Option Value} {v : Nat} {r : ZL} (F : zz_F k g own cc nL fr lo) (hd : decode cc pc = .ok (.aload 5, 2))  (kk : zz_W k ws (pc + 2) (x0 :: x1 :: x2 :: x3 :: x4 :: some (.ref v) :: r) (.ref v :: rest)) : zz_W k ws pc (x0 :: x1 :: x2 :: x3 :: x4 :: some (.ref v) :: r) (rest) := by
  obtain ⟨p, l, e, R, s, m, args, below, meth, c, Q, A, D, nc, ns⟩ := k
  obtain ⟨hx, hb, hml, hown, hts, hK, hA, hnc, hns, hfr, hlo⟩ := F
  intro H locs ls hP hD hS hl
  exact lv_aload hx hb hd (hl.2.2 5 _ rfl).2 (kk H locs ls hP hD hS hl)
theorem zz_astore5 {k : ZK} {g : ZG} {own : String} {cc : ByteArray} {nL fr lo pc : Nat} {ws : va_W} {rest : List Value} {x0 x1 x2 x3 x4 : Option Value} {y : Option Value} {v : Nat} {r : ZL} (F : zz_F k g own cc nL fr lo) (hd : decode cc pc = .ok (.astore 5, 2)) (hi : 5 < nL) (kk : zz_W k ws (pc + 2) (x0 :: x1 :: x2 :: x3 :: x4 :: some (.ref v) :: r) (rest)) : zz_W k ws pc (x0 :: x1 :: x2 :: x3 :: x4 :: y :: r) (.ref v :: rest) := by
  obtain ⟨p, l, e, R, s, m, args, below, meth, c, Q, A, D, nc, ns⟩ := k
  obtain ⟨hx, hb, hml, hown, hts, hK, hA, hnc, hns, hfr, hlo⟩ := F
  intro H locs ls hP hD hS hl
  exact lv_astore hx hb hd (zl_lv hl) (by rw [hml]; exact hi) rfl (fun ls2 h2 => kk H locs ls2 hP hD hS (zl_set (i := 5) hl rfl h2))
theorem zz_iincG5 {k : ZK} {g : ZG} {own : String} {cc : ByteArray} {nL fr lo pc : Nat} {ws : va_W} {rest : List Value} {x0 x1 x2 x3 x4 : Option Value} {v v2 : Int32} {n : Int} {r : ZL} (F : zz_F k g own cc nL fr lo) (hd : decode cc pc = .ok (.iinc 5 n, 3)) (hi : 5 < nL) (hv : v + Int32.ofInt n = v2) (kk : zz_W k ws (pc + 3) (x0 :: x1 :: x2 :: x3 :: x4 :: some (.int v2) :: r) (rest)) : zz_W k ws pc (x0 :: x1 :: x2 :: x3 :: x4 :: some (.int v) :: r) (rest) := by
  obtain ⟨p, l, e, R, s, m, args, below, meth, c, Q, A, D, nc, ns⟩ := k
  obtain ⟨hx, hb, hml, hown, hts, hK, hA, hnc, hns, hfr, hlo⟩ := F
  intro H locs ls hP hD hS hl
  obtain ⟨kx, hkx⟩ := List.getElem?_of_mem (zl_mem.mpr (show (x0 :: x1 :: x2 :: x3 :: x4 :: some (.int v) :: r)[5]? = some (some (.int v)) from rfl))
  exact lv_iinc hx hb hd (zl_lv hl) hkx hv (by rw [hml]; exact hi) rfl (fun ls2 h2 => kk H locs ls2 hP hD hS (zl_set (i := 5) hl rfl h2))
theorem zz_iinc5 {k : ZK} {g : ZG} {own : String} {cc : ByteArray} {nL fr lo pc : Nat} {ws : va_W} {rest : List Value} {x0 x1 x2 x3 x4 : Option Value} {a : Nat} {r : ZL} (F : zz_F k g own cc nL fr lo) (hd : decode cc pc = .ok (.iinc 5 1, 3)) (hi : 5 < nL) (kk : zz_W k ws (pc + 3) (x0 :: x1 :: x2 :: x3 :: x4 :: some (.int (nI (a + 1))) :: r) rest) : zz_W k ws pc (x0 :: x1 :: x2 :: x3 :: x4 :: some (.int (nI a)) :: r) rest := zz_iincG5 F hd hi (nI_1 a) kk
theorem zz_idec5 {k : ZK} {g : ZG} {own : String} {cc : ByteArray} {nL fr lo pc : Nat} {ws : va_W} {rest : List Value} {x0 x1 x2 x3 x4 : Option Value} {a : Nat} {r : ZL} (F : zz_F k g own cc nL fr lo) (hd : decode cc pc = .ok (.iinc 5 (-1), 3)) (hi : 5 < nL) (kk : zz_W k ws (pc + 3) (x0 :: x1 :: x2 :: x3 :: x4 :: some (.int (nI a)) :: r) rest) : zz_W k ws pc (x0 :: x1 :: x2 :: x3 :: x4 :: some (.int (nI (a + 1))) :: r) rest := zz_iincG5 F hd hi (pk_m1 a) kk
theorem zz_iload6 {k : ZK} {g : ZG} {own : String} {cc : ByteArray} {nL fr lo pc : Nat} {ws : va_W} {rest : List Value} {x0 x1 x2 x3 x4 x5 : Option Value} {v : Int32} {r : ZL} (F : zz_F k g own cc nL fr lo) (hd : decode cc pc = .ok (.iload 6, 2))  (kk : zz_W k ws (pc + 2) (x0 :: x1 :: x2 :: x3 :: x4 :: x5 :: some (.int v) :: r) (.int v :: rest)) : zz_W k ws pc (x0 :: x1 :: x2 :: x3 :: x4 :: x5 :: some (.int v) :: r) (rest) := by
  obtain ⟨p, l, e, R, s, m, args, below, meth, c, Q, A, D, nc, ns⟩ := k
  obtain ⟨hx, hb, hml, hown, hts, hK, hA, hnc, hns, hfr, hlo⟩ := F
  intro H locs ls hP hD hS hl
  exact lv_iload hx hb hd (hl.2.2 6 _ rfl).2 (kk H locs ls hP hD hS hl)
theorem zz_istore6 {k : ZK} {g : ZG} {own : String} {cc : ByteArray} {nL fr lo pc : Nat} {ws : va_W} {rest : List Value} {x0 x1 x2 x3 x4 x5 : Option Value} {y : Option Value} {v : Int32} {r : ZL} (F : zz_F k g own cc nL fr lo) (hd : decode cc pc = .ok (.istore 6, 2)) (hi : 6 < nL) (kk : zz_W k ws (pc + 2) (x0 :: x1 :: x2 :: x3 :: x4 :: x5 :: some (.int v) :: r) (rest)) : zz_W k ws pc (x0 :: x1 :: x2 :: x3 :: x4 :: x5 :: y :: r) (.int v :: rest) := by
  obtain ⟨p, l, e, R, s, m, args, below, meth, c, Q, A, D, nc, ns⟩ := k
  obtain ⟨hx, hb, hml, hown, hts, hK, hA, hnc, hns, hfr, hlo⟩ := F
  intro H locs ls hP hD hS hl
  exact lv_istore hx hb hd (zl_lv hl) (by rw [hml]; exact hi) rfl (fun ls2 h2 => kk H locs ls2 hP hD hS (zl_set (i := 6) hl rfl h2))
theorem zz_aload6 {k : ZK} {g : ZG} {own : String} {cc : ByteArray} {nL fr lo pc : Nat} {ws : va_W} {rest : List Value} {x0 x1 x2 x3 x4 x5 : Option Value} {v : Nat} {r : ZL} (F : zz_F k g own cc nL fr lo) (hd : decode cc pc = .ok (.aload 6, 2))  (kk : zz_W k ws (pc + 2) (x0 :: x1 :: x2 :: x3 :: x4 :: x5 :: some (.ref v) :: r) (.ref v :: rest)) : zz_W k ws pc (x0 :: x1 :: x2 :: x3 :: x4 :: x5 :: some (.ref v) :: r) (rest) := by
  obtain ⟨p, l, e, R, s, m, args, below, meth, c, Q, A, D, nc, ns⟩ := k
  obtain ⟨hx, hb, hml, hown, hts, hK, hA, hnc, hns, hfr, hlo⟩ := F
  intro H locs ls hP hD hS hl
  exact lv_aload hx hb hd (hl.2.2 6 _ rfl).2 (kk H locs ls hP hD hS hl)
theorem zz_astore6 {k : ZK} {g : ZG} {own : String} {cc : ByteArray} {nL fr lo pc : Nat} {ws : va_W} {rest : List Value} {x0 x1 x2 x3 x4 x5 : Option Value} {y : Option Value} {v : Nat} {r : ZL} (F : zz_F k g own cc nL fr lo) (hd : decode cc pc = .ok (.astore 6, 2)) (hi : 6 < nL) (kk : zz_W k ws (pc + 2) (x0 :: x1 :: x2 :: x3 :: x4 :: x5 :: some (.ref v) :: r) (rest)) : zz_W k ws pc (x0 :: x1 :: x2 :: x3 :: x4 :: x5 :: y :: r) (.ref v :: rest) := by
  obtain ⟨p, l, e, R, s, m, args, below, meth, c, Q, A, D, nc, ns⟩ := k
  obtain ⟨hx, hb, hml, hown, hts, hK, hA, hnc, hns, hfr, hlo⟩ := F
  intro H locs ls hP hD hS hl
  exact lv_astore hx hb hd (zl_lv hl) (by rw [hml]; exact hi) rfl (fun ls2 h2 => kk H locs ls2 hP hD hS (zl_set (i := 6) hl rfl h2))
theorem zz_iincG6 {k : ZK} {g : ZG} {own : String} {cc : ByteArray} {nL fr lo pc : Nat} {ws : va_W} {rest : List Value} {x0 x1 x2 x3 x4 x5 : Option Value} {v v2 : Int32} {n : Int} {r : ZL} (F : zz_F k g own cc nL fr lo) (hd : decode cc pc = .ok (.iinc 6 n, 3)) (hi : 6 < nL) (hv : v + Int32.ofInt n = v2) (kk : zz_W k ws (pc + 3) (x0 :: x1 :: x2 :: x3 :: x4 :: x5 :: some (.int v2) :: r) (rest)) : zz_W k ws pc (x0 :: x1 :: x2 :: x3 :: x4 :: x5 :: some (.int v) :: r) (rest) := by
  obtain ⟨p, l, e, R, s, m, args, below, meth, c, Q, A, D, nc, ns⟩ := k
  obtain ⟨hx, hb, hml, hown, hts, hK, hA, hnc, hns, hfr, hlo⟩ := F
  intro H locs ls hP hD hS hl
  obtain ⟨kx, hkx⟩ := List.getElem?_of_mem (zl_mem.mpr (show (x0 :: x1 :: x2 :: x3 :: x4 :: x5 :: some (.int v) :: r)[6]? = some (some (.int v)) from rfl))
  exact lv_iinc hx hb hd (zl_lv hl) hkx hv (by rw [hml]; exact hi) rfl (fun ls2 h2 => kk H locs ls2 hP hD hS (zl_set (i := 6) hl rfl h2))
theorem zz_iinc6 {k : ZK} {g : ZG} {own : String} {cc : ByteArray} {nL fr lo pc : Nat} {ws : va_W} {rest : List Value} {x0 x1 x2 x3 x4 x5 : Option Value} {a : Nat} {r : ZL} (F : zz_F k g own cc nL fr lo) (hd : decode cc pc = .ok (.iinc 6 1, 3)) (hi : 6 < nL) (kk : zz_W k ws (pc + 3) (x0 :: x1 :: x2 :: x3 :: x4 :: x5 :: some (.int (nI (a + 1))) :: r) rest) : zz_W k ws pc (x0 :: x1 :: x2 :: x3 :: x4 :: x5 :: some (.int (nI a)) :: r) rest := zz_iincG6 F hd hi (nI_1 a) kk
theorem zz_idec6 {k : ZK} {g : ZG} {own : String} {cc : ByteArray} {nL fr lo pc : Nat} {ws : va_W} {rest : List Value} {x0 x1 x2 x3 x4 x5 : Option Value} {a : Nat} {r : ZL} (F : zz_F k g own cc nL fr lo) (hd : decode cc pc = .ok (.iinc 6 (-1), 3)) (hi : 6 < nL) (kk : zz_W k ws (pc + 3) (x0 :: x1 :: x2 :: x3 :: x4 :: x5 :: some (.int (nI a)) :: r) rest) : zz_W k ws pc (x0 :: x1 :: x2 :: x3 :: x4 :: x5 :: some (.int (nI (a + 1))) :: r) rest := zz_iincG6 F hd hi (pk_m1 a) kk
theorem zz_iload7 {k : ZK} {g : ZG} {own : String} {cc : ByteArray} {nL fr lo pc : Nat} {ws : va_W} {rest : List Value} {x0 x1 x2 x3 x4 x5 x6 : Option Value} {v : Int32} {r : ZL} (F : zz_F k g own cc nL fr lo) (hd : decode cc pc = .ok (.iload 7, 2))  (kk : zz_W k ws (pc + 2) (x0 :: x1 :: x2 :: x3 :: x4 :: x5 :: x6 :: some (.int v) :: r) (.int v :: rest)) : zz_W k ws pc (x0 :: x1 :: x2 :: x3 :: x4 :: x5 :: x6 :: some (.int v) :: r) (rest) := by
  obtain ⟨p, l, e, R, s, m, args, below, meth, c, Q, A, D, nc, ns⟩ := k
  obtain ⟨hx, hb, hml, hown, hts, hK, hA, hnc, hns, hfr, hlo⟩ := F
  intro H locs ls hP hD hS hl
  exact lv_iload hx hb hd (hl.2.2 7 _ rfl).2 (kk H locs ls hP hD hS hl)
theorem zz_istore7 {k : ZK} {g : ZG} {own : String} {cc : ByteArray} {nL fr lo pc : Nat} {ws : va_W} {rest : List Value} {x0 x1 x2 x3 x4 x5 x6 : Option Value} {y : Option Value} {v : Int32} {r : ZL} (F : zz_F k g own cc nL fr lo) (hd : decode cc pc = .ok (.istore 7, 2)) (hi : 7 < nL) (kk : zz_W k ws (pc + 2) (x0 :: x1 :: x2 :: x3 :: x4 :: x5 :: x6 :: some (.int v) :: r) (rest)) : zz_W k ws pc (x0 :: x1 :: x2 :: x3 :: x4 :: x5 :: x6 :: y :: r) (.int v :: rest) := by
  obtain ⟨p, l, e, R, s, m, args, below, meth, c, Q, A, D, nc, ns⟩ := k
  obtain ⟨hx, hb, hml, hown, hts, hK, hA, hnc, hns, hfr, hlo⟩ := F
  intro H locs ls hP hD hS hl
  exact lv_istore hx hb hd (zl_lv hl) (by rw [hml]; exact hi) rfl (fun ls2 h2 => kk H locs ls2 hP hD hS (zl_set (i := 7) hl rfl h2))
theorem zz_aload7 {k : ZK} {g : ZG} {own : String} {cc : ByteArray} {nL fr lo pc : Nat} {ws : va_W} {rest : List Value} {x0 x1 x2 x3 x4 x5 x6 : Option Value} {v : Nat} {r : ZL} (F : zz_F k g own cc nL fr lo) (hd : decode cc pc = .ok (.aload 7, 2))  (kk : zz_W k ws (pc + 2) (x0 :: x1 :: x2 :: x3 :: x4 :: x5 :: x6 :: some (.ref v) :: r) (.ref v :: rest)) : zz_W k ws pc (x0 :: x1 :: x2 :: x3 :: x4 :: x5 :: x6 :: some (.ref v) :: r) (rest) := by
  obtain ⟨p, l, e, R, s, m, args, below, meth, c, Q, A, D, nc, ns⟩ := k
  obtain ⟨hx, hb, hml, hown, hts, hK, hA, hnc, hns, hfr, hlo⟩ := F
  intro H locs ls hP hD hS hl
  exact lv_aload hx hb hd (hl.2.2 7 _ rfl).2 (kk H locs ls hP hD hS hl)
theorem zz_astore7 {k : ZK} {g : ZG} {own : String} {cc : ByteArray} {nL fr lo pc : Nat} {ws : va_W} {rest : List Value} {x0 x1 x2 x3 x4 x5 x6 : Option Value} {y : Option Value} {v : Nat} {r : ZL} (F : zz_F k g own cc nL fr lo) (hd : decode cc pc = .ok (.astore 7, 2)) (hi : 7 < nL) (kk : zz_W k ws (pc + 2) (x0 :: x1 :: x2 :: x3 :: x4 :: x5 :: x6 :: some (.ref v) :: r) (rest)) : zz_W k ws pc (x0 :: x1 :: x2 :: x3 :: x4 :: x5 :: x6 :: y :: r) (.ref v :: rest) := by
  obtain ⟨p, l, e, R, s, m, args, below, meth, c, Q, A, D, nc, ns⟩ := k
  obtain ⟨hx, hb, hml, hown, hts, hK, hA, hnc, hns, hfr, hlo⟩ := F
  intro H locs ls hP hD hS hl
  exact lv_astore hx hb hd (zl_lv hl) (by rw [hml]; exact hi) rfl (fun ls2 h2 => kk H locs ls2 hP hD hS (zl_set (i := 7) hl rfl h2))
theorem zz_iincG7 {k : ZK} {g : ZG} {own : String} {cc : ByteArray} {nL fr lo pc : Nat} {ws : va_W} {rest : List Value} {x0 x1 x2 x3 x4 x5 x6 : Option Value} {v v2 : Int32} {n : Int} {r : ZL} (F : zz_F k g own cc nL fr lo) (hd : decode cc pc = .ok (.iinc 7 n, 3)) (hi : 7 < nL) (hv : v + Int32.ofInt n = v2) (kk : zz_W k ws (pc + 3) (x0 :: x1 :: x2 :: x3 :: x4 :: x5 :: x6 :: some (.int v2) :: r) (rest)) : zz_W k ws pc (x0 :: x1 :: x2 :: x3 :: x4 :: x5 :: x6 :: some (.int v) :: r) (rest) := by
  obtain ⟨p, l, e, R, s, m, args, below, meth, c, Q, A, D, nc, ns⟩ := k
  obtain ⟨hx, hb, hml, hown, hts, hK, hA, hnc, hns, hfr, hlo⟩ := F
  intro H locs ls hP hD hS hl
  obtain ⟨kx, hkx⟩ := List.getElem?_of_mem (zl_mem.mpr (show (x0 :: x1 :: x2 :: x3 :: x4 :: x5 :: x6 :: some (.int v) :: r)[7]? = some (some (.int v)) from rfl))
  exact lv_iinc hx hb hd (zl_lv hl) hkx hv (by rw [hml]; exact hi) rfl (fun ls2 h2 => kk H locs ls2 hP hD hS (zl_set (i := 7) hl rfl h2))
theorem zz_iinc7 {k : ZK} {g : ZG} {own : String} {cc : ByteArray} {nL fr lo pc : Nat} {ws : va_W} {rest : List Value} {x0 x1 x2 x3 x4 x5 x6 : Option Value} {a : Nat} {r : ZL} (F : zz_F k g own cc nL fr lo) (hd : decode cc pc = .ok (.iinc 7 1, 3)) (hi : 7 < nL) (kk : zz_W k ws (pc + 3) (x0 :: x1 :: x2 :: x3 :: x4 :: x5 :: x6 :: some (.int (nI (a + 1))) :: r) rest) : zz_W k ws pc (x0 :: x1 :: x2 :: x3 :: x4 :: x5 :: x6 :: some (.int (nI a)) :: r) rest := zz_iincG7 F hd hi (nI_1 a) kk
theorem zz_idec7 {k : ZK} {g : ZG} {own : String} {cc : ByteArray} {nL fr lo pc : Nat} {ws : va_W} {rest : List Value} {x0 x1 x2 x3 x4 x5 x6 : Option Value} {a : Nat} {r : ZL} (F : zz_F k g own cc nL fr lo) (hd : decode cc pc = .ok (.iinc 7 (-1), 3)) (hi : 7 < nL) (kk : zz_W k ws (pc + 3) (x0 :: x1 :: x2 :: x3 :: x4 :: x5 :: x6 :: some (.int (nI a)) :: r) rest) : zz_W k ws pc (x0 :: x1 :: x2 :: x3 :: x4 :: x5 :: x6 :: some (.int (nI (a + 1))) :: r) rest := zz_iincG7 F hd hi (pk_m1 a) kk
theorem zz_iload8 {k : ZK} {g : ZG} {own : String} {cc : ByteArray} {nL fr lo pc : Nat} {ws : va_W} {rest : List Value} {x0 x1 x2 x3 x4 x5 x6 x7 : Option Value} {v : Int32} {r : ZL} (F : zz_F k g own cc nL fr lo) (hd : decode cc pc = .ok (.iload 8, 2))  (kk : zz_W k ws (pc + 2) (x0 :: x1 :: x2 :: x3 :: x4 :: x5 :: x6 :: x7 :: some (.int v) :: r) (.int v :: rest)) : zz_W k ws pc (x0 :: x1 :: x2 :: x3 :: x4 :: x5 :: x6 :: x7 :: some (.int v) :: r) (rest) := by
  obtain ⟨p, l, e, R, s, m, args, below, meth, c, Q, A, D, nc, ns⟩ := k
  obtain ⟨hx, hb, hml, hown, hts, hK, hA, hnc, hns, hfr, hlo⟩ := F
  intro H locs ls hP hD hS hl
  exact lv_iload hx hb hd (hl.2.2 8 _ rfl).2 (kk H locs ls hP hD hS hl)
theorem zz_istore8 {k : ZK} {g : ZG} {own : String} {cc : ByteArray} {nL fr lo pc : Nat} {ws : va_W} {rest : List Value} {x0 x1 x2 x3 x4 x5 x6 x7 : Option Value} {y : Option Value} {v : Int32} {r : ZL} (F : zz_F k g own cc nL fr lo) (hd : decode cc pc = .ok (.istore 8, 2)) (hi : 8 < nL) (kk : zz_W k ws (pc + 2) (x0 :: x1 :: x2 :: x3 :: x4 :: x5 :: x6 :: x7 :: some (.int v) :: r) (rest)) : zz_W k ws pc (x0 :: x1 :: x2 :: x3 :: x4 :: x5 :: x6 :: x7 :: y :: r) (.int v :: rest) := by
  obtain ⟨p, l, e, R, s, m, args, below, meth, c, Q, A, D, nc, ns⟩ := k
  obtain ⟨hx, hb, hml, hown, hts, hK, hA, hnc, hns, hfr, hlo⟩ := F
  intro H locs ls hP hD hS hl
  exact lv_istore hx hb hd (zl_lv hl) (by rw [hml]; exact hi) rfl (fun ls2 h2 => kk H locs ls2 hP hD hS (zl_set (i := 8) hl rfl h2))
theorem zz_aload8 {k : ZK} {g : ZG} {own : String} {cc : ByteArray} {nL fr lo pc : Nat} {ws : va_W} {rest : List Value} {x0 x1 x2 x3 x4 x5 x6 x7 : Option Value} {v : Nat} {r : ZL} (F : zz_F k g own cc nL fr lo) (hd : decode cc pc = .ok (.aload 8, 2))  (kk : zz_W k ws (pc + 2) (x0 :: x1 :: x2 :: x3 :: x4 :: x5 :: x6 :: x7 :: some (.ref v) :: r) (.ref v :: rest)) : zz_W k ws pc (x0 :: x1 :: x2 :: x3 :: x4 :: x5 :: x6 :: x7 :: some (.ref v) :: r) (rest) := by
  obtain ⟨p, l, e, R, s, m, args, below, meth, c, Q, A, D, nc, ns⟩ := k
  obtain ⟨hx, hb, hml, hown, hts, hK, hA, hnc, hns, hfr, hlo⟩ := F
  intro H locs ls hP hD hS hl
  exact lv_aload hx hb hd (hl.2.2 8 _ rfl).2 (kk H locs ls hP hD hS hl)
theorem zz_astore8 {k : ZK} {g : ZG} {own : String} {cc : ByteArray} {nL fr lo pc : Nat} {ws : va_W} {rest : List Value} {x0 x1 x2 x3 x4 x5 x6 x7 : Option Value} {y : Option Value} {v : Nat} {r : ZL} (F : zz_F k g own cc nL fr lo) (hd : decode cc pc = .ok (.astore 8, 2)) (hi : 8 < nL) (kk : zz_W k ws (pc + 2) (x0 :: x1 :: x2 :: x3 :: x4 :: x5 :: x6 :: x7 :: some (.ref v) :: r) (rest)) : zz_W k ws pc (x0 :: x1 :: x2 :: x3 :: x4 :: x5 :: x6 :: x7 :: y :: r) (.ref v :: rest) := by
  obtain ⟨p, l, e, R, s, m, args, below, meth, c, Q, A, D, nc, ns⟩ := k
  obtain ⟨hx, hb, hml, hown, hts, hK, hA, hnc, hns, hfr, hlo⟩ := F
  intro H locs ls hP hD hS hl
  exact lv_astore hx hb hd (zl_lv hl) (by rw [hml]; exact hi) rfl (fun ls2 h2 => kk H locs ls2 hP hD hS (zl_set (i := 8) hl rfl h2))
theorem zz_iincG8 {k : ZK} {g : ZG} {own : String} {cc : ByteArray} {nL fr lo pc : Nat} {ws : va_W} {rest : List Value} {x0 x1 x2 x3 x4 x5 x6 x7 : Option Value} {v v2 : Int32} {n : Int} {r : ZL} (F : zz_F k g own cc nL fr lo) (hd : decode cc pc = .ok (.iinc 8 n, 3)) (hi : 8 < nL) (hv : v + Int32.ofInt n = v2) (kk : zz_W k ws (pc + 3) (x0 :: x1 :: x2 :: x3 :: x4 :: x5 :: x6 :: x7 :: some (.int v2) :: r) (rest)) : zz_W k ws pc (x0 :: x1 :: x2 :: x3 :: x4 :: x5 :: x6 :: x7 :: some (.int v) :: r) (rest) := by
  obtain ⟨p, l, e, R, s, m, args, below, meth, c, Q, A, D, nc, ns⟩ := k
  obtain ⟨hx, hb, hml, hown, hts, hK, hA, hnc, hns, hfr, hlo⟩ := F
  intro H locs ls hP hD hS hl
  obtain ⟨kx, hkx⟩ := List.getElem?_of_mem (zl_mem.mpr (show (x0 :: x1 :: x2 :: x3 :: x4 :: x5 :: x6 :: x7 :: some (.int v) :: r)[8]? = some (some (.int v)) from rfl))
  exact lv_iinc hx hb hd (zl_lv hl) hkx hv (by rw [hml]; exact hi) rfl (fun ls2 h2 => kk H locs ls2 hP hD hS (zl_set (i := 8) hl rfl h2))
theorem zz_iinc8 {k : ZK} {g : ZG} {own : String} {cc : ByteArray} {nL fr lo pc : Nat} {ws : va_W} {rest : List Value} {x0 x1 x2 x3 x4 x5 x6 x7 : Option Value} {a : Nat} {r : ZL} (F : zz_F k g own cc nL fr lo) (hd : decode cc pc = .ok (.iinc 8 1, 3)) (hi : 8 < nL) (kk : zz_W k ws (pc + 3) (x0 :: x1 :: x2 :: x3 :: x4 :: x5 :: x6 :: x7 :: some (.int (nI (a + 1))) :: r) rest) : zz_W k ws pc (x0 :: x1 :: x2 :: x3 :: x4 :: x5 :: x6 :: x7 :: some (.int (nI a)) :: r) rest := zz_iincG8 F hd hi (nI_1 a) kk
theorem zz_idec8 {k : ZK} {g : ZG} {own : String} {cc : ByteArray} {nL fr lo pc : Nat} {ws : va_W} {rest : List Value} {x0 x1 x2 x3 x4 x5 x6 x7 : Option Value} {a : Nat} {r : ZL} (F : zz_F k g own cc nL fr lo) (hd : decode cc pc = .ok (.iinc 8 (-1), 3)) (hi : 8 < nL) (kk : zz_W k ws (pc + 3) (x0 :: x1 :: x2 :: x3 :: x4 :: x5 :: x6 :: x7 :: some (.int (nI a)) :: r) rest) : zz_W k ws pc (x0 :: x1 :: x2 :: x3 :: x4 :: x5 :: x6 :: x7 :: some (.int (nI (a + 1))) :: r) rest := zz_iincG8 F hd hi (pk_m1 a) kk
theorem zz_iload9 {k : ZK} {g : ZG} {own : String} {cc : ByteArray} {nL fr lo pc : Nat} {ws : va_W} {rest : List Value} {x0 x1 x2 x3 x4 x5 x6 x7 x8 : Option Value} {v : Int32} {r : ZL} (F : zz_F k g own cc nL fr lo) (hd : decode cc pc = .ok (.iload 9, 2))  (kk : zz_W k ws (pc + 2) (x0 :: x1 :: x2 :: x3 :: x4 :: x5 :: x6 :: x7 :: x8 :: some (.int v) :: r) (.int v :: rest)) : zz_W k ws pc (x0 :: x1 :: x2 :: x3 :: x4 :: x5 :: x6 :: x7 :: x8 :: some (.int v) :: r) (rest) := by
  obtain ⟨p, l, e, R, s, m, args, below, meth, c, Q, A, D, nc, ns⟩ := k
  obtain ⟨hx, hb, hml, hown, hts, hK, hA, hnc, hns, hfr, hlo⟩ := F
  intro H locs ls hP hD hS hl
  exact lv_iload hx hb hd (hl.2.2 9 _ rfl).2 (kk H locs ls hP hD hS hl)
theorem zz_istore9 {k : ZK} {g : ZG} {own : String} {cc : ByteArray} {nL fr lo pc : Nat} {ws : va_W} {rest : List Value} {x0 x1 x2 x3 x4 x5 x6 x7 x8 : Option Value} {y : Option Value} {v : Int32} {r : ZL} (F : zz_F k g own cc nL fr lo) (hd : decode cc pc = .ok (.istore 9, 2)) (hi : 9 < nL) (kk : zz_W k ws (pc + 2) (x0 :: x1 :: x2 :: x3 :: x4 :: x5 :: x6 :: x7 :: x8 :: some (.int v) :: r) (rest)) : zz_W k ws pc (x0 :: x1 :: x2 :: x3 :: x4 :: x5 :: x6 :: x7 :: x8 :: y :: r) (.int v :: rest) := by
  obtain ⟨p, l, e, R, s, m, args, below, meth, c, Q, A, D, nc, ns⟩ := k
  obtain ⟨hx, hb, hml, hown, hts, hK, hA, hnc, hns, hfr, hlo⟩ := F
  intro H locs ls hP hD hS hl
  exact lv_istore hx hb hd (zl_lv hl) (by rw [hml]; exact hi) rfl (fun ls2 h2 => kk H locs ls2 hP hD hS (zl_set (i := 9) hl rfl h2))
theorem zz_aload9 {k : ZK} {g : ZG} {own : String} {cc : ByteArray} {nL fr lo pc : Nat} {ws : va_W} {rest : List Value} {x0 x1 x2 x3 x4 x5 x6 x7 x8 : Option Value} {v : Nat} {r : ZL} (F : zz_F k g own cc nL fr lo) (hd : decode cc pc = .ok (.aload 9, 2))  (kk : zz_W k ws (pc + 2) (x0 :: x1 :: x2 :: x3 :: x4 :: x5 :: x6 :: x7 :: x8 :: some (.ref v) :: r) (.ref v :: rest)) : zz_W k ws pc (x0 :: x1 :: x2 :: x3 :: x4 :: x5 :: x6 :: x7 :: x8 :: some (.ref v) :: r) (rest) := by
  obtain ⟨p, l, e, R, s, m, args, below, meth, c, Q, A, D, nc, ns⟩ := k
  obtain ⟨hx, hb, hml, hown, hts, hK, hA, hnc, hns, hfr, hlo⟩ := F
  intro H locs ls hP hD hS hl
  exact lv_aload hx hb hd (hl.2.2 9 _ rfl).2 (kk H locs ls hP hD hS hl)
theorem zz_astore9 {k : ZK} {g : ZG} {own : String} {cc : ByteArray} {nL fr lo pc : Nat} {ws : va_W} {rest : List Value} {x0 x1 x2 x3 x4 x5 x6 x7 x8 : Option Value} {y : Option Value} {v : Nat} {r : ZL} (F : zz_F k g own cc nL fr lo) (hd : decode cc pc = .ok (.astore 9, 2)) (hi : 9 < nL) (kk : zz_W k ws (pc + 2) (x0 :: x1 :: x2 :: x3 :: x4 :: x5 :: x6 :: x7 :: x8 :: some (.ref v) :: r) (rest)) : zz_W k ws pc (x0 :: x1 :: x2 :: x3 :: x4 :: x5 :: x6 :: x7 :: x8 :: y :: r) (.ref v :: rest) := by
  obtain ⟨p, l, e, R, s, m, args, below, meth, c, Q, A, D, nc, ns⟩ := k
  obtain ⟨hx, hb, hml, hown, hts, hK, hA, hnc, hns, hfr, hlo⟩ := F
  intro H locs ls hP hD hS hl
  exact lv_astore hx hb hd (zl_lv hl) (by rw [hml]; exact hi) rfl (fun ls2 h2 => kk H locs ls2 hP hD hS (zl_set (i := 9) hl rfl h2))
theorem zz_iincG9 {k : ZK} {g : ZG} {own : String} {cc : ByteArray} {nL fr lo pc : Nat} {ws : va_W} {rest : List Value} {x0 x1 x2 x3 x4 x5 x6 x7 x8 : Option Value} {v v2 : Int32} {n : Int} {r : ZL} (F : zz_F k g own cc nL fr lo) (hd : decode cc pc = .ok (.iinc 9 n, 3)) (hi : 9 < nL) (hv : v + Int32.ofInt n = v2) (kk : zz_W k ws (pc + 3) (x0 :: x1 :: x2 :: x3 :: x4 :: x5 :: x6 :: x7 :: x8 :: some (.int v2) :: r) (rest)) : zz_W k ws pc (x0 :: x1 :: x2 :: x3 :: x4 :: x5 :: x6 :: x7 :: x8 :: some (.int v) :: r) (rest) := by
  obtain ⟨p, l, e, R, s, m, args, below, meth, c, Q, A, D, nc, ns⟩ := k
  obtain ⟨hx, hb, hml, hown, hts, hK, hA, hnc, hns, hfr, hlo⟩ := F
  intro H locs ls hP hD hS hl
  obtain ⟨kx, hkx⟩ := List.getElem?_of_mem (zl_mem.mpr (show (x0 :: x1 :: x2 :: x3 :: x4 :: x5 :: x6 :: x7 :: x8 :: some (.int v) :: r)[9]? = some (some (.int v)) from rfl))
  exact lv_iinc hx hb hd (zl_lv hl) hkx hv (by rw [hml]; exact hi) rfl (fun ls2 h2 => kk H locs ls2 hP hD hS (zl_set (i := 9) hl rfl h2))
theorem zz_iinc9 {k : ZK} {g : ZG} {own : String} {cc : ByteArray} {nL fr lo pc : Nat} {ws : va_W} {rest : List Value} {x0 x1 x2 x3 x4 x5 x6 x7 x8 : Option Value} {a : Nat} {r : ZL} (F : zz_F k g own cc nL fr lo) (hd : decode cc pc = .ok (.iinc 9 1, 3)) (hi : 9 < nL) (kk : zz_W k ws (pc + 3) (x0 :: x1 :: x2 :: x3 :: x4 :: x5 :: x6 :: x7 :: x8 :: some (.int (nI (a + 1))) :: r) rest) : zz_W k ws pc (x0 :: x1 :: x2 :: x3 :: x4 :: x5 :: x6 :: x7 :: x8 :: some (.int (nI a)) :: r) rest := zz_iincG9 F hd hi (nI_1 a) kk
theorem zz_idec9 {k : ZK} {g : ZG} {own : String} {cc : ByteArray} {nL fr lo pc : Nat} {ws : va_W} {rest : List Value} {x0 x1 x2 x3 x4 x5 x6 x7 x8 : Option Value} {a : Nat} {r : ZL} (F : zz_F k g own cc nL fr lo) (hd : decode cc pc = .ok (.iinc 9 (-1), 3)) (hi : 9 < nL) (kk : zz_W k ws (pc + 3) (x0 :: x1 :: x2 :: x3 :: x4 :: x5 :: x6 :: x7 :: x8 :: some (.int (nI a)) :: r) rest) : zz_W k ws pc (x0 :: x1 :: x2 :: x3 :: x4 :: x5 :: x6 :: x7 :: x8 :: some (.int (nI (a + 1))) :: r) rest := zz_iincG9 F hd hi (pk_m1 a) kk
theorem zz_iload10 {k : ZK} {g : ZG} {own : String} {cc : ByteArray} {nL fr lo pc : Nat} {ws : va_W} {rest : List Value} {x0 x1 x2 x3 x4 x5 x6 x7 x8 x9 : Option Value} {v : Int32} {r : ZL} (F : zz_F k g own cc nL fr lo) (hd : decode cc pc = .ok (.iload 10, 2))  (kk : zz_W k ws (pc + 2) (x0 :: x1 :: x2 :: x3 :: x4 :: x5 :: x6 :: x7 :: x8 :: x9 :: some (.int v) :: r) (.int v :: rest)) : zz_W k ws pc (x0 :: x1 :: x2 :: x3 :: x4 :: x5 :: x6 :: x7 :: x8 :: x9 :: some (.int v) :: r) (rest) := by
  obtain ⟨p, l, e, R, s, m, args, below, meth, c, Q, A, D, nc, ns⟩ := k
  obtain ⟨hx, hb, hml, hown, hts, hK, hA, hnc, hns, hfr, hlo⟩ := F
  intro H locs ls hP hD hS hl
  exact lv_iload hx hb hd (hl.2.2 10 _ rfl).2 (kk H locs ls hP hD hS hl)
theorem zz_istore10 {k : ZK} {g : ZG} {own : String} {cc : ByteArray} {nL fr lo pc : Nat} {ws : va_W} {rest : List Value} {x0 x1 x2 x3 x4 x5 x6 x7 x8 x9 : Option Value} {y : Option Value} {v : Int32} {r : ZL} (F : zz_F k g own cc nL fr lo) (hd : decode cc pc = .ok (.istore 10, 2)) (hi : 10 < nL) (kk : zz_W k ws (pc + 2) (x0 :: x1 :: x2 :: x3 :: x4 :: x5 :: x6 :: x7 :: x8 :: x9 :: some (.int v) :: r) (rest)) : zz_W k ws pc (x0 :: x1 :: x2 :: x3 :: x4 :: x5 :: x6 :: x7 :: x8 :: x9 :: y :: r) (.int v :: rest) := by
  obtain ⟨p, l, e, R, s, m, args, below, meth, c, Q, A, D, nc, ns⟩ := k
  obtain ⟨hx, hb, hml, hown, hts, hK, hA, hnc, hns, hfr, hlo⟩ := F
  intro H locs ls hP hD hS hl
  exact lv_istore hx hb hd (zl_lv hl) (by rw [hml]; exact hi) rfl (fun ls2 h2 => kk H locs ls2 hP hD hS (zl_set (i := 10) hl rfl h2))
theorem zz_aload10 {k : ZK} {g : ZG} {own : String} {cc : ByteArray} {nL fr lo pc : Nat} {ws : va_W} {rest : List Value} {x0 x1 x2 x3 x4 x5 x6 x7 x8 x9 : Option Value} {v : Nat} {r : ZL} (F : zz_F k g own cc nL fr lo) (hd : decode cc pc = .ok (.aload 10, 2))  (kk : zz_W k ws (pc + 2) (x0 :: x1 :: x2 :: x3 :: x4 :: x5 :: x6 :: x7 :: x8 :: x9 :: some (.ref v) :: r) (.ref v :: rest)) : zz_W k ws pc (x0 :: x1 :: x2 :: x3 :: x4 :: x5 :: x6 :: x7 :: x8 :: x9 :: some (.ref v) :: r) (rest) := by
  obtain ⟨p, l, e, R, s, m, args, below, meth, c, Q, A, D, nc, ns⟩ := k
  obtain ⟨hx, hb, hml, hown, hts, hK, hA, hnc, hns, hfr, hlo⟩ := F
  intro H locs ls hP hD hS hl
  exact lv_aload hx hb hd (hl.2.2 10 _ rfl).2 (kk H locs ls hP hD hS hl)
theorem zz_astore10 {k : ZK} {g : ZG} {own : String} {cc : ByteArray} {nL fr lo pc : Nat} {ws : va_W} {rest : List Value} {x0 x1 x2 x3 x4 x5 x6 x7 x8 x9 : Option Value} {y : Option Value} {v : Nat} {r : ZL} (F : zz_F k g own cc nL fr lo) (hd : decode cc pc = .ok (.astore 10, 2)) (hi : 10 < nL) (kk : zz_W k ws (pc + 2) (x0 :: x1 :: x2 :: x3 :: x4 :: x5 :: x6 :: x7 :: x8 :: x9 :: some (.ref v) :: r) (rest)) : zz_W k ws pc (x0 :: x1 :: x2 :: x3 :: x4 :: x5 :: x6 :: x7 :: x8 :: x9 :: y :: r) (.ref v :: rest) := by
  obtain ⟨p, l, e, R, s, m, args, below, meth, c, Q, A, D, nc, ns⟩ := k
  obtain ⟨hx, hb, hml, hown, hts, hK, hA, hnc, hns, hfr, hlo⟩ := F
  intro H locs ls hP hD hS hl
  exact lv_astore hx hb hd (zl_lv hl) (by rw [hml]; exact hi) rfl (fun ls2 h2 => kk H locs ls2 hP hD hS (zl_set (i := 10) hl rfl h2))
theorem zz_iincG10 {k : ZK} {g : ZG} {own : String} {cc : ByteArray} {nL fr lo pc : Nat} {ws : va_W} {rest : List Value} {x0 x1 x2 x3 x4 x5 x6 x7 x8 x9 : Option Value} {v v2 : Int32} {n : Int} {r : ZL} (F : zz_F k g own cc nL fr lo) (hd : decode cc pc = .ok (.iinc 10 n, 3)) (hi : 10 < nL) (hv : v + Int32.ofInt n = v2) (kk : zz_W k ws (pc + 3) (x0 :: x1 :: x2 :: x3 :: x4 :: x5 :: x6 :: x7 :: x8 :: x9 :: some (.int v2) :: r) (rest)) : zz_W k ws pc (x0 :: x1 :: x2 :: x3 :: x4 :: x5 :: x6 :: x7 :: x8 :: x9 :: some (.int v) :: r) (rest) := by
  obtain ⟨p, l, e, R, s, m, args, below, meth, c, Q, A, D, nc, ns⟩ := k
  obtain ⟨hx, hb, hml, hown, hts, hK, hA, hnc, hns, hfr, hlo⟩ := F
  intro H locs ls hP hD hS hl
  obtain ⟨kx, hkx⟩ := List.getElem?_of_mem (zl_mem.mpr (show (x0 :: x1 :: x2 :: x3 :: x4 :: x5 :: x6 :: x7 :: x8 :: x9 :: some (.int v) :: r)[10]? = some (some (.int v)) from rfl))
  exact lv_iinc hx hb hd (zl_lv hl) hkx hv (by rw [hml]; exact hi) rfl (fun ls2 h2 => kk H locs ls2 hP hD hS (zl_set (i := 10) hl rfl h2))
theorem zz_iinc10 {k : ZK} {g : ZG} {own : String} {cc : ByteArray} {nL fr lo pc : Nat} {ws : va_W} {rest : List Value} {x0 x1 x2 x3 x4 x5 x6 x7 x8 x9 : Option Value} {a : Nat} {r : ZL} (F : zz_F k g own cc nL fr lo) (hd : decode cc pc = .ok (.iinc 10 1, 3)) (hi : 10 < nL) (kk : zz_W k ws (pc + 3) (x0 :: x1 :: x2 :: x3 :: x4 :: x5 :: x6 :: x7 :: x8 :: x9 :: some (.int (nI (a + 1))) :: r) rest) : zz_W k ws pc (x0 :: x1 :: x2 :: x3 :: x4 :: x5 :: x6 :: x7 :: x8 :: x9 :: some (.int (nI a)) :: r) rest := zz_iincG10 F hd hi (nI_1 a) kk
theorem zz_idec10 {k : ZK} {g : ZG} {own : String} {cc : ByteArray} {nL fr lo pc : Nat} {ws : va_W} {rest : List Value} {x0 x1 x2 x3 x4 x5 x6 x7 x8 x9 : Option Value} {a : Nat} {r : ZL} (F : zz_F k g own cc nL fr lo) (hd : decode cc pc = .ok (.iinc 10 (-1), 3)) (hi : 10 < nL) (kk : zz_W k ws (pc + 3) (x0 :: x1 :: x2 :: x3 :: x4 :: x5 :: x6 :: x7 :: x8 :: x9 :: some (.int (nI a)) :: r) rest) : zz_W k ws pc (x0 :: x1 :: x2 :: x3 :: x4 :: x5 :: x6 :: x7 :: x8 :: x9 :: some (.int (nI (a + 1))) :: r) rest := zz_iincG10 F hd hi (pk_m1 a) kk
end
section
set_option maxRecDepth 100000
theorem zz_iaddG {k : ZK} {g : ZG} {own : String} {cc : ByteArray} {nL fr lo pc : Nat} {ws : va_W} {L : ZL} {rest : List Value} {x y : Int32} (F : zz_F k g own cc nL fr lo) (hd : decode cc pc = .ok (.iadd, 1))  (kk : zz_W k ws (pc + 1) L (.int (x + y) :: rest)) : zz_W k ws pc L (.int y :: .int x :: rest) := by
  obtain ⟨p, l, e, R, s, m, args, below, meth, c, Q, A, D, nc, ns⟩ := k
  obtain ⟨hx, hb, hml, hown, hts, hK, hA, hnc, hns, hfr, hlo⟩ := F
  intro H locs ls hP hD hS hl
  exact lv_iadd hx hb hd (kk H locs ls hP hD hS hl)
theorem zz_isubG {k : ZK} {g : ZG} {own : String} {cc : ByteArray} {nL fr lo pc : Nat} {ws : va_W} {L : ZL} {rest : List Value} {x y : Int32} (F : zz_F k g own cc nL fr lo) (hd : decode cc pc = .ok (.isub, 1))  (kk : zz_W k ws (pc + 1) L (.int (x - y) :: rest)) : zz_W k ws pc L (.int y :: .int x :: rest) := by
  obtain ⟨p, l, e, R, s, m, args, below, meth, c, Q, A, D, nc, ns⟩ := k
  obtain ⟨hx, hb, hml, hown, hts, hK, hA, hnc, hns, hfr, hlo⟩ := F
  intro H locs ls hP hD hS hl
  exact lv_isub hx hb hd (kk H locs ls hP hD hS hl)
theorem zz_imulG {k : ZK} {g : ZG} {own : String} {cc : ByteArray} {nL fr lo pc : Nat} {ws : va_W} {L : ZL} {rest : List Value} {x y : Int32} (F : zz_F k g own cc nL fr lo) (hd : decode cc pc = .ok (.imul, 1))  (kk : zz_W k ws (pc + 1) L (.int (x * y) :: rest)) : zz_W k ws pc L (.int y :: .int x :: rest) := by
  obtain ⟨p, l, e, R, s, m, args, below, meth, c, Q, A, D, nc, ns⟩ := k
  obtain ⟨hx, hb, hml, hown, hts, hK, hA, hnc, hns, hfr, hlo⟩ := F
  intro H locs ls hP hD hS hl
  exact lv_imul hx hb hd (kk H locs ls hP hD hS hl)
theorem zz_iandG {k : ZK} {g : ZG} {own : String} {cc : ByteArray} {nL fr lo pc : Nat} {ws : va_W} {L : ZL} {rest : List Value} {x y : Int32} (F : zz_F k g own cc nL fr lo) (hd : decode cc pc = .ok (.iand, 1))  (kk : zz_W k ws (pc + 1) L (.int (x &&& y) :: rest)) : zz_W k ws pc L (.int y :: .int x :: rest) := by
  obtain ⟨p, l, e, R, s, m, args, below, meth, c, Q, A, D, nc, ns⟩ := k
  obtain ⟨hx, hb, hml, hown, hts, hK, hA, hnc, hns, hfr, hlo⟩ := F
  intro H locs ls hP hD hS hl
  exact lv_iand hx hb hd (kk H locs ls hP hD hS hl)
theorem zz_ixorG {k : ZK} {g : ZG} {own : String} {cc : ByteArray} {nL fr lo pc : Nat} {ws : va_W} {L : ZL} {rest : List Value} {x y : Int32} (F : zz_F k g own cc nL fr lo) (hd : decode cc pc = .ok (.ixor, 1))  (kk : zz_W k ws (pc + 1) L (.int (x ^^^ y) :: rest)) : zz_W k ws pc L (.int y :: .int x :: rest) := by
  obtain ⟨p, l, e, R, s, m, args, below, meth, c, Q, A, D, nc, ns⟩ := k
  obtain ⟨hx, hb, hml, hown, hts, hK, hA, hnc, hns, hfr, hlo⟩ := F
  intro H locs ls hP hD hS hl
  exact lv_ixor hx hb hd (kk H locs ls hP hD hS hl)
theorem zz_ishrG {k : ZK} {g : ZG} {own : String} {cc : ByteArray} {nL fr lo pc : Nat} {ws : va_W} {L : ZL} {rest : List Value} {x y : Int32} (F : zz_F k g own cc nL fr lo) (hd : decode cc pc = .ok (.ishr, 1))  (kk : zz_W k ws (pc + 1) L (.int (x >>> (y &&& 31)) :: rest)) : zz_W k ws pc L (.int y :: .int x :: rest) := by
  obtain ⟨p, l, e, R, s, m, args, below, meth, c, Q, A, D, nc, ns⟩ := k
  obtain ⟨hx, hb, hml, hown, hts, hK, hA, hnc, hns, hfr, hlo⟩ := F
  intro H locs ls hP hD hS hl
  exact lv_ishr hx hb hd (kk H locs ls hP hD hS hl)
theorem zz_iushrG {k : ZK} {g : ZG} {own : String} {cc : ByteArray} {nL fr lo pc : Nat} {ws : va_W} {L : ZL} {rest : List Value} {x y : Int32} (F : zz_F k g own cc nL fr lo) (hd : decode cc pc = .ok (.iushr, 1))  (kk : zz_W k ws (pc + 1) L (.int ((x.toUInt32 >>> (y.toUInt32 &&& Int32.toUInt32 31)).toInt32) :: rest)) : zz_W k ws pc L (.int y :: .int x :: rest) := by
  obtain ⟨p, l, e, R, s, m, args, below, meth, c, Q, A, D, nc, ns⟩ := k
  obtain ⟨hx, hb, hml, hown, hts, hK, hA, hnc, hns, hfr, hlo⟩ := F
  intro H locs ls hP hD hS hl
  exact lv_iushr hx hb hd rfl (kk H locs ls hP hD hS hl)
theorem zz_idivG {k : ZK} {g : ZG} {own : String} {cc : ByteArray} {nL fr lo pc : Nat} {ws : va_W} {L : ZL} {rest : List Value} {x y : Int32} (F : zz_F k g own cc nL fr lo) (hd : decode cc pc = .ok (.idiv, 1)) (hy : ¬ y = 0) (kk : zz_W k ws (pc + 1) L (.int (x / y) :: rest)) : zz_W k ws pc L (.int y :: .int x :: rest) := by
  obtain ⟨p, l, e, R, s, m, args, below, meth, c, Q, A, D, nc, ns⟩ := k
  obtain ⟨hx, hb, hml, hown, hts, hK, hA, hnc, hns, hfr, hlo⟩ := F
  intro H locs ls hP hD hS hl
  exact lv_idiv hx hb hd hy (kk H locs ls hP hD hS hl)
theorem zz_dup {k : ZK} {g : ZG} {own : String} {cc : ByteArray} {nL fr lo pc : Nat} {ws : va_W} {L : ZL} {rest : List Value} {va : Value} (F : zz_F k g own cc nL fr lo) (hd : decode cc pc = .ok (.dup, 1)) (hc : va.category = 1) (kk : zz_W k ws (pc + 1) L (va :: va :: rest)) : zz_W k ws pc L (va :: rest) := by
  obtain ⟨p, l, e, R, s, m, args, below, meth, c, Q, A, D, nc, ns⟩ := k
  obtain ⟨hx, hb, hml, hown, hts, hK, hA, hnc, hns, hfr, hlo⟩ := F
  intro H locs ls hP hD hS hl
  exact lv_dup hx hb hd hc (kk H locs ls hP hD hS hl)
theorem zz_pop {k : ZK} {g : ZG} {own : String} {cc : ByteArray} {nL fr lo pc : Nat} {ws : va_W} {L : ZL} {rest : List Value} {va : Value} (F : zz_F k g own cc nL fr lo) (hd : decode cc pc = .ok (.pop, 1)) (hc : va.category = 1) (kk : zz_W k ws (pc + 1) L (rest)) : zz_W k ws pc L (va :: rest) := by
  obtain ⟨p, l, e, R, s, m, args, below, meth, c, Q, A, D, nc, ns⟩ := k
  obtain ⟨hx, hb, hml, hown, hts, hK, hA, hnc, hns, hfr, hlo⟩ := F
  intro H locs ls hP hD hS hl
  exact lv_pop hx hb hd hc (kk H locs ls hP hD hS hl)
theorem zz_dup2 {k : ZK} {g : ZG} {own : String} {cc : ByteArray} {nL fr lo pc : Nat} {ws : va_W} {L : ZL} {rest : List Value} {va vb : Value} (F : zz_F k g own cc nL fr lo) (hd : decode cc pc = .ok (.dup2, 1)) (hc : va.category = 1) (hc2 : vb.category = 1) (kk : zz_W k ws (pc + 1) L (va :: vb :: va :: vb :: rest)) : zz_W k ws pc L (va :: vb :: rest) := by
  obtain ⟨p, l, e, R, s, m, args, below, meth, c, Q, A, D, nc, ns⟩ := k
  obtain ⟨hx, hb, hml, hown, hts, hK, hA, hnc, hns, hfr, hlo⟩ := F
  intro H locs ls hP hD hS hl
  exact lv_dup2_11 hx hb hd hc hc2 (kk H locs ls hP hD hS hl)
theorem zz_top {k : ZK} {pc : Nat} {ws : va_W} {L : ZL} {rest : List Value} {x y : Int32} (h : x = y) (kk : zz_W k ws pc L (.int y :: rest)) : zz_W k ws pc L (.int x :: rest) := by rw [h]; exact kk
theorem zz_wld {k : ZK} {pc : Nat} {ws ws2 : va_W} {L : ZL} {st : List Value} (h : ws = ws2) (kk : zz_W k ws2 pc L st) : zz_W k ws pc L st := by rw [h]; exact kk
theorem zz_iadd {k : ZK} {g : ZG} {own : String} {cc : ByteArray} {nL fr lo pc : Nat} {ws : va_W} {L : ZL} {rest : List Value} {a b : Nat} (F : zz_F k g own cc nL fr lo) (hd : decode cc pc = .ok (.iadd, 1)) (kk : zz_W k ws (pc + 1) L (.int (nI (a + b)) :: rest)) : zz_W k ws pc L (.int (nI b) :: .int (nI a) :: rest) := zz_iaddG F hd (zz_top (nI_add a b) kk)
theorem zz_imul {k : ZK} {g : ZG} {own : String} {cc : ByteArray} {nL fr lo pc : Nat} {ws : va_W} {L : ZL} {rest : List Value} {a b : Nat} (F : zz_F k g own cc nL fr lo) (hd : decode cc pc = .ok (.imul, 1)) (kk : zz_W k ws (pc + 1) L (.int (nI (a * b)) :: rest)) : zz_W k ws pc L (.int (nI b) :: .int (nI a) :: rest) := zz_imulG F hd (zz_top (pk_mul a b) kk)
theorem zz_isub {k : ZK} {g : ZG} {own : String} {cc : ByteArray} {nL fr lo pc : Nat} {ws : va_W} {L : ZL} {rest : List Value} {a b : Nat} (F : zz_F k g own cc nL fr lo) (hd : decode cc pc = .ok (.isub, 1)) (h : b ≤ a) (kk : zz_W k ws (pc + 1) L (.int (nI (a - b)) :: rest)) : zz_W k ws pc L (.int (nI b) :: .int (nI a) :: rest) := zz_isubG F hd (zz_top (pk_sub h) kk)
theorem zz_idiv {k : ZK} {g : ZG} {own : String} {cc : ByteArray} {nL fr lo pc : Nat} {ws : va_W} {L : ZL} {rest : List Value} {a b : Nat} (F : zz_F k g own cc nL fr lo) (hd : decode cc pc = .ok (.idiv, 1)) (ha : a < 2 ^ 31) (h0 : 0 < b) (hb : b < 2 ^ 31) (kk : zz_W k ws (pc + 1) L (.int (nI (a / b)) :: rest)) : zz_W k ws pc L (.int (nI b) :: .int (nI a) :: rest) := zz_idivG F hd (nI_ne0 h0 hb) (zz_top (pk_div ha h0 hb) kk)
theorem zz_shr2 {k : ZK} {g : ZG} {own : String} {cc : ByteArray} {nL fr lo pc : Nat} {ws : va_W} {L : ZL} {rest : List Value} {a : Nat} (F : zz_F k g own cc nL fr lo) (hd : decode cc pc = .ok (.ishr, 1)) (ha : a < 2 ^ 31) (kk : zz_W k ws (pc + 1) L (.int (nI (a / 4)) :: rest)) : zz_W k ws pc L (.int (nI 2) :: .int (nI a) :: rest) := zz_ishrG F hd (zz_top (pk_shrN ha (nI 2 &&& 31) 2 (by decide)) kk)
theorem zz_shr4 {k : ZK} {g : ZG} {own : String} {cc : ByteArray} {nL fr lo pc : Nat} {ws : va_W} {L : ZL} {rest : List Value} {a : Nat} (F : zz_F k g own cc nL fr lo) (hd : decode cc pc = .ok (.ishr, 1)) (ha : a < 2 ^ 31) (kk : zz_W k ws (pc + 1) L (.int (nI (a / 16)) :: rest)) : zz_W k ws pc L (.int (nI 4) :: .int (nI a) :: rest) := zz_ishrG F hd (zz_top (pk_shrN ha (nI 4 &&& 31) 4 (by decide)) kk)
def by8 (x : Int32) : Nat := x.toBitVec.toNat % 256
theorem by8_lt (x : Int32) : by8 x < 256 := Nat.mod_lt _ (by decide)
theorem by8_nI {n : Nat} (h : n < 256) : by8 (nI n) = n := by
  unfold by8
  rw [pk_tn (Nat.lt_trans h (by decide))]
  exact Nat.mod_eq_of_lt h
theorem by8_and (x : Int32) : x &&& nI 255 = nI (by8 x) := pk_and x 8 (by decide)
theorem zz_and255 {k : ZK} {g : ZG} {own : String} {cc : ByteArray} {nL fr lo pc : Nat} {ws : va_W} {L : ZL} {rest : List Value} {x : Int32} (F : zz_F k g own cc nL fr lo) (hd : decode cc pc = .ok (.iand, 1)) (kk : zz_W k ws (pc + 1) L (.int (nI (by8 x)) :: rest)) : zz_W k ws pc L (.int (nI 255) :: .int x :: rest) := zz_iandG F hd (zz_top (by8_and x) kk)
theorem zz_and7 {k : ZK} {g : ZG} {own : String} {cc : ByteArray} {nL fr lo pc : Nat} {ws : va_W} {L : ZL} {rest : List Value} {a : Nat} (F : zz_F k g own cc nL fr lo) (hd : decode cc pc = .ok (.iand, 1)) (ha : a < 2 ^ 32) (kk : zz_W k ws (pc + 1) L (.int (nI (a % 8)) :: rest)) : zz_W k ws pc L (.int (nI 7) :: .int (nI a) :: rest) := zz_iandG F hd (zz_top (pk_andN ha 3 (by decide)) kk)
theorem zz_and15 {k : ZK} {g : ZG} {own : String} {cc : ByteArray} {nL fr lo pc : Nat} {ws : va_W} {L : ZL} {rest : List Value} {a : Nat} (F : zz_F k g own cc nL fr lo) (hd : decode cc pc = .ok (.iand, 1)) (ha : a < 2 ^ 32) (kk : zz_W k ws (pc + 1) L (.int (nI (a % 16)) :: rest)) : zz_W k ws pc L (.int (nI 15) :: .int (nI a) :: rest) := zz_iandG F hd (zz_top (pk_andN ha 4 (by decide)) kk)
end
section
set_option maxRecDepth 100000
theorem zz_icmp_eqG {k : ZK} {g : ZG} {own : String} {cc : ByteArray} {nL fr lo pc : Nat} {ws : va_W} {L : ZL} {rest : List Value} {x y : Int32} {off : Int} (tgt : Nat) (F : zz_F k g own cc nL fr lo) (hd : decode cc pc = .ok (.if_icmp .eq off, 3)) (ht : (pc : Int) + off = (tgt : Int))  (kt : x = y → zz_W k ws tgt L rest) (kf : ¬ x = y → zz_W k ws (pc + 3) L rest) : zz_W k ws pc L (.int y :: .int x :: rest) := by
  obtain ⟨p, l, e, R, s, m, args, below, meth, c, Q, A, D, nc, ns⟩ := k
  obtain ⟨hx, hb, hml, hown, hts, hK, hA, hnc, hns, hfr, hlo⟩ := F
  intro H locs ls hP hD hS hl
  exact lv_icmp_eq (tgt := tgt) hx hb hd ht (fun h => kt h H locs ls hP hD hS hl) (fun h => kf h H locs ls hP hD hS hl)
theorem zz_icmp_neG {k : ZK} {g : ZG} {own : String} {cc : ByteArray} {nL fr lo pc : Nat} {ws : va_W} {L : ZL} {rest : List Value} {x y : Int32} {off : Int} (tgt : Nat) (F : zz_F k g own cc nL fr lo) (hd : decode cc pc = .ok (.if_icmp .ne off, 3)) (ht : (pc : Int) + off = (tgt : Int))  (kt : ¬ x = y → zz_W k ws tgt L rest) (kf : x = y → zz_W k ws (pc + 3) L rest) : zz_W k ws pc L (.int y :: .int x :: rest) := by
  obtain ⟨p, l, e, R, s, m, args, below, meth, c, Q, A, D, nc, ns⟩ := k
  obtain ⟨hx, hb, hml, hown, hts, hK, hA, hnc, hns, hfr, hlo⟩ := F
  intro H locs ls hP hD hS hl
  exact lv_icmp_ne (tgt := tgt) hx hb hd ht (fun h => kt h H locs ls hP hD hS hl) (fun h => kf h H locs ls hP hD hS hl)
theorem zz_icmp_ltG {k : ZK} {g : ZG} {own : String} {cc : ByteArray} {nL fr lo pc : Nat} {ws : va_W} {L : ZL} {rest : List Value} {x y : Int32} {off : Int} (tgt : Nat) (F : zz_F k g own cc nL fr lo) (hd : decode cc pc = .ok (.if_icmp .lt off, 3)) (ht : (pc : Int) + off = (tgt : Int))  (kt : x < y → zz_W k ws tgt L rest) (kf : ¬ x < y → zz_W k ws (pc + 3) L rest) : zz_W k ws pc L (.int y :: .int x :: rest) := by
  obtain ⟨p, l, e, R, s, m, args, below, meth, c, Q, A, D, nc, ns⟩ := k
  obtain ⟨hx, hb, hml, hown, hts, hK, hA, hnc, hns, hfr, hlo⟩ := F
  intro H locs ls hP hD hS hl
  exact lv_icmp_lt (tgt := tgt) hx hb hd ht (fun h => kt h H locs ls hP hD hS hl) (fun h => kf h H locs ls hP hD hS hl)
theorem zz_icmp_geG {k : ZK} {g : ZG} {own : String} {cc : ByteArray} {nL fr lo pc : Nat} {ws : va_W} {L : ZL} {rest : List Value} {x y : Int32} {off : Int} (tgt : Nat) (F : zz_F k g own cc nL fr lo) (hd : decode cc pc = .ok (.if_icmp .ge off, 3)) (ht : (pc : Int) + off = (tgt : Int))  (kt : y ≤ x → zz_W k ws tgt L rest) (kf : ¬ y ≤ x → zz_W k ws (pc + 3) L rest) : zz_W k ws pc L (.int y :: .int x :: rest) := by
  obtain ⟨p, l, e, R, s, m, args, below, meth, c, Q, A, D, nc, ns⟩ := k
  obtain ⟨hx, hb, hml, hown, hts, hK, hA, hnc, hns, hfr, hlo⟩ := F
  intro H locs ls hP hD hS hl
  exact lv_icmp_ge (tgt := tgt) hx hb hd ht (fun h => kt h H locs ls hP hD hS hl) (fun h => kf h H locs ls hP hD hS hl)
theorem zz_icmp_gtG {k : ZK} {g : ZG} {own : String} {cc : ByteArray} {nL fr lo pc : Nat} {ws : va_W} {L : ZL} {rest : List Value} {x y : Int32} {off : Int} (tgt : Nat) (F : zz_F k g own cc nL fr lo) (hd : decode cc pc = .ok (.if_icmp .gt off, 3)) (ht : (pc : Int) + off = (tgt : Int))  (kt : y < x → zz_W k ws tgt L rest) (kf : ¬ y < x → zz_W k ws (pc + 3) L rest) : zz_W k ws pc L (.int y :: .int x :: rest) := by
  obtain ⟨p, l, e, R, s, m, args, below, meth, c, Q, A, D, nc, ns⟩ := k
  obtain ⟨hx, hb, hml, hown, hts, hK, hA, hnc, hns, hfr, hlo⟩ := F
  intro H locs ls hP hD hS hl
  exact lv_icmp_gt (tgt := tgt) hx hb hd ht (fun h => kt h H locs ls hP hD hS hl) (fun h => kf h H locs ls hP hD hS hl)
theorem zz_icmp_leG {k : ZK} {g : ZG} {own : String} {cc : ByteArray} {nL fr lo pc : Nat} {ws : va_W} {L : ZL} {rest : List Value} {x y : Int32} {off : Int} (tgt : Nat) (F : zz_F k g own cc nL fr lo) (hd : decode cc pc = .ok (.if_icmp .le off, 3)) (ht : (pc : Int) + off = (tgt : Int))  (kt : x ≤ y → zz_W k ws tgt L rest) (kf : ¬ x ≤ y → zz_W k ws (pc + 3) L rest) : zz_W k ws pc L (.int y :: .int x :: rest) := by
  obtain ⟨p, l, e, R, s, m, args, below, meth, c, Q, A, D, nc, ns⟩ := k
  obtain ⟨hx, hb, hml, hown, hts, hK, hA, hnc, hns, hfr, hlo⟩ := F
  intro H locs ls hP hD hS hl
  exact lv_icmp_le (tgt := tgt) hx hb hd ht (fun h => kt h H locs ls hP hD hS hl) (fun h => kf h H locs ls hP hD hS hl)
theorem zz_if_eqG {k : ZK} {g : ZG} {own : String} {cc : ByteArray} {nL fr lo pc : Nat} {ws : va_W} {L : ZL} {rest : List Value} {x : Int32} {off : Int} (tgt : Nat) (F : zz_F k g own cc nL fr lo) (hd : decode cc pc = .ok (.ifCond .eq off, 3)) (ht : (pc : Int) + off = (tgt : Int))  (kt : x = 0 → zz_W k ws tgt L rest) (kf : ¬ x = 0 → zz_W k ws (pc + 3) L rest) : zz_W k ws pc L (.int x :: rest) := by
  obtain ⟨p, l, e, R, s, m, args, below, meth, c, Q, A, D, nc, ns⟩ := k
  obtain ⟨hx, hb, hml, hown, hts, hK, hA, hnc, hns, hfr, hlo⟩ := F
  intro H locs ls hP hD hS hl
  exact lv_if_eq (tgt := tgt) hx hb hd ht (fun h => kt h H locs ls hP hD hS hl) (fun h => kf h H locs ls hP hD hS hl)
theorem zz_if_neG {k : ZK} {g : ZG} {own : String} {cc : ByteArray} {nL fr lo pc : Nat} {ws : va_W} {L : ZL} {rest : List Value} {x : Int32} {off : Int} (tgt : Nat) (F : zz_F k g own cc nL fr lo) (hd : decode cc pc = .ok (.ifCond .ne off, 3)) (ht : (pc : Int) + off = (tgt : Int))  (kt : ¬ x = 0 → zz_W k ws tgt L rest) (kf : x = 0 → zz_W k ws (pc + 3) L rest) : zz_W k ws pc L (.int x :: rest) := by
  obtain ⟨p, l, e, R, s, m, args, below, meth, c, Q, A, D, nc, ns⟩ := k
  obtain ⟨hx, hb, hml, hown, hts, hK, hA, hnc, hns, hfr, hlo⟩ := F
  intro H locs ls hP hD hS hl
  exact lv_if_ne (tgt := tgt) hx hb hd ht (fun h => kt h H locs ls hP hD hS hl) (fun h => kf h H locs ls hP hD hS hl)
theorem zz_if_ltG {k : ZK} {g : ZG} {own : String} {cc : ByteArray} {nL fr lo pc : Nat} {ws : va_W} {L : ZL} {rest : List Value} {x : Int32} {off : Int} (tgt : Nat) (F : zz_F k g own cc nL fr lo) (hd : decode cc pc = .ok (.ifCond .lt off, 3)) (ht : (pc : Int) + off = (tgt : Int))  (kt : x < 0 → zz_W k ws tgt L rest) (kf : ¬ x < 0 → zz_W k ws (pc + 3) L rest) : zz_W k ws pc L (.int x :: rest) := by
  obtain ⟨p, l, e, R, s, m, args, below, meth, c, Q, A, D, nc, ns⟩ := k
  obtain ⟨hx, hb, hml, hown, hts, hK, hA, hnc, hns, hfr, hlo⟩ := F
  intro H locs ls hP hD hS hl
  exact lv_if_lt (tgt := tgt) hx hb hd ht (fun h => kt h H locs ls hP hD hS hl) (fun h => kf h H locs ls hP hD hS hl)
theorem zz_if_geG {k : ZK} {g : ZG} {own : String} {cc : ByteArray} {nL fr lo pc : Nat} {ws : va_W} {L : ZL} {rest : List Value} {x : Int32} {off : Int} (tgt : Nat) (F : zz_F k g own cc nL fr lo) (hd : decode cc pc = .ok (.ifCond .ge off, 3)) (ht : (pc : Int) + off = (tgt : Int))  (kt : 0 ≤ x → zz_W k ws tgt L rest) (kf : ¬ 0 ≤ x → zz_W k ws (pc + 3) L rest) : zz_W k ws pc L (.int x :: rest) := by
  obtain ⟨p, l, e, R, s, m, args, below, meth, c, Q, A, D, nc, ns⟩ := k
  obtain ⟨hx, hb, hml, hown, hts, hK, hA, hnc, hns, hfr, hlo⟩ := F
  intro H locs ls hP hD hS hl
  exact lv_if_ge (tgt := tgt) hx hb hd ht (fun h => kt h H locs ls hP hD hS hl) (fun h => kf h H locs ls hP hD hS hl)
theorem zz_if_gtG {k : ZK} {g : ZG} {own : String} {cc : ByteArray} {nL fr lo pc : Nat} {ws : va_W} {L : ZL} {rest : List Value} {x : Int32} {off : Int} (tgt : Nat) (F : zz_F k g own cc nL fr lo) (hd : decode cc pc = .ok (.ifCond .gt off, 3)) (ht : (pc : Int) + off = (tgt : Int))  (kt : 0 < x → zz_W k ws tgt L rest) (kf : ¬ 0 < x → zz_W k ws (pc + 3) L rest) : zz_W k ws pc L (.int x :: rest) := by
  obtain ⟨p, l, e, R, s, m, args, below, meth, c, Q, A, D, nc, ns⟩ := k
  obtain ⟨hx, hb, hml, hown, hts, hK, hA, hnc, hns, hfr, hlo⟩ := F
  intro H locs ls hP hD hS hl
  exact lv_if_gt (tgt := tgt) hx hb hd ht (fun h => kt h H locs ls hP hD hS hl) (fun h => kf h H locs ls hP hD hS hl)
theorem zz_if_leG {k : ZK} {g : ZG} {own : String} {cc : ByteArray} {nL fr lo pc : Nat} {ws : va_W} {L : ZL} {rest : List Value} {x : Int32} {off : Int} (tgt : Nat) (F : zz_F k g own cc nL fr lo) (hd : decode cc pc = .ok (.ifCond .le off, 3)) (ht : (pc : Int) + off = (tgt : Int))  (kt : x ≤ 0 → zz_W k ws tgt L rest) (kf : ¬ x ≤ 0 → zz_W k ws (pc + 3) L rest) : zz_W k ws pc L (.int x :: rest) := by
  obtain ⟨p, l, e, R, s, m, args, below, meth, c, Q, A, D, nc, ns⟩ := k
  obtain ⟨hx, hb, hml, hown, hts, hK, hA, hnc, hns, hfr, hlo⟩ := F
  intro H locs ls hP hD hS hl
  exact lv_if_le (tgt := tgt) hx hb hd ht (fun h => kt h H locs ls hP hD hS hl) (fun h => kf h H locs ls hP hD hS hl)
theorem zz_icmp_eq {k : ZK} {g : ZG} {own : String} {cc : ByteArray} {nL fr lo pc : Nat} {ws : va_W} {L : ZL} {rest : List Value} {a b : Nat} {off : Int} (tgt : Nat) (F : zz_F k g own cc nL fr lo) (hd : decode cc pc = .ok (.if_icmp .eq off, 3)) (ht : (pc : Int) + off = (tgt : Int)) (ha : a < 2 ^ 31) (hb : b < 2 ^ 31) (kt : a = b → zz_W k ws tgt L rest) (kf : a ≠ b → zz_W k ws (pc + 3) L rest) : zz_W k ws pc L (.int (nI b) :: .int (nI a) :: rest) := zz_icmp_eqG tgt F hd ht (fun h => kt ((nI_eq ha hb).mp h)) (fun h => kf (fun q => h (by rw [q])))
theorem zz_icmp_ne {k : ZK} {g : ZG} {own : String} {cc : ByteArray} {nL fr lo pc : Nat} {ws : va_W} {L : ZL} {rest : List Value} {a b : Nat} {off : Int} (tgt : Nat) (F : zz_F k g own cc nL fr lo) (hd : decode cc pc = .ok (.if_icmp .ne off, 3)) (ht : (pc : Int) + off = (tgt : Int)) (ha : a < 2 ^ 31) (hb : b < 2 ^ 31) (kt : a ≠ b → zz_W k ws tgt L rest) (kf : a = b → zz_W k ws (pc + 3) L rest) : zz_W k ws pc L (.int (nI b) :: .int (nI a) :: rest) := zz_icmp_neG tgt F hd ht (fun h => kt (fun q => h (by rw [q]))) (fun h => kf ((nI_eq ha hb).mp h))
theorem zz_icmp_lt {k : ZK} {g : ZG} {own : String} {cc : ByteArray} {nL fr lo pc : Nat} {ws : va_W} {L : ZL} {rest : List Value} {a b : Nat} {off : Int} (tgt : Nat) (F : zz_F k g own cc nL fr lo) (hd : decode cc pc = .ok (.if_icmp .lt off, 3)) (ht : (pc : Int) + off = (tgt : Int)) (ha : a < 2 ^ 31) (hb : b < 2 ^ 31) (kt : a < b → zz_W k ws tgt L rest) (kf : b ≤ a → zz_W k ws (pc + 3) L rest) : zz_W k ws pc L (.int (nI b) :: .int (nI a) :: rest) := zz_icmp_ltG tgt F hd ht (fun h => kt ((nI_ltI ha hb).mp h)) (fun h => kf (Nat.not_lt.mp (fun q => h ((nI_ltI ha hb).mpr q))))
theorem zz_icmp_ge {k : ZK} {g : ZG} {own : String} {cc : ByteArray} {nL fr lo pc : Nat} {ws : va_W} {L : ZL} {rest : List Value} {a b : Nat} {off : Int} (tgt : Nat) (F : zz_F k g own cc nL fr lo) (hd : decode cc pc = .ok (.if_icmp .ge off, 3)) (ht : (pc : Int) + off = (tgt : Int)) (ha : a < 2 ^ 31) (hb : b < 2 ^ 31) (kt : b ≤ a → zz_W k ws tgt L rest) (kf : a < b → zz_W k ws (pc + 3) L rest) : zz_W k ws pc L (.int (nI b) :: .int (nI a) :: rest) := zz_icmp_geG tgt F hd ht (fun h => kt ((nI_leI hb ha).mp h)) (fun h => kf (Nat.not_le.mp (fun q => h ((nI_leI hb ha).mpr q))))
theorem zz_icmp_gt {k : ZK} {g : ZG} {own : String} {cc : ByteArray} {nL fr lo pc : Nat} {ws : va_W} {L : ZL} {rest : List Value} {a b : Nat} {off : Int} (tgt : Nat) (F : zz_F k g own cc nL fr lo) (hd : decode cc pc = .ok (.if_icmp .gt off, 3)) (ht : (pc : Int) + off = (tgt : Int)) (ha : a < 2 ^ 31) (hb : b < 2 ^ 31) (kt : b < a → zz_W k ws tgt L rest) (kf : a ≤ b → zz_W k ws (pc + 3) L rest) : zz_W k ws pc L (.int (nI b) :: .int (nI a) :: rest) := zz_icmp_gtG tgt F hd ht (fun h => kt ((nI_ltI hb ha).mp h)) (fun h => kf (Nat.not_lt.mp (fun q => h ((nI_ltI hb ha).mpr q))))
theorem zz_icmp_le {k : ZK} {g : ZG} {own : String} {cc : ByteArray} {nL fr lo pc : Nat} {ws : va_W} {L : ZL} {rest : List Value} {a b : Nat} {off : Int} (tgt : Nat) (F : zz_F k g own cc nL fr lo) (hd : decode cc pc = .ok (.if_icmp .le off, 3)) (ht : (pc : Int) + off = (tgt : Int)) (ha : a < 2 ^ 31) (hb : b < 2 ^ 31) (kt : a ≤ b → zz_W k ws tgt L rest) (kf : b < a → zz_W k ws (pc + 3) L rest) : zz_W k ws pc L (.int (nI b) :: .int (nI a) :: rest) := zz_icmp_leG tgt F hd ht (fun h => kt ((nI_leI ha hb).mp h)) (fun h => kf (Nat.not_le.mp (fun q => h ((nI_leI ha hb).mpr q))))
theorem zz_n0 {a : Nat} (ha : a < 2 ^ 31) : nI a = 0 ↔ a = 0 := by
  rw [← nI_0]
  exact nI_eq ha (by decide)
theorem zz_p0 {a : Nat} (ha : a < 2 ^ 31) : 0 < nI a ↔ 0 < a := by
  rw [← nI_0]
  exact nI_ltI (by decide) ha
theorem zz_l0 {a : Nat} (ha : a < 2 ^ 31) : nI a ≤ 0 ↔ a = 0 := by
  rw [← nI_0, nI_leI ha (by decide)]
  omega
theorem zz_if_eq {k : ZK} {g : ZG} {own : String} {cc : ByteArray} {nL fr lo pc : Nat} {ws : va_W} {L : ZL} {rest : List Value} {a : Nat} {off : Int} (tgt : Nat) (F : zz_F k g own cc nL fr lo) (hd : decode cc pc = .ok (.ifCond .eq off, 3)) (ht : (pc : Int) + off = (tgt : Int)) (ha : a < 2 ^ 31) (kt : a = 0 → zz_W k ws tgt L rest) (kf : 0 < a → zz_W k ws (pc + 3) L rest) : zz_W k ws pc L (.int (nI a) :: rest) := zz_if_eqG tgt F hd ht (fun h => kt ((zz_n0 ha).mp h)) (fun h => kf (Nat.pos_of_ne_zero (fun q => h ((zz_n0 ha).mpr q))))
theorem zz_if_ne {k : ZK} {g : ZG} {own : String} {cc : ByteArray} {nL fr lo pc : Nat} {ws : va_W} {L : ZL} {rest : List Value} {a : Nat} {off : Int} (tgt : Nat) (F : zz_F k g own cc nL fr lo) (hd : decode cc pc = .ok (.ifCond .ne off, 3)) (ht : (pc : Int) + off = (tgt : Int)) (ha : a < 2 ^ 31) (kt : 0 < a → zz_W k ws tgt L rest) (kf : a = 0 → zz_W k ws (pc + 3) L rest) : zz_W k ws pc L (.int (nI a) :: rest) := zz_if_neG tgt F hd ht (fun h => kt (Nat.pos_of_ne_zero (fun q => h ((zz_n0 ha).mpr q)))) (fun h => kf ((zz_n0 ha).mp h))
theorem zz_if_gt {k : ZK} {g : ZG} {own : String} {cc : ByteArray} {nL fr lo pc : Nat} {ws : va_W} {L : ZL} {rest : List Value} {a : Nat} {off : Int} (tgt : Nat) (F : zz_F k g own cc nL fr lo) (hd : decode cc pc = .ok (.ifCond .gt off, 3)) (ht : (pc : Int) + off = (tgt : Int)) (ha : a < 2 ^ 31) (kt : 0 < a → zz_W k ws tgt L rest) (kf : a = 0 → zz_W k ws (pc + 3) L rest) : zz_W k ws pc L (.int (nI a) :: rest) := zz_if_gtG tgt F hd ht (fun h => kt ((zz_p0 ha).mp h)) (fun h => kf (Nat.eq_zero_of_not_pos (fun q => h ((zz_p0 ha).mpr q))))
theorem zz_if_le {k : ZK} {g : ZG} {own : String} {cc : ByteArray} {nL fr lo pc : Nat} {ws : va_W} {L : ZL} {rest : List Value} {a : Nat} {off : Int} (tgt : Nat) (F : zz_F k g own cc nL fr lo) (hd : decode cc pc = .ok (.ifCond .le off, 3)) (ht : (pc : Int) + off = (tgt : Int)) (ha : a < 2 ^ 31) (kt : a = 0 → zz_W k ws tgt L rest) (kf : 0 < a → zz_W k ws (pc + 3) L rest) : zz_W k ws pc L (.int (nI a) :: rest) := zz_if_leG tgt F hd ht (fun h => kt ((zz_l0 ha).mp h)) (fun h => kf (Nat.pos_of_ne_zero (fun q => h ((zz_l0 ha).mpr q))))
theorem zz_if_lt {k : ZK} {g : ZG} {own : String} {cc : ByteArray} {nL fr lo pc : Nat} {ws : va_W} {L : ZL} {rest : List Value} {a : Nat} {off : Int} (tgt : Nat) (F : zz_F k g own cc nL fr lo) (hd : decode cc pc = .ok (.ifCond .lt off, 3)) (ht : (pc : Int) + off = (tgt : Int)) (ha : a < 2 ^ 31) (kf : zz_W k ws (pc + 3) L rest) : zz_W k ws pc L (.int (nI a) :: rest) := zz_if_ltG tgt F hd ht (fun h => absurd h (nI_pos ha)) (fun _ => kf)
theorem zz_if_ge {k : ZK} {g : ZG} {own : String} {cc : ByteArray} {nL fr lo pc : Nat} {ws : va_W} {L : ZL} {rest : List Value} {a : Nat} {off : Int} (tgt : Nat) (F : zz_F k g own cc nL fr lo) (hd : decode cc pc = .ok (.ifCond .ge off, 3)) (ht : (pc : Int) + off = (tgt : Int)) (ha : a < 2 ^ 31) (kt : zz_W k ws tgt L rest) : zz_W k ws pc L (.int (nI a) :: rest) := zz_if_geG tgt F hd ht (fun _ => kt) (fun h => absurd (nI_pos' ha) h)
theorem zz_goto {k : ZK} {g : ZG} {own : String} {cc : ByteArray} {nL fr lo pc : Nat} {ws : va_W} {L : ZL} {rest : List Value} {off : Int} (tgt : Nat) (F : zz_F k g own cc nL fr lo) (hd : decode cc pc = .ok (.goto off, 3)) (ht : (pc : Int) + off = (tgt : Int)) (kk : zz_W k ws tgt L rest) : zz_W k ws pc L rest := by
  obtain ⟨p, l, e, R, s, m, args, below, meth, c, Q, A, D, nc, ns⟩ := k
  obtain ⟨hx, hb, hml, hown, hts, hK, hA, hnc, hns, hfr, hlo⟩ := F
  intro H locs ls hP hD hS hl
  exact lv_goto (tgt := tgt) hx hb hd ht (kk H locs ls hP hD hS hl)
end
section
set_option maxRecDepth 100000
theorem zz_ald {k : ZK} {g : ZG} {own : String} {cc : ByteArray} {nL fr lo pc : Nat} {ws : va_W} {L : ZL} {rest : List Value} {f : Nat → Int32} {n a j : Nat} (q : Nat) (F : zz_F k g own cc nL fr lo) (hd : decode cc pc = .ok (.iaload, 1)) (hw : ws[q]? = some (a, .inl (g.2.1, n, .inl f))) (hj : j < n) (hn : n < 2 ^ 31) (kk : zz_W k ws (pc + 1) L (.int (f j) :: rest)) : zz_W k ws pc L (.int (nI j) :: .ref a :: rest) := by
  obtain ⟨p, l, e, R, s, m, args, below, meth, c, Q, A, D, nc, ns⟩ := k
  obtain ⟨hx, hb, hml, hown, hts, hK, hA, hnc, hns, hfr, hlo⟩ := F
  intro H locs ls hP hD hS hl
  refine va_iald hx hb hK hP q 0 hw rfl (vp_in_nI hj hn) hd ?_
  rw [nI_clamp (Nat.lt_trans hj hn)]
  exact kk H locs ls hP hD hS hl
theorem zz_zald {k : ZK} {g : ZG} {own : String} {cc : ByteArray} {nL fr lo pc : Nat} {ws : va_W} {L : ZL} {rest : List Value} {f : Nat → Int32} {n a j : Nat} (q : Nat) (F : zz_F k g own cc nL fr lo) (hd : decode cc pc = .ok (.baload, 1)) (hw : ws[q]? = some (a, .inl (g.2.2, n, .inl f))) (hj : j < n) (hn : n < 2 ^ 31) (kk : zz_W k ws (pc + 1) L (.int (f j) :: rest)) : zz_W k ws pc L (.int (nI j) :: .ref a :: rest) := by
  obtain ⟨p, l, e, R, s, m, args, below, meth, c, Q, A, D, nc, ns⟩ := k
  obtain ⟨hx, hb, hml, hown, hts, hK, hA, hnc, hns, hfr, hlo⟩ := F
  intro H locs ls hP hD hS hl
  refine va_zald hx hb hK hP q 1 hw rfl (vp_in_nI hj hn) hd ?_
  rw [nI_clamp (Nat.lt_trans hj hn)]
  exact kk H locs ls hP hD hS hl
theorem zz_ast {k : ZK} {g : ZG} {own : String} {cc : ByteArray} {nL fr lo pc : Nat} {ws : va_W} {L : ZL} {rest : List Value} {f : Nat → Int32} {n a j : Nat} {x : Int32} (q : Nat) (F : zz_F k g own cc nL fr lo) (hd : decode cc pc = .ok (.iastore, 1)) (hw : ws[q]? = some (a, .inl (g.2.1, n, .inl f))) (hj : j < n) (hn : n < 2 ^ 31) (kk : zz_W k (ws.set q (a, .inl (g.2.1, n, .inl (upd f j x)))) (pc + 1) L rest) : zz_W k ws pc L (.int x :: .int (nI j) :: .ref a :: rest) := by
  obtain ⟨p, l, e, R, s, m, args, below, meth, c, Q, A, D, nc, ns⟩ := k
  obtain ⟨hx, hb, hml, hown, hts, hK, hA, hnc, hns, hfr, hlo⟩ := F
  intro H locs ls hP hD hS hl
  refine va_iast hx hb hK hP hD hS q 0 hw rfl (vp_in_nI hj hn) hd (fun H1 locs1 hP hD hS => ?_)
  rw [nI_clamp (Nat.lt_trans hj hn)] at hP hD
  exact kk H1 locs1 ls hP hD hS hl
theorem zz_zast {k : ZK} {g : ZG} {own : String} {cc : ByteArray} {nL fr lo pc : Nat} {ws : va_W} {L : ZL} {rest : List Value} {f : Nat → Int32} {n a j : Nat} {x : Int32} (q : Nat) (F : zz_F k g own cc nL fr lo) (hd : decode cc pc = .ok (.bastore, 1)) (hw : ws[q]? = some (a, .inl (g.2.2, n, .inl f))) (hj : j < n) (hn : n < 2 ^ 31) (hv : vp_nar .boolean x = x) (kk : zz_W k (ws.set q (a, .inl (g.2.2, n, .inl (upd f j x)))) (pc + 1) L rest) : zz_W k ws pc L (.int x :: .int (nI j) :: .ref a :: rest) := by
  obtain ⟨p, l, e, R, s, m, args, below, meth, c, Q, A, D, nc, ns⟩ := k
  obtain ⟨hx, hb, hml, hown, hts, hK, hA, hnc, hns, hfr, hlo⟩ := F
  intro H locs ls hP hD hS hl
  refine va_zast hx hb hK hP hD hS q 1 hw rfl (vp_in_nI hj hn) hd (fun H1 locs1 hP hD hS => ?_)
  rw [nI_clamp (Nat.lt_trans hj hn), hv] at hP hD
  exact kk H1 locs1 ls hP hD hS hl
theorem up_fun (a : Nat → Nat) (j v : Nat) : upd (fun q => nI (a q)) j (nI v) = fun q => nI (va_up a j v q) := by
  funext q
  unfold upd va_up
  by_cases h : q = j
  · rw [if_pos h, if_pos h]
  · rw [if_neg h, if_neg h]
end
section
set_option maxRecDepth 100000
abbrev XT : Type := Nat × (Nat → Nat) × (Nat → Nat) × (Nat → Nat) × (Nat → Nat) × (Nat → Nat) × (Nat → Nat) × (Nat → Nat) × (Nat → Nat) × (Nat → Nat) × (Nat → Nat) × (Nat → Nat) × (Nat → Nat) × (Nat → Nat) × (Nat → Nat) × (Nat → Nat) × (Nat → Nat) × Nat × (Nat → Nat)
def wX (g : ZG) (s : XT) : va_W := [(g.1 0, .inr (0, [.int (nI (s.1)), .ref (g.1 1), .ref (g.1 2), .ref (g.1 3), .ref (g.1 4), .ref (g.1 5), .ref (g.1 6), .ref (g.1 7), .ref (g.1 8), .ref (g.1 9), .ref (g.1 10), .ref (g.1 11), .ref (g.1 12), .ref (g.1 13), .ref (g.1 14), .ref (g.1 15), .ref (g.1 16), .int (nI (s.2.2.2.2.2.2.2.2.2.2.2.2.2.2.2.2.2.1)), .ref (g.1 18)])),
  (g.1 1, .inl (g.2.1, 96, .inl (fun q => nI ((s.2.1) q)))),
  (g.1 2, .inl (g.2.2, 6, .inl (fun q => nI ((s.2.2.1) q)))),
  (g.1 3, .inl (g.2.1, 6, .inl (fun q => nI ((s.2.2.2.1) q)))),
  (g.1 4, .inl (g.2.1, 96, .inl (fun q => nI ((s.2.2.2.2.1) q)))),
  (g.1 5, .inl (g.2.1, 96, .inl (fun q => nI ((s.2.2.2.2.2.1) q)))),
  (g.1 6, .inl (g.2.1, 96, .inl (fun q => nI ((s.2.2.2.2.2.2.1) q)))),
  (g.1 7, .inl (g.2.1, 96, .inl (fun q => nI ((s.2.2.2.2.2.2.2.1) q)))),
  (g.1 8, .inl (g.2.1, 96, .inl (fun q => nI ((s.2.2.2.2.2.2.2.2.1) q)))),
  (g.1 9, .inl (g.2.1, 1536, .inl (fun q => nI ((s.2.2.2.2.2.2.2.2.2.1) q)))),
  (g.1 10, .inl (g.2.1, 96, .inl (fun q => nI ((s.2.2.2.2.2.2.2.2.2.2.1) q)))),
  (g.1 11, .inl (g.2.1, 96, .inl (fun q => nI ((s.2.2.2.2.2.2.2.2.2.2.2.1) q)))),
  (g.1 12, .inl (g.2.1, 96, .inl (fun q => nI ((s.2.2.2.2.2.2.2.2.2.2.2.2.1) q)))),
  (g.1 13, .inl (g.2.1, 16, .inl (fun q => nI ((s.2.2.2.2.2.2.2.2.2.2.2.2.2.1) q)))),
  (g.1 14, .inl (g.2.1, 16, .inl (fun q => nI ((s.2.2.2.2.2.2.2.2.2.2.2.2.2.2.1) q)))),
  (g.1 15, .inl (g.2.1, 16, .inl (fun q => nI ((s.2.2.2.2.2.2.2.2.2.2.2.2.2.2.2.1) q)))),
  (g.1 16, .inl (g.2.1, 16, .inl (fun q => nI ((s.2.2.2.2.2.2.2.2.2.2.2.2.2.2.2.2.1) q)))),
  (g.1 18, .inl (g.2.1, 8, .inl (fun q => nI ((s.2.2.2.2.2.2.2.2.2.2.2.2.2.2.2.2.2.2) q))))]
theorem zx_get_staged {k : ZK} {g : ZG} {cc : ByteArray} {nL fr lo pc : Nat} {sd pl : Nat} {sta sav pas par rfs siz bas cel pay pri fa fb fre ou un pro ch : Nat → Nat} {L : ZL} {rest : List Value} (F : zz_F k g RX0 cc nL fr lo) (hd : decode cc pc = .ok (.getfield 62, 3)) (kk : zz_W k (wX g (sd, sta, sav, pas, par, rfs, siz, bas, cel, pay, pri, fa, fb, fre, ou, un, pro, pl, ch)) (pc + 3) L (.int (nI sd) :: rest)) : zz_W k (wX g (sd, sta, sav, pas, par, rfs, siz, bas, cel, pay, pri, fa, fb, fre, ou, un, pro, pl, ch)) pc L (.ref (g.1 0) :: rest) := by
  obtain ⟨p, l, e, R, s, m, args, below, meth, c, Q, A, D, nc, ns⟩ := k
  obtain ⟨hx, hb, hml, hown, hts, hK, hA, hnc, hns, hfr, hlo⟩ := F
  intro H locs ls hP hD hS hl
  exact va_get (D := D) (ci := 0) (v := .int (nI sd)) (C := RX0) (T := TX0) (N := 19) hx hb hts in_X0 hown hK hP 0 rfl rfl 0 (by decide) (hts _ q28) (fun _ h9 => h9) rfl hd (kk H locs ls hP hD hS hl)
theorem zx_put_staged {k : ZK} {g : ZG} {cc : ByteArray} {nL fr lo pc : Nat} {sd pl : Nat} {sta sav pas par rfs siz bas cel pay pri fa fb fre ou un pro ch : Nat → Nat} {L : ZL} {rest : List Value} {v : Nat} (F : zz_F k g RX0 cc nL fr lo) (hd : decode cc pc = .ok (.putfield 62, 3)) (kk : zz_W k (wX g (v, sta, sav, pas, par, rfs, siz, bas, cel, pay, pri, fa, fb, fre, ou, un, pro, pl, ch)) (pc + 3) L rest) : zz_W k (wX g (sd, sta, sav, pas, par, rfs, siz, bas, cel, pay, pri, fa, fb, fre, ou, un, pro, pl, ch)) pc L (.int (nI v) :: .ref (g.1 0) :: rest) := by
  obtain ⟨p, l, e, R, s, m, args, below, meth, c, Q, A, D, nc, ns⟩ := k
  obtain ⟨hx, hb, hml, hown, hts, hK, hA, hnc, hns, hfr, hlo⟩ := F
  intro H locs ls hP hD hS hl
  refine va_put (D := D) (ci := 0) (v := .int (nI v)) (ty := .int) (C := RX0) (T := TX0) (N := 19) hx hb hts in_X0 tyX0 tyX0_ok nmX0 hown hK hP hD hS 0 rfl rfl 0 (by decide) (hts _ q28) (fun _ h9 => h9) rfl (by decide +kernel) rfl rfl (Nat.le_of_ble_eq_true rfl) hd (fun H1 locs1 hP1 hD1 hS1 => ?_)
  exact kk H1 locs1 ls hP1 hD1 hS1 hl
theorem zx_get_stage {k : ZK} {g : ZG} {cc : ByteArray} {nL fr lo pc : Nat} {sd pl : Nat} {sta sav pas par rfs siz bas cel pay pri fa fb fre ou un pro ch : Nat → Nat} {L : ZL} {rest : List Value} (F : zz_F k g RX0 cc nL fr lo) (hd : decode cc pc = .ok (.getfield 7, 3)) (kk : zz_W k (wX g (sd, sta, sav, pas, par, rfs, siz, bas, cel, pay, pri, fa, fb, fre, ou, un, pro, pl, ch)) (pc + 3) L (.ref (g.1 1) :: rest)) : zz_W k (wX g (sd, sta, sav, pas, par, rfs, siz, bas, cel, pay, pri, fa, fb, fre, ou, un, pro, pl, ch)) pc L (.ref (g.1 0) :: rest) := by
  obtain ⟨p, l, e, R, s, m, args, below, meth, c, Q, A, D, nc, ns⟩ := k
  obtain ⟨hx, hb, hml, hown, hts, hK, hA, hnc, hns, hfr, hlo⟩ := F
  intro H locs ls hP hD hS hl
  exact va_get (D := D) (ci := 0) (v := .ref (g.1 1)) (C := RX0) (T := TX0) (N := 19) hx hb hts in_X0 hown hK hP 0 rfl rfl 1 (by decide) (hts _ q29) (fun _ h9 => h9) rfl hd (kk H locs ls hP hD hS hl)
theorem zx_ald_stage {k : ZK} {g : ZG} {own : String} {cc : ByteArray} {nL fr lo pc : Nat} {sd pl : Nat} {sta sav pas par rfs siz bas cel pay pri fa fb fre ou un pro ch : Nat → Nat} {L : ZL} {rest : List Value} {j : Nat} (F : zz_F k g own cc nL fr lo) (hd : decode cc pc = .ok (.iaload, 1)) (hj : j < 96) (kk : zz_W k (wX g (sd, sta, sav, pas, par, rfs, siz, bas, cel, pay, pri, fa, fb, fre, ou, un, pro, pl, ch)) (pc + 1) L (.int (nI (sta j)) :: rest)) : zz_W k (wX g (sd, sta, sav, pas, par, rfs, siz, bas, cel, pay, pri, fa, fb, fre, ou, un, pro, pl, ch)) pc L (.int (nI j) :: .ref (g.1 1) :: rest) := zz_ald 1 F hd rfl hj (by decide) kk
theorem zx_set_stage (g : ZG) {sd pl : Nat} {sta sav pas par rfs siz bas cel pay pri fa fb fre ou un pro ch : Nat → Nat} (j v : Nat) : (wX g (sd, sta, sav, pas, par, rfs, siz, bas, cel, pay, pri, fa, fb, fre, ou, un, pro, pl, ch)).set 1 (g.1 1, .inl (g.2.1, 96, .inl (upd (fun q => nI (sta q)) j (nI v)))) = (wX g (sd, va_up sta j v, sav, pas, par, rfs, siz, bas, cel, pay, pri, fa, fb, fre, ou, un, pro, pl, ch)) := by
  unfold wX
  simp only [List.set, up_fun]
theorem zx_ast_stage {k : ZK} {g : ZG} {own : String} {cc : ByteArray} {nL fr lo pc : Nat} {sd pl : Nat} {sta sav pas par rfs siz bas cel pay pri fa fb fre ou un pro ch : Nat → Nat} {L : ZL} {rest : List Value} {j v : Nat} (F : zz_F k g own cc nL fr lo) (hd : decode cc pc = .ok (.iastore, 1)) (hj : j < 96) (kk : zz_W k (wX g (sd, va_up sta j v, sav, pas, par, rfs, siz, bas, cel, pay, pri, fa, fb, fre, ou, un, pro, pl, ch)) (pc + 1) L rest) : zz_W k (wX g (sd, sta, sav, pas, par, rfs, siz, bas, cel, pay, pri, fa, fb, fre, ou, un, pro, pl, ch)) pc L (.int (nI v) :: .int (nI j) :: .ref (g.1 1) :: rest) := zz_ast 1 F hd rfl hj (by decide) (zz_wld (zx_set_stage g j v) kk)
theorem zx_get_saved {k : ZK} {g : ZG} {cc : ByteArray} {nL fr lo pc : Nat} {sd pl : Nat} {sta sav pas par rfs siz bas cel pay pri fa fb fre ou un pro ch : Nat → Nat} {L : ZL} {rest : List Value} (F : zz_F k g RX0 cc nL fr lo) (hd : decode cc pc = .ok (.getfield 13, 3)) (kk : zz_W k (wX g (sd, sta, sav, pas, par, rfs, siz, bas, cel, pay, pri, fa, fb, fre, ou, un, pro, pl, ch)) (pc + 3) L (.ref (g.1 2) :: rest)) : zz_W k (wX g (sd, sta, sav, pas, par, rfs, siz, bas, cel, pay, pri, fa, fb, fre, ou, un, pro, pl, ch)) pc L (.ref (g.1 0) :: rest) := by
  obtain ⟨p, l, e, R, s, m, args, below, meth, c, Q, A, D, nc, ns⟩ := k
  obtain ⟨hx, hb, hml, hown, hts, hK, hA, hnc, hns, hfr, hlo⟩ := F
  intro H locs ls hP hD hS hl
  exact va_get (D := D) (ci := 0) (v := .ref (g.1 2)) (C := RX0) (T := TX0) (N := 19) hx hb hts in_X0 hown hK hP 0 rfl rfl 2 (by decide) (hts _ q30) (fun _ h9 => h9) rfl hd (kk H locs ls hP hD hS hl)
theorem zx_ald_saved {k : ZK} {g : ZG} {own : String} {cc : ByteArray} {nL fr lo pc : Nat} {sd pl : Nat} {sta sav pas par rfs siz bas cel pay pri fa fb fre ou un pro ch : Nat → Nat} {L : ZL} {rest : List Value} {j : Nat} (F : zz_F k g own cc nL fr lo) (hd : decode cc pc = .ok (.baload, 1)) (hj : j < 6) (kk : zz_W k (wX g (sd, sta, sav, pas, par, rfs, siz, bas, cel, pay, pri, fa, fb, fre, ou, un, pro, pl, ch)) (pc + 1) L (.int (nI (sav j)) :: rest)) : zz_W k (wX g (sd, sta, sav, pas, par, rfs, siz, bas, cel, pay, pri, fa, fb, fre, ou, un, pro, pl, ch)) pc L (.int (nI j) :: .ref (g.1 2) :: rest) := zz_zald 2 F hd rfl hj (by decide) kk
theorem zx_set_saved (g : ZG) {sd pl : Nat} {sta sav pas par rfs siz bas cel pay pri fa fb fre ou un pro ch : Nat → Nat} (j v : Nat) : (wX g (sd, sta, sav, pas, par, rfs, siz, bas, cel, pay, pri, fa, fb, fre, ou, un, pro, pl, ch)).set 2 (g.1 2, .inl (g.2.2, 6, .inl (upd (fun q => nI (sav q)) j (nI v)))) = (wX g (sd, sta, va_up sav j v, pas, par, rfs, siz, bas, cel, pay, pri, fa, fb, fre, ou, un, pro, pl, ch)) := by
  unfold wX
  simp only [List.set, up_fun]
theorem zx_ast_saved {k : ZK} {g : ZG} {own : String} {cc : ByteArray} {nL fr lo pc : Nat} {sd pl : Nat} {sta sav pas par rfs siz bas cel pay pri fa fb fre ou un pro ch : Nat → Nat} {L : ZL} {rest : List Value} {j v : Nat} (F : zz_F k g own cc nL fr lo) (hd : decode cc pc = .ok (.bastore, 1)) (hj : j < 6) (hv : vp_nar .boolean (nI v) = nI v) (kk : zz_W k (wX g (sd, sta, va_up sav j v, pas, par, rfs, siz, bas, cel, pay, pri, fa, fb, fre, ou, un, pro, pl, ch)) (pc + 1) L rest) : zz_W k (wX g (sd, sta, sav, pas, par, rfs, siz, bas, cel, pay, pri, fa, fb, fre, ou, un, pro, pl, ch)) pc L (.int (nI v) :: .int (nI j) :: .ref (g.1 2) :: rest) := zz_zast 2 F hd rfl hj (by decide) hv (zz_wld (zx_set_saved g j v) kk)
theorem zx_get_parts {k : ZK} {g : ZG} {cc : ByteArray} {nL fr lo pc : Nat} {sd pl : Nat} {sta sav pas par rfs siz bas cel pay pri fa fb fre ou un pro ch : Nat → Nat} {L : ZL} {rest : List Value} (F : zz_F k g RX0 cc nL fr lo) (hd : decode cc pc = .ok (.getfield 17, 3)) (kk : zz_W k (wX g (sd, sta, sav, pas, par, rfs, siz, bas, cel, pay, pri, fa, fb, fre, ou, un, pro, pl, ch)) (pc + 3) L (.ref (g.1 3) :: rest)) : zz_W k (wX g (sd, sta, sav, pas, par, rfs, siz, bas, cel, pay, pri, fa, fb, fre, ou, un, pro, pl, ch)) pc L (.ref (g.1 0) :: rest) := by
  obtain ⟨p, l, e, R, s, m, args, below, meth, c, Q, A, D, nc, ns⟩ := k
  obtain ⟨hx, hb, hml, hown, hts, hK, hA, hnc, hns, hfr, hlo⟩ := F
  intro H locs ls hP hD hS hl
  exact va_get (D := D) (ci := 0) (v := .ref (g.1 3)) (C := RX0) (T := TX0) (N := 19) hx hb hts in_X0 hown hK hP 0 rfl rfl 3 (by decide) (hts _ q31) (fun _ h9 => h9) rfl hd (kk H locs ls hP hD hS hl)
theorem zx_ald_parts {k : ZK} {g : ZG} {own : String} {cc : ByteArray} {nL fr lo pc : Nat} {sd pl : Nat} {sta sav pas par rfs siz bas cel pay pri fa fb fre ou un pro ch : Nat → Nat} {L : ZL} {rest : List Value} {j : Nat} (F : zz_F k g own cc nL fr lo) (hd : decode cc pc = .ok (.iaload, 1)) (hj : j < 6) (kk : zz_W k (wX g (sd, sta, sav, pas, par, rfs, siz, bas, cel, pay, pri, fa, fb, fre, ou, un, pro, pl, ch)) (pc + 1) L (.int (nI (pas j)) :: rest)) : zz_W k (wX g (sd, sta, sav, pas, par, rfs, siz, bas, cel, pay, pri, fa, fb, fre, ou, un, pro, pl, ch)) pc L (.int (nI j) :: .ref (g.1 3) :: rest) := zz_ald 3 F hd rfl hj (by decide) kk
theorem zx_set_parts (g : ZG) {sd pl : Nat} {sta sav pas par rfs siz bas cel pay pri fa fb fre ou un pro ch : Nat → Nat} (j v : Nat) : (wX g (sd, sta, sav, pas, par, rfs, siz, bas, cel, pay, pri, fa, fb, fre, ou, un, pro, pl, ch)).set 3 (g.1 3, .inl (g.2.1, 6, .inl (upd (fun q => nI (pas q)) j (nI v)))) = (wX g (sd, sta, sav, va_up pas j v, par, rfs, siz, bas, cel, pay, pri, fa, fb, fre, ou, un, pro, pl, ch)) := by
  unfold wX
  simp only [List.set, up_fun]
theorem zx_ast_parts {k : ZK} {g : ZG} {own : String} {cc : ByteArray} {nL fr lo pc : Nat} {sd pl : Nat} {sta sav pas par rfs siz bas cel pay pri fa fb fre ou un pro ch : Nat → Nat} {L : ZL} {rest : List Value} {j v : Nat} (F : zz_F k g own cc nL fr lo) (hd : decode cc pc = .ok (.iastore, 1)) (hj : j < 6) (kk : zz_W k (wX g (sd, sta, sav, va_up pas j v, par, rfs, siz, bas, cel, pay, pri, fa, fb, fre, ou, un, pro, pl, ch)) (pc + 1) L rest) : zz_W k (wX g (sd, sta, sav, pas, par, rfs, siz, bas, cel, pay, pri, fa, fb, fre, ou, un, pro, pl, ch)) pc L (.int (nI v) :: .int (nI j) :: .ref (g.1 3) :: rest) := zz_ast 3 F hd rfl hj (by decide) (zz_wld (zx_set_parts g j v) kk)
theorem zx_get_part {k : ZK} {g : ZG} {cc : ByteArray} {nL fr lo pc : Nat} {sd pl : Nat} {sta sav pas par rfs siz bas cel pay pri fa fb fre ou un pro ch : Nat → Nat} {L : ZL} {rest : List Value} (F : zz_F k g RX0 cc nL fr lo) (hd : decode cc pc = .ok (.getfield 20, 3)) (kk : zz_W k (wX g (sd, sta, sav, pas, par, rfs, siz, bas, cel, pay, pri, fa, fb, fre, ou, un, pro, pl, ch)) (pc + 3) L (.ref (g.1 4) :: rest)) : zz_W k (wX g (sd, sta, sav, pas, par, rfs, siz, bas, cel, pay, pri, fa, fb, fre, ou, un, pro, pl, ch)) pc L (.ref (g.1 0) :: rest) := by
  obtain ⟨p, l, e, R, s, m, args, below, meth, c, Q, A, D, nc, ns⟩ := k
  obtain ⟨hx, hb, hml, hown, hts, hK, hA, hnc, hns, hfr, hlo⟩ := F
  intro H locs ls hP hD hS hl
  exact va_get (D := D) (ci := 0) (v := .ref (g.1 4)) (C := RX0) (T := TX0) (N := 19) hx hb hts in_X0 hown hK hP 0 rfl rfl 4 (by decide) (hts _ q32) (fun _ h9 => h9) rfl hd (kk H locs ls hP hD hS hl)
theorem zx_ald_part {k : ZK} {g : ZG} {own : String} {cc : ByteArray} {nL fr lo pc : Nat} {sd pl : Nat} {sta sav pas par rfs siz bas cel pay pri fa fb fre ou un pro ch : Nat → Nat} {L : ZL} {rest : List Value} {j : Nat} (F : zz_F k g own cc nL fr lo) (hd : decode cc pc = .ok (.iaload, 1)) (hj : j < 96) (kk : zz_W k (wX g (sd, sta, sav, pas, par, rfs, siz, bas, cel, pay, pri, fa, fb, fre, ou, un, pro, pl, ch)) (pc + 1) L (.int (nI (par j)) :: rest)) : zz_W k (wX g (sd, sta, sav, pas, par, rfs, siz, bas, cel, pay, pri, fa, fb, fre, ou, un, pro, pl, ch)) pc L (.int (nI j) :: .ref (g.1 4) :: rest) := zz_ald 4 F hd rfl hj (by decide) kk
theorem zx_set_part (g : ZG) {sd pl : Nat} {sta sav pas par rfs siz bas cel pay pri fa fb fre ou un pro ch : Nat → Nat} (j v : Nat) : (wX g (sd, sta, sav, pas, par, rfs, siz, bas, cel, pay, pri, fa, fb, fre, ou, un, pro, pl, ch)).set 4 (g.1 4, .inl (g.2.1, 96, .inl (upd (fun q => nI (par q)) j (nI v)))) = (wX g (sd, sta, sav, pas, va_up par j v, rfs, siz, bas, cel, pay, pri, fa, fb, fre, ou, un, pro, pl, ch)) := by
  unfold wX
  simp only [List.set, up_fun]
theorem zx_ast_part {k : ZK} {g : ZG} {own : String} {cc : ByteArray} {nL fr lo pc : Nat} {sd pl : Nat} {sta sav pas par rfs siz bas cel pay pri fa fb fre ou un pro ch : Nat → Nat} {L : ZL} {rest : List Value} {j v : Nat} (F : zz_F k g own cc nL fr lo) (hd : decode cc pc = .ok (.iastore, 1)) (hj : j < 96) (kk : zz_W k (wX g (sd, sta, sav, pas, va_up par j v, rfs, siz, bas, cel, pay, pri, fa, fb, fre, ou, un, pro, pl, ch)) (pc + 1) L rest) : zz_W k (wX g (sd, sta, sav, pas, par, rfs, siz, bas, cel, pay, pri, fa, fb, fre, ou, un, pro, pl, ch)) pc L (.int (nI v) :: .int (nI j) :: .ref (g.1 4) :: rest) := zz_ast 4 F hd rfl hj (by decide) (zz_wld (zx_set_part g j v) kk)
theorem zx_get_refs {k : ZK} {g : ZG} {cc : ByteArray} {nL fr lo pc : Nat} {sd pl : Nat} {sta sav pas par rfs siz bas cel pay pri fa fb fre ou un pro ch : Nat → Nat} {L : ZL} {rest : List Value} (F : zz_F k g RX0 cc nL fr lo) (hd : decode cc pc = .ok (.getfield 23, 3)) (kk : zz_W k (wX g (sd, sta, sav, pas, par, rfs, siz, bas, cel, pay, pri, fa, fb, fre, ou, un, pro, pl, ch)) (pc + 3) L (.ref (g.1 5) :: rest)) : zz_W k (wX g (sd, sta, sav, pas, par, rfs, siz, bas, cel, pay, pri, fa, fb, fre, ou, un, pro, pl, ch)) pc L (.ref (g.1 0) :: rest) := by
  obtain ⟨p, l, e, R, s, m, args, below, meth, c, Q, A, D, nc, ns⟩ := k
  obtain ⟨hx, hb, hml, hown, hts, hK, hA, hnc, hns, hfr, hlo⟩ := F
  intro H locs ls hP hD hS hl
  exact va_get (D := D) (ci := 0) (v := .ref (g.1 5)) (C := RX0) (T := TX0) (N := 19) hx hb hts in_X0 hown hK hP 0 rfl rfl 5 (by decide) (hts _ q33) (fun _ h9 => h9) rfl hd (kk H locs ls hP hD hS hl)
theorem zx_ald_refs {k : ZK} {g : ZG} {own : String} {cc : ByteArray} {nL fr lo pc : Nat} {sd pl : Nat} {sta sav pas par rfs siz bas cel pay pri fa fb fre ou un pro ch : Nat → Nat} {L : ZL} {rest : List Value} {j : Nat} (F : zz_F k g own cc nL fr lo) (hd : decode cc pc = .ok (.iaload, 1)) (hj : j < 96) (kk : zz_W k (wX g (sd, sta, sav, pas, par, rfs, siz, bas, cel, pay, pri, fa, fb, fre, ou, un, pro, pl, ch)) (pc + 1) L (.int (nI (rfs j)) :: rest)) : zz_W k (wX g (sd, sta, sav, pas, par, rfs, siz, bas, cel, pay, pri, fa, fb, fre, ou, un, pro, pl, ch)) pc L (.int (nI j) :: .ref (g.1 5) :: rest) := zz_ald 5 F hd rfl hj (by decide) kk
theorem zx_set_refs (g : ZG) {sd pl : Nat} {sta sav pas par rfs siz bas cel pay pri fa fb fre ou un pro ch : Nat → Nat} (j v : Nat) : (wX g (sd, sta, sav, pas, par, rfs, siz, bas, cel, pay, pri, fa, fb, fre, ou, un, pro, pl, ch)).set 5 (g.1 5, .inl (g.2.1, 96, .inl (upd (fun q => nI (rfs q)) j (nI v)))) = (wX g (sd, sta, sav, pas, par, va_up rfs j v, siz, bas, cel, pay, pri, fa, fb, fre, ou, un, pro, pl, ch)) := by
  unfold wX
  simp only [List.set, up_fun]
theorem zx_ast_refs {k : ZK} {g : ZG} {own : String} {cc : ByteArray} {nL fr lo pc : Nat} {sd pl : Nat} {sta sav pas par rfs siz bas cel pay pri fa fb fre ou un pro ch : Nat → Nat} {L : ZL} {rest : List Value} {j v : Nat} (F : zz_F k g own cc nL fr lo) (hd : decode cc pc = .ok (.iastore, 1)) (hj : j < 96) (kk : zz_W k (wX g (sd, sta, sav, pas, par, va_up rfs j v, siz, bas, cel, pay, pri, fa, fb, fre, ou, un, pro, pl, ch)) (pc + 1) L rest) : zz_W k (wX g (sd, sta, sav, pas, par, rfs, siz, bas, cel, pay, pri, fa, fb, fre, ou, un, pro, pl, ch)) pc L (.int (nI v) :: .int (nI j) :: .ref (g.1 5) :: rest) := zz_ast 5 F hd rfl hj (by decide) (zz_wld (zx_set_refs g j v) kk)
theorem zx_get_size {k : ZK} {g : ZG} {cc : ByteArray} {nL fr lo pc : Nat} {sd pl : Nat} {sta sav pas par rfs siz bas cel pay pri fa fb fre ou un pro ch : Nat → Nat} {L : ZL} {rest : List Value} (F : zz_F k g RX0 cc nL fr lo) (hd : decode cc pc = .ok (.getfield 26, 3)) (kk : zz_W k (wX g (sd, sta, sav, pas, par, rfs, siz, bas, cel, pay, pri, fa, fb, fre, ou, un, pro, pl, ch)) (pc + 3) L (.ref (g.1 6) :: rest)) : zz_W k (wX g (sd, sta, sav, pas, par, rfs, siz, bas, cel, pay, pri, fa, fb, fre, ou, un, pro, pl, ch)) pc L (.ref (g.1 0) :: rest) := by
  obtain ⟨p, l, e, R, s, m, args, below, meth, c, Q, A, D, nc, ns⟩ := k
  obtain ⟨hx, hb, hml, hown, hts, hK, hA, hnc, hns, hfr, hlo⟩ := F
  intro H locs ls hP hD hS hl
  exact va_get (D := D) (ci := 0) (v := .ref (g.1 6)) (C := RX0) (T := TX0) (N := 19) hx hb hts in_X0 hown hK hP 0 rfl rfl 6 (by decide) (hts _ q34) (fun _ h9 => h9) rfl hd (kk H locs ls hP hD hS hl)
theorem zx_ald_size {k : ZK} {g : ZG} {own : String} {cc : ByteArray} {nL fr lo pc : Nat} {sd pl : Nat} {sta sav pas par rfs siz bas cel pay pri fa fb fre ou un pro ch : Nat → Nat} {L : ZL} {rest : List Value} {j : Nat} (F : zz_F k g own cc nL fr lo) (hd : decode cc pc = .ok (.iaload, 1)) (hj : j < 96) (kk : zz_W k (wX g (sd, sta, sav, pas, par, rfs, siz, bas, cel, pay, pri, fa, fb, fre, ou, un, pro, pl, ch)) (pc + 1) L (.int (nI (siz j)) :: rest)) : zz_W k (wX g (sd, sta, sav, pas, par, rfs, siz, bas, cel, pay, pri, fa, fb, fre, ou, un, pro, pl, ch)) pc L (.int (nI j) :: .ref (g.1 6) :: rest) := zz_ald 6 F hd rfl hj (by decide) kk
theorem zx_set_size (g : ZG) {sd pl : Nat} {sta sav pas par rfs siz bas cel pay pri fa fb fre ou un pro ch : Nat → Nat} (j v : Nat) : (wX g (sd, sta, sav, pas, par, rfs, siz, bas, cel, pay, pri, fa, fb, fre, ou, un, pro, pl, ch)).set 6 (g.1 6, .inl (g.2.1, 96, .inl (upd (fun q => nI (siz q)) j (nI v)))) = (wX g (sd, sta, sav, pas, par, rfs, va_up siz j v, bas, cel, pay, pri, fa, fb, fre, ou, un, pro, pl, ch)) := by
  unfold wX
  simp only [List.set, up_fun]
theorem zx_ast_size {k : ZK} {g : ZG} {own : String} {cc : ByteArray} {nL fr lo pc : Nat} {sd pl : Nat} {sta sav pas par rfs siz bas cel pay pri fa fb fre ou un pro ch : Nat → Nat} {L : ZL} {rest : List Value} {j v : Nat} (F : zz_F k g own cc nL fr lo) (hd : decode cc pc = .ok (.iastore, 1)) (hj : j < 96) (kk : zz_W k (wX g (sd, sta, sav, pas, par, rfs, va_up siz j v, bas, cel, pay, pri, fa, fb, fre, ou, un, pro, pl, ch)) (pc + 1) L rest) : zz_W k (wX g (sd, sta, sav, pas, par, rfs, siz, bas, cel, pay, pri, fa, fb, fre, ou, un, pro, pl, ch)) pc L (.int (nI v) :: .int (nI j) :: .ref (g.1 6) :: rest) := zz_ast 6 F hd rfl hj (by decide) (zz_wld (zx_set_size g j v) kk)
theorem zx_get_base {k : ZK} {g : ZG} {cc : ByteArray} {nL fr lo pc : Nat} {sd pl : Nat} {sta sav pas par rfs siz bas cel pay pri fa fb fre ou un pro ch : Nat → Nat} {L : ZL} {rest : List Value} (F : zz_F k g RX0 cc nL fr lo) (hd : decode cc pc = .ok (.getfield 29, 3)) (kk : zz_W k (wX g (sd, sta, sav, pas, par, rfs, siz, bas, cel, pay, pri, fa, fb, fre, ou, un, pro, pl, ch)) (pc + 3) L (.ref (g.1 7) :: rest)) : zz_W k (wX g (sd, sta, sav, pas, par, rfs, siz, bas, cel, pay, pri, fa, fb, fre, ou, un, pro, pl, ch)) pc L (.ref (g.1 0) :: rest) := by
  obtain ⟨p, l, e, R, s, m, args, below, meth, c, Q, A, D, nc, ns⟩ := k
  obtain ⟨hx, hb, hml, hown, hts, hK, hA, hnc, hns, hfr, hlo⟩ := F
  intro H locs ls hP hD hS hl
  exact va_get (D := D) (ci := 0) (v := .ref (g.1 7)) (C := RX0) (T := TX0) (N := 19) hx hb hts in_X0 hown hK hP 0 rfl rfl 7 (by decide) (hts _ q35) (fun _ h9 => h9) rfl hd (kk H locs ls hP hD hS hl)
theorem zx_ald_base {k : ZK} {g : ZG} {own : String} {cc : ByteArray} {nL fr lo pc : Nat} {sd pl : Nat} {sta sav pas par rfs siz bas cel pay pri fa fb fre ou un pro ch : Nat → Nat} {L : ZL} {rest : List Value} {j : Nat} (F : zz_F k g own cc nL fr lo) (hd : decode cc pc = .ok (.iaload, 1)) (hj : j < 96) (kk : zz_W k (wX g (sd, sta, sav, pas, par, rfs, siz, bas, cel, pay, pri, fa, fb, fre, ou, un, pro, pl, ch)) (pc + 1) L (.int (nI (bas j)) :: rest)) : zz_W k (wX g (sd, sta, sav, pas, par, rfs, siz, bas, cel, pay, pri, fa, fb, fre, ou, un, pro, pl, ch)) pc L (.int (nI j) :: .ref (g.1 7) :: rest) := zz_ald 7 F hd rfl hj (by decide) kk
theorem zx_set_base (g : ZG) {sd pl : Nat} {sta sav pas par rfs siz bas cel pay pri fa fb fre ou un pro ch : Nat → Nat} (j v : Nat) : (wX g (sd, sta, sav, pas, par, rfs, siz, bas, cel, pay, pri, fa, fb, fre, ou, un, pro, pl, ch)).set 7 (g.1 7, .inl (g.2.1, 96, .inl (upd (fun q => nI (bas q)) j (nI v)))) = (wX g (sd, sta, sav, pas, par, rfs, siz, va_up bas j v, cel, pay, pri, fa, fb, fre, ou, un, pro, pl, ch)) := by
  unfold wX
  simp only [List.set, up_fun]
theorem zx_ast_base {k : ZK} {g : ZG} {own : String} {cc : ByteArray} {nL fr lo pc : Nat} {sd pl : Nat} {sta sav pas par rfs siz bas cel pay pri fa fb fre ou un pro ch : Nat → Nat} {L : ZL} {rest : List Value} {j v : Nat} (F : zz_F k g own cc nL fr lo) (hd : decode cc pc = .ok (.iastore, 1)) (hj : j < 96) (kk : zz_W k (wX g (sd, sta, sav, pas, par, rfs, siz, va_up bas j v, cel, pay, pri, fa, fb, fre, ou, un, pro, pl, ch)) (pc + 1) L rest) : zz_W k (wX g (sd, sta, sav, pas, par, rfs, siz, bas, cel, pay, pri, fa, fb, fre, ou, un, pro, pl, ch)) pc L (.int (nI v) :: .int (nI j) :: .ref (g.1 7) :: rest) := zz_ast 7 F hd rfl hj (by decide) (zz_wld (zx_set_base g j v) kk)
theorem zx_get_cells {k : ZK} {g : ZG} {cc : ByteArray} {nL fr lo pc : Nat} {sd pl : Nat} {sta sav pas par rfs siz bas cel pay pri fa fb fre ou un pro ch : Nat → Nat} {L : ZL} {rest : List Value} (F : zz_F k g RX0 cc nL fr lo) (hd : decode cc pc = .ok (.getfield 32, 3)) (kk : zz_W k (wX g (sd, sta, sav, pas, par, rfs, siz, bas, cel, pay, pri, fa, fb, fre, ou, un, pro, pl, ch)) (pc + 3) L (.ref (g.1 8) :: rest)) : zz_W k (wX g (sd, sta, sav, pas, par, rfs, siz, bas, cel, pay, pri, fa, fb, fre, ou, un, pro, pl, ch)) pc L (.ref (g.1 0) :: rest) := by
  obtain ⟨p, l, e, R, s, m, args, below, meth, c, Q, A, D, nc, ns⟩ := k
  obtain ⟨hx, hb, hml, hown, hts, hK, hA, hnc, hns, hfr, hlo⟩ := F
  intro H locs ls hP hD hS hl
  exact va_get (D := D) (ci := 0) (v := .ref (g.1 8)) (C := RX0) (T := TX0) (N := 19) hx hb hts in_X0 hown hK hP 0 rfl rfl 8 (by decide) (hts _ q36) (fun _ h9 => h9) rfl hd (kk H locs ls hP hD hS hl)
theorem zx_ald_cells {k : ZK} {g : ZG} {own : String} {cc : ByteArray} {nL fr lo pc : Nat} {sd pl : Nat} {sta sav pas par rfs siz bas cel pay pri fa fb fre ou un pro ch : Nat → Nat} {L : ZL} {rest : List Value} {j : Nat} (F : zz_F k g own cc nL fr lo) (hd : decode cc pc = .ok (.iaload, 1)) (hj : j < 96) (kk : zz_W k (wX g (sd, sta, sav, pas, par, rfs, siz, bas, cel, pay, pri, fa, fb, fre, ou, un, pro, pl, ch)) (pc + 1) L (.int (nI (cel j)) :: rest)) : zz_W k (wX g (sd, sta, sav, pas, par, rfs, siz, bas, cel, pay, pri, fa, fb, fre, ou, un, pro, pl, ch)) pc L (.int (nI j) :: .ref (g.1 8) :: rest) := zz_ald 8 F hd rfl hj (by decide) kk
theorem zx_set_cells (g : ZG) {sd pl : Nat} {sta sav pas par rfs siz bas cel pay pri fa fb fre ou un pro ch : Nat → Nat} (j v : Nat) : (wX g (sd, sta, sav, pas, par, rfs, siz, bas, cel, pay, pri, fa, fb, fre, ou, un, pro, pl, ch)).set 8 (g.1 8, .inl (g.2.1, 96, .inl (upd (fun q => nI (cel q)) j (nI v)))) = (wX g (sd, sta, sav, pas, par, rfs, siz, bas, va_up cel j v, pay, pri, fa, fb, fre, ou, un, pro, pl, ch)) := by
  unfold wX
  simp only [List.set, up_fun]
theorem zx_ast_cells {k : ZK} {g : ZG} {own : String} {cc : ByteArray} {nL fr lo pc : Nat} {sd pl : Nat} {sta sav pas par rfs siz bas cel pay pri fa fb fre ou un pro ch : Nat → Nat} {L : ZL} {rest : List Value} {j v : Nat} (F : zz_F k g own cc nL fr lo) (hd : decode cc pc = .ok (.iastore, 1)) (hj : j < 96) (kk : zz_W k (wX g (sd, sta, sav, pas, par, rfs, siz, bas, va_up cel j v, pay, pri, fa, fb, fre, ou, un, pro, pl, ch)) (pc + 1) L rest) : zz_W k (wX g (sd, sta, sav, pas, par, rfs, siz, bas, cel, pay, pri, fa, fb, fre, ou, un, pro, pl, ch)) pc L (.int (nI v) :: .int (nI j) :: .ref (g.1 8) :: rest) := zz_ast 8 F hd rfl hj (by decide) (zz_wld (zx_set_cells g j v) kk)
theorem zx_get_payload {k : ZK} {g : ZG} {cc : ByteArray} {nL fr lo pc : Nat} {sd pl : Nat} {sta sav pas par rfs siz bas cel pay pri fa fb fre ou un pro ch : Nat → Nat} {L : ZL} {rest : List Value} (F : zz_F k g RX0 cc nL fr lo) (hd : decode cc pc = .ok (.getfield 35, 3)) (kk : zz_W k (wX g (sd, sta, sav, pas, par, rfs, siz, bas, cel, pay, pri, fa, fb, fre, ou, un, pro, pl, ch)) (pc + 3) L (.ref (g.1 9) :: rest)) : zz_W k (wX g (sd, sta, sav, pas, par, rfs, siz, bas, cel, pay, pri, fa, fb, fre, ou, un, pro, pl, ch)) pc L (.ref (g.1 0) :: rest) := by
  obtain ⟨p, l, e, R, s, m, args, below, meth, c, Q, A, D, nc, ns⟩ := k
  obtain ⟨hx, hb, hml, hown, hts, hK, hA, hnc, hns, hfr, hlo⟩ := F
  intro H locs ls hP hD hS hl
  exact va_get (D := D) (ci := 0) (v := .ref (g.1 9)) (C := RX0) (T := TX0) (N := 19) hx hb hts in_X0 hown hK hP 0 rfl rfl 9 (by decide) (hts _ q37) (fun _ h9 => h9) rfl hd (kk H locs ls hP hD hS hl)
theorem zx_ald_payload {k : ZK} {g : ZG} {own : String} {cc : ByteArray} {nL fr lo pc : Nat} {sd pl : Nat} {sta sav pas par rfs siz bas cel pay pri fa fb fre ou un pro ch : Nat → Nat} {L : ZL} {rest : List Value} {j : Nat} (F : zz_F k g own cc nL fr lo) (hd : decode cc pc = .ok (.iaload, 1)) (hj : j < 1536) (kk : zz_W k (wX g (sd, sta, sav, pas, par, rfs, siz, bas, cel, pay, pri, fa, fb, fre, ou, un, pro, pl, ch)) (pc + 1) L (.int (nI (pay j)) :: rest)) : zz_W k (wX g (sd, sta, sav, pas, par, rfs, siz, bas, cel, pay, pri, fa, fb, fre, ou, un, pro, pl, ch)) pc L (.int (nI j) :: .ref (g.1 9) :: rest) := zz_ald 9 F hd rfl hj (by decide) kk
theorem zx_set_payload (g : ZG) {sd pl : Nat} {sta sav pas par rfs siz bas cel pay pri fa fb fre ou un pro ch : Nat → Nat} (j v : Nat) : (wX g (sd, sta, sav, pas, par, rfs, siz, bas, cel, pay, pri, fa, fb, fre, ou, un, pro, pl, ch)).set 9 (g.1 9, .inl (g.2.1, 1536, .inl (upd (fun q => nI (pay q)) j (nI v)))) = (wX g (sd, sta, sav, pas, par, rfs, siz, bas, cel, va_up pay j v, pri, fa, fb, fre, ou, un, pro, pl, ch)) := by
  unfold wX
  simp only [List.set, up_fun]
theorem zx_ast_payload {k : ZK} {g : ZG} {own : String} {cc : ByteArray} {nL fr lo pc : Nat} {sd pl : Nat} {sta sav pas par rfs siz bas cel pay pri fa fb fre ou un pro ch : Nat → Nat} {L : ZL} {rest : List Value} {j v : Nat} (F : zz_F k g own cc nL fr lo) (hd : decode cc pc = .ok (.iastore, 1)) (hj : j < 1536) (kk : zz_W k (wX g (sd, sta, sav, pas, par, rfs, siz, bas, cel, va_up pay j v, pri, fa, fb, fre, ou, un, pro, pl, ch)) (pc + 1) L rest) : zz_W k (wX g (sd, sta, sav, pas, par, rfs, siz, bas, cel, pay, pri, fa, fb, fre, ou, un, pro, pl, ch)) pc L (.int (nI v) :: .int (nI j) :: .ref (g.1 9) :: rest) := zz_ast 9 F hd rfl hj (by decide) (zz_wld (zx_set_payload g j v) kk)
theorem zx_get_print {k : ZK} {g : ZG} {cc : ByteArray} {nL fr lo pc : Nat} {sd pl : Nat} {sta sav pas par rfs siz bas cel pay pri fa fb fre ou un pro ch : Nat → Nat} {L : ZL} {rest : List Value} (F : zz_F k g RX0 cc nL fr lo) (hd : decode cc pc = .ok (.getfield 38, 3)) (kk : zz_W k (wX g (sd, sta, sav, pas, par, rfs, siz, bas, cel, pay, pri, fa, fb, fre, ou, un, pro, pl, ch)) (pc + 3) L (.ref (g.1 10) :: rest)) : zz_W k (wX g (sd, sta, sav, pas, par, rfs, siz, bas, cel, pay, pri, fa, fb, fre, ou, un, pro, pl, ch)) pc L (.ref (g.1 0) :: rest) := by
  obtain ⟨p, l, e, R, s, m, args, below, meth, c, Q, A, D, nc, ns⟩ := k
  obtain ⟨hx, hb, hml, hown, hts, hK, hA, hnc, hns, hfr, hlo⟩ := F
  intro H locs ls hP hD hS hl
  exact va_get (D := D) (ci := 0) (v := .ref (g.1 10)) (C := RX0) (T := TX0) (N := 19) hx hb hts in_X0 hown hK hP 0 rfl rfl 10 (by decide) (hts _ q38) (fun _ h9 => h9) rfl hd (kk H locs ls hP hD hS hl)
theorem zx_ald_print {k : ZK} {g : ZG} {own : String} {cc : ByteArray} {nL fr lo pc : Nat} {sd pl : Nat} {sta sav pas par rfs siz bas cel pay pri fa fb fre ou un pro ch : Nat → Nat} {L : ZL} {rest : List Value} {j : Nat} (F : zz_F k g own cc nL fr lo) (hd : decode cc pc = .ok (.iaload, 1)) (hj : j < 96) (kk : zz_W k (wX g (sd, sta, sav, pas, par, rfs, siz, bas, cel, pay, pri, fa, fb, fre, ou, un, pro, pl, ch)) (pc + 1) L (.int (nI (pri j)) :: rest)) : zz_W k (wX g (sd, sta, sav, pas, par, rfs, siz, bas, cel, pay, pri, fa, fb, fre, ou, un, pro, pl, ch)) pc L (.int (nI j) :: .ref (g.1 10) :: rest) := zz_ald 10 F hd rfl hj (by decide) kk
theorem zx_set_print (g : ZG) {sd pl : Nat} {sta sav pas par rfs siz bas cel pay pri fa fb fre ou un pro ch : Nat → Nat} (j v : Nat) : (wX g (sd, sta, sav, pas, par, rfs, siz, bas, cel, pay, pri, fa, fb, fre, ou, un, pro, pl, ch)).set 10 (g.1 10, .inl (g.2.1, 96, .inl (upd (fun q => nI (pri q)) j (nI v)))) = (wX g (sd, sta, sav, pas, par, rfs, siz, bas, cel, pay, va_up pri j v, fa, fb, fre, ou, un, pro, pl, ch)) := by
  unfold wX
  simp only [List.set, up_fun]
theorem zx_ast_print {k : ZK} {g : ZG} {own : String} {cc : ByteArray} {nL fr lo pc : Nat} {sd pl : Nat} {sta sav pas par rfs siz bas cel pay pri fa fb fre ou un pro ch : Nat → Nat} {L : ZL} {rest : List Value} {j v : Nat} (F : zz_F k g own cc nL fr lo) (hd : decode cc pc = .ok (.iastore, 1)) (hj : j < 96) (kk : zz_W k (wX g (sd, sta, sav, pas, par, rfs, siz, bas, cel, pay, va_up pri j v, fa, fb, fre, ou, un, pro, pl, ch)) (pc + 1) L rest) : zz_W k (wX g (sd, sta, sav, pas, par, rfs, siz, bas, cel, pay, pri, fa, fb, fre, ou, un, pro, pl, ch)) pc L (.int (nI v) :: .int (nI j) :: .ref (g.1 10) :: rest) := zz_ast 10 F hd rfl hj (by decide) (zz_wld (zx_set_print g j v) kk)
theorem zx_get_featA {k : ZK} {g : ZG} {cc : ByteArray} {nL fr lo pc : Nat} {sd pl : Nat} {sta sav pas par rfs siz bas cel pay pri fa fb fre ou un pro ch : Nat → Nat} {L : ZL} {rest : List Value} (F : zz_F k g RX0 cc nL fr lo) (hd : decode cc pc = .ok (.getfield 41, 3)) (kk : zz_W k (wX g (sd, sta, sav, pas, par, rfs, siz, bas, cel, pay, pri, fa, fb, fre, ou, un, pro, pl, ch)) (pc + 3) L (.ref (g.1 11) :: rest)) : zz_W k (wX g (sd, sta, sav, pas, par, rfs, siz, bas, cel, pay, pri, fa, fb, fre, ou, un, pro, pl, ch)) pc L (.ref (g.1 0) :: rest) := by
  obtain ⟨p, l, e, R, s, m, args, below, meth, c, Q, A, D, nc, ns⟩ := k
  obtain ⟨hx, hb, hml, hown, hts, hK, hA, hnc, hns, hfr, hlo⟩ := F
  intro H locs ls hP hD hS hl
  exact va_get (D := D) (ci := 0) (v := .ref (g.1 11)) (C := RX0) (T := TX0) (N := 19) hx hb hts in_X0 hown hK hP 0 rfl rfl 11 (by decide) (hts _ q39) (fun _ h9 => h9) rfl hd (kk H locs ls hP hD hS hl)
theorem zx_ald_featA {k : ZK} {g : ZG} {own : String} {cc : ByteArray} {nL fr lo pc : Nat} {sd pl : Nat} {sta sav pas par rfs siz bas cel pay pri fa fb fre ou un pro ch : Nat → Nat} {L : ZL} {rest : List Value} {j : Nat} (F : zz_F k g own cc nL fr lo) (hd : decode cc pc = .ok (.iaload, 1)) (hj : j < 96) (kk : zz_W k (wX g (sd, sta, sav, pas, par, rfs, siz, bas, cel, pay, pri, fa, fb, fre, ou, un, pro, pl, ch)) (pc + 1) L (.int (nI (fa j)) :: rest)) : zz_W k (wX g (sd, sta, sav, pas, par, rfs, siz, bas, cel, pay, pri, fa, fb, fre, ou, un, pro, pl, ch)) pc L (.int (nI j) :: .ref (g.1 11) :: rest) := zz_ald 11 F hd rfl hj (by decide) kk
theorem zx_set_featA (g : ZG) {sd pl : Nat} {sta sav pas par rfs siz bas cel pay pri fa fb fre ou un pro ch : Nat → Nat} (j v : Nat) : (wX g (sd, sta, sav, pas, par, rfs, siz, bas, cel, pay, pri, fa, fb, fre, ou, un, pro, pl, ch)).set 11 (g.1 11, .inl (g.2.1, 96, .inl (upd (fun q => nI (fa q)) j (nI v)))) = (wX g (sd, sta, sav, pas, par, rfs, siz, bas, cel, pay, pri, va_up fa j v, fb, fre, ou, un, pro, pl, ch)) := by
  unfold wX
  simp only [List.set, up_fun]
theorem zx_ast_featA {k : ZK} {g : ZG} {own : String} {cc : ByteArray} {nL fr lo pc : Nat} {sd pl : Nat} {sta sav pas par rfs siz bas cel pay pri fa fb fre ou un pro ch : Nat → Nat} {L : ZL} {rest : List Value} {j v : Nat} (F : zz_F k g own cc nL fr lo) (hd : decode cc pc = .ok (.iastore, 1)) (hj : j < 96) (kk : zz_W k (wX g (sd, sta, sav, pas, par, rfs, siz, bas, cel, pay, pri, va_up fa j v, fb, fre, ou, un, pro, pl, ch)) (pc + 1) L rest) : zz_W k (wX g (sd, sta, sav, pas, par, rfs, siz, bas, cel, pay, pri, fa, fb, fre, ou, un, pro, pl, ch)) pc L (.int (nI v) :: .int (nI j) :: .ref (g.1 11) :: rest) := zz_ast 11 F hd rfl hj (by decide) (zz_wld (zx_set_featA g j v) kk)
theorem zx_get_featB {k : ZK} {g : ZG} {cc : ByteArray} {nL fr lo pc : Nat} {sd pl : Nat} {sta sav pas par rfs siz bas cel pay pri fa fb fre ou un pro ch : Nat → Nat} {L : ZL} {rest : List Value} (F : zz_F k g RX0 cc nL fr lo) (hd : decode cc pc = .ok (.getfield 44, 3)) (kk : zz_W k (wX g (sd, sta, sav, pas, par, rfs, siz, bas, cel, pay, pri, fa, fb, fre, ou, un, pro, pl, ch)) (pc + 3) L (.ref (g.1 12) :: rest)) : zz_W k (wX g (sd, sta, sav, pas, par, rfs, siz, bas, cel, pay, pri, fa, fb, fre, ou, un, pro, pl, ch)) pc L (.ref (g.1 0) :: rest) := by
  obtain ⟨p, l, e, R, s, m, args, below, meth, c, Q, A, D, nc, ns⟩ := k
  obtain ⟨hx, hb, hml, hown, hts, hK, hA, hnc, hns, hfr, hlo⟩ := F
  intro H locs ls hP hD hS hl
  exact va_get (D := D) (ci := 0) (v := .ref (g.1 12)) (C := RX0) (T := TX0) (N := 19) hx hb hts in_X0 hown hK hP 0 rfl rfl 12 (by decide) (hts _ q40) (fun _ h9 => h9) rfl hd (kk H locs ls hP hD hS hl)
theorem zx_ald_featB {k : ZK} {g : ZG} {own : String} {cc : ByteArray} {nL fr lo pc : Nat} {sd pl : Nat} {sta sav pas par rfs siz bas cel pay pri fa fb fre ou un pro ch : Nat → Nat} {L : ZL} {rest : List Value} {j : Nat} (F : zz_F k g own cc nL fr lo) (hd : decode cc pc = .ok (.iaload, 1)) (hj : j < 96) (kk : zz_W k (wX g (sd, sta, sav, pas, par, rfs, siz, bas, cel, pay, pri, fa, fb, fre, ou, un, pro, pl, ch)) (pc + 1) L (.int (nI (fb j)) :: rest)) : zz_W k (wX g (sd, sta, sav, pas, par, rfs, siz, bas, cel, pay, pri, fa, fb, fre, ou, un, pro, pl, ch)) pc L (.int (nI j) :: .ref (g.1 12) :: rest) := zz_ald 12 F hd rfl hj (by decide) kk
theorem zx_set_featB (g : ZG) {sd pl : Nat} {sta sav pas par rfs siz bas cel pay pri fa fb fre ou un pro ch : Nat → Nat} (j v : Nat) : (wX g (sd, sta, sav, pas, par, rfs, siz, bas, cel, pay, pri, fa, fb, fre, ou, un, pro, pl, ch)).set 12 (g.1 12, .inl (g.2.1, 96, .inl (upd (fun q => nI (fb q)) j (nI v)))) = (wX g (sd, sta, sav, pas, par, rfs, siz, bas, cel, pay, pri, fa, va_up fb j v, fre, ou, un, pro, pl, ch)) := by
  unfold wX
  simp only [List.set, up_fun]
theorem zx_ast_featB {k : ZK} {g : ZG} {own : String} {cc : ByteArray} {nL fr lo pc : Nat} {sd pl : Nat} {sta sav pas par rfs siz bas cel pay pri fa fb fre ou un pro ch : Nat → Nat} {L : ZL} {rest : List Value} {j v : Nat} (F : zz_F k g own cc nL fr lo) (hd : decode cc pc = .ok (.iastore, 1)) (hj : j < 96) (kk : zz_W k (wX g (sd, sta, sav, pas, par, rfs, siz, bas, cel, pay, pri, fa, va_up fb j v, fre, ou, un, pro, pl, ch)) (pc + 1) L rest) : zz_W k (wX g (sd, sta, sav, pas, par, rfs, siz, bas, cel, pay, pri, fa, fb, fre, ou, un, pro, pl, ch)) pc L (.int (nI v) :: .int (nI j) :: .ref (g.1 12) :: rest) := zz_ast 12 F hd rfl hj (by decide) (zz_wld (zx_set_featB g j v) kk)
theorem zx_get_fresh {k : ZK} {g : ZG} {cc : ByteArray} {nL fr lo pc : Nat} {sd pl : Nat} {sta sav pas par rfs siz bas cel pay pri fa fb fre ou un pro ch : Nat → Nat} {L : ZL} {rest : List Value} (F : zz_F k g RX0 cc nL fr lo) (hd : decode cc pc = .ok (.getfield 47, 3)) (kk : zz_W k (wX g (sd, sta, sav, pas, par, rfs, siz, bas, cel, pay, pri, fa, fb, fre, ou, un, pro, pl, ch)) (pc + 3) L (.ref (g.1 13) :: rest)) : zz_W k (wX g (sd, sta, sav, pas, par, rfs, siz, bas, cel, pay, pri, fa, fb, fre, ou, un, pro, pl, ch)) pc L (.ref (g.1 0) :: rest) := by
  obtain ⟨p, l, e, R, s, m, args, below, meth, c, Q, A, D, nc, ns⟩ := k
  obtain ⟨hx, hb, hml, hown, hts, hK, hA, hnc, hns, hfr, hlo⟩ := F
  intro H locs ls hP hD hS hl
  exact va_get (D := D) (ci := 0) (v := .ref (g.1 13)) (C := RX0) (T := TX0) (N := 19) hx hb hts in_X0 hown hK hP 0 rfl rfl 13 (by decide) (hts _ q41) (fun _ h9 => h9) rfl hd (kk H locs ls hP hD hS hl)
theorem zx_ald_fresh {k : ZK} {g : ZG} {own : String} {cc : ByteArray} {nL fr lo pc : Nat} {sd pl : Nat} {sta sav pas par rfs siz bas cel pay pri fa fb fre ou un pro ch : Nat → Nat} {L : ZL} {rest : List Value} {j : Nat} (F : zz_F k g own cc nL fr lo) (hd : decode cc pc = .ok (.iaload, 1)) (hj : j < 16) (kk : zz_W k (wX g (sd, sta, sav, pas, par, rfs, siz, bas, cel, pay, pri, fa, fb, fre, ou, un, pro, pl, ch)) (pc + 1) L (.int (nI (fre j)) :: rest)) : zz_W k (wX g (sd, sta, sav, pas, par, rfs, siz, bas, cel, pay, pri, fa, fb, fre, ou, un, pro, pl, ch)) pc L (.int (nI j) :: .ref (g.1 13) :: rest) := zz_ald 13 F hd rfl hj (by decide) kk
theorem zx_set_fresh (g : ZG) {sd pl : Nat} {sta sav pas par rfs siz bas cel pay pri fa fb fre ou un pro ch : Nat → Nat} (j v : Nat) : (wX g (sd, sta, sav, pas, par, rfs, siz, bas, cel, pay, pri, fa, fb, fre, ou, un, pro, pl, ch)).set 13 (g.1 13, .inl (g.2.1, 16, .inl (upd (fun q => nI (fre q)) j (nI v)))) = (wX g (sd, sta, sav, pas, par, rfs, siz, bas, cel, pay, pri, fa, fb, va_up fre j v, ou, un, pro, pl, ch)) := by
  unfold wX
  simp only [List.set, up_fun]
theorem zx_ast_fresh {k : ZK} {g : ZG} {own : String} {cc : ByteArray} {nL fr lo pc : Nat} {sd pl : Nat} {sta sav pas par rfs siz bas cel pay pri fa fb fre ou un pro ch : Nat → Nat} {L : ZL} {rest : List Value} {j v : Nat} (F : zz_F k g own cc nL fr lo) (hd : decode cc pc = .ok (.iastore, 1)) (hj : j < 16) (kk : zz_W k (wX g (sd, sta, sav, pas, par, rfs, siz, bas, cel, pay, pri, fa, fb, va_up fre j v, ou, un, pro, pl, ch)) (pc + 1) L rest) : zz_W k (wX g (sd, sta, sav, pas, par, rfs, siz, bas, cel, pay, pri, fa, fb, fre, ou, un, pro, pl, ch)) pc L (.int (nI v) :: .int (nI j) :: .ref (g.1 13) :: rest) := zz_ast 13 F hd rfl hj (by decide) (zz_wld (zx_set_fresh g j v) kk)
theorem zx_get_out {k : ZK} {g : ZG} {cc : ByteArray} {nL fr lo pc : Nat} {sd pl : Nat} {sta sav pas par rfs siz bas cel pay pri fa fb fre ou un pro ch : Nat → Nat} {L : ZL} {rest : List Value} (F : zz_F k g RX0 cc nL fr lo) (hd : decode cc pc = .ok (.getfield 50, 3)) (kk : zz_W k (wX g (sd, sta, sav, pas, par, rfs, siz, bas, cel, pay, pri, fa, fb, fre, ou, un, pro, pl, ch)) (pc + 3) L (.ref (g.1 14) :: rest)) : zz_W k (wX g (sd, sta, sav, pas, par, rfs, siz, bas, cel, pay, pri, fa, fb, fre, ou, un, pro, pl, ch)) pc L (.ref (g.1 0) :: rest) := by
  obtain ⟨p, l, e, R, s, m, args, below, meth, c, Q, A, D, nc, ns⟩ := k
  obtain ⟨hx, hb, hml, hown, hts, hK, hA, hnc, hns, hfr, hlo⟩ := F
  intro H locs ls hP hD hS hl
  exact va_get (D := D) (ci := 0) (v := .ref (g.1 14)) (C := RX0) (T := TX0) (N := 19) hx hb hts in_X0 hown hK hP 0 rfl rfl 14 (by decide) (hts _ q42) (fun _ h9 => h9) rfl hd (kk H locs ls hP hD hS hl)
theorem zx_ald_out {k : ZK} {g : ZG} {own : String} {cc : ByteArray} {nL fr lo pc : Nat} {sd pl : Nat} {sta sav pas par rfs siz bas cel pay pri fa fb fre ou un pro ch : Nat → Nat} {L : ZL} {rest : List Value} {j : Nat} (F : zz_F k g own cc nL fr lo) (hd : decode cc pc = .ok (.iaload, 1)) (hj : j < 16) (kk : zz_W k (wX g (sd, sta, sav, pas, par, rfs, siz, bas, cel, pay, pri, fa, fb, fre, ou, un, pro, pl, ch)) (pc + 1) L (.int (nI (ou j)) :: rest)) : zz_W k (wX g (sd, sta, sav, pas, par, rfs, siz, bas, cel, pay, pri, fa, fb, fre, ou, un, pro, pl, ch)) pc L (.int (nI j) :: .ref (g.1 14) :: rest) := zz_ald 14 F hd rfl hj (by decide) kk
theorem zx_set_out (g : ZG) {sd pl : Nat} {sta sav pas par rfs siz bas cel pay pri fa fb fre ou un pro ch : Nat → Nat} (j v : Nat) : (wX g (sd, sta, sav, pas, par, rfs, siz, bas, cel, pay, pri, fa, fb, fre, ou, un, pro, pl, ch)).set 14 (g.1 14, .inl (g.2.1, 16, .inl (upd (fun q => nI (ou q)) j (nI v)))) = (wX g (sd, sta, sav, pas, par, rfs, siz, bas, cel, pay, pri, fa, fb, fre, va_up ou j v, un, pro, pl, ch)) := by
  unfold wX
  simp only [List.set, up_fun]
theorem zx_ast_out {k : ZK} {g : ZG} {own : String} {cc : ByteArray} {nL fr lo pc : Nat} {sd pl : Nat} {sta sav pas par rfs siz bas cel pay pri fa fb fre ou un pro ch : Nat → Nat} {L : ZL} {rest : List Value} {j v : Nat} (F : zz_F k g own cc nL fr lo) (hd : decode cc pc = .ok (.iastore, 1)) (hj : j < 16) (kk : zz_W k (wX g (sd, sta, sav, pas, par, rfs, siz, bas, cel, pay, pri, fa, fb, fre, va_up ou j v, un, pro, pl, ch)) (pc + 1) L rest) : zz_W k (wX g (sd, sta, sav, pas, par, rfs, siz, bas, cel, pay, pri, fa, fb, fre, ou, un, pro, pl, ch)) pc L (.int (nI v) :: .int (nI j) :: .ref (g.1 14) :: rest) := zz_ast 14 F hd rfl hj (by decide) (zz_wld (zx_set_out g j v) kk)
theorem zx_get_under {k : ZK} {g : ZG} {cc : ByteArray} {nL fr lo pc : Nat} {sd pl : Nat} {sta sav pas par rfs siz bas cel pay pri fa fb fre ou un pro ch : Nat → Nat} {L : ZL} {rest : List Value} (F : zz_F k g RX0 cc nL fr lo) (hd : decode cc pc = .ok (.getfield 53, 3)) (kk : zz_W k (wX g (sd, sta, sav, pas, par, rfs, siz, bas, cel, pay, pri, fa, fb, fre, ou, un, pro, pl, ch)) (pc + 3) L (.ref (g.1 15) :: rest)) : zz_W k (wX g (sd, sta, sav, pas, par, rfs, siz, bas, cel, pay, pri, fa, fb, fre, ou, un, pro, pl, ch)) pc L (.ref (g.1 0) :: rest) := by
  obtain ⟨p, l, e, R, s, m, args, below, meth, c, Q, A, D, nc, ns⟩ := k
  obtain ⟨hx, hb, hml, hown, hts, hK, hA, hnc, hns, hfr, hlo⟩ := F
  intro H locs ls hP hD hS hl
  exact va_get (D := D) (ci := 0) (v := .ref (g.1 15)) (C := RX0) (T := TX0) (N := 19) hx hb hts in_X0 hown hK hP 0 rfl rfl 15 (by decide) (hts _ q43) (fun _ h9 => h9) rfl hd (kk H locs ls hP hD hS hl)
theorem zx_ald_under {k : ZK} {g : ZG} {own : String} {cc : ByteArray} {nL fr lo pc : Nat} {sd pl : Nat} {sta sav pas par rfs siz bas cel pay pri fa fb fre ou un pro ch : Nat → Nat} {L : ZL} {rest : List Value} {j : Nat} (F : zz_F k g own cc nL fr lo) (hd : decode cc pc = .ok (.iaload, 1)) (hj : j < 16) (kk : zz_W k (wX g (sd, sta, sav, pas, par, rfs, siz, bas, cel, pay, pri, fa, fb, fre, ou, un, pro, pl, ch)) (pc + 1) L (.int (nI (un j)) :: rest)) : zz_W k (wX g (sd, sta, sav, pas, par, rfs, siz, bas, cel, pay, pri, fa, fb, fre, ou, un, pro, pl, ch)) pc L (.int (nI j) :: .ref (g.1 15) :: rest) := zz_ald 15 F hd rfl hj (by decide) kk
theorem zx_set_under (g : ZG) {sd pl : Nat} {sta sav pas par rfs siz bas cel pay pri fa fb fre ou un pro ch : Nat → Nat} (j v : Nat) : (wX g (sd, sta, sav, pas, par, rfs, siz, bas, cel, pay, pri, fa, fb, fre, ou, un, pro, pl, ch)).set 15 (g.1 15, .inl (g.2.1, 16, .inl (upd (fun q => nI (un q)) j (nI v)))) = (wX g (sd, sta, sav, pas, par, rfs, siz, bas, cel, pay, pri, fa, fb, fre, ou, va_up un j v, pro, pl, ch)) := by
  unfold wX
  simp only [List.set, up_fun]
theorem zx_ast_under {k : ZK} {g : ZG} {own : String} {cc : ByteArray} {nL fr lo pc : Nat} {sd pl : Nat} {sta sav pas par rfs siz bas cel pay pri fa fb fre ou un pro ch : Nat → Nat} {L : ZL} {rest : List Value} {j v : Nat} (F : zz_F k g own cc nL fr lo) (hd : decode cc pc = .ok (.iastore, 1)) (hj : j < 16) (kk : zz_W k (wX g (sd, sta, sav, pas, par, rfs, siz, bas, cel, pay, pri, fa, fb, fre, ou, va_up un j v, pro, pl, ch)) (pc + 1) L rest) : zz_W k (wX g (sd, sta, sav, pas, par, rfs, siz, bas, cel, pay, pri, fa, fb, fre, ou, un, pro, pl, ch)) pc L (.int (nI v) :: .int (nI j) :: .ref (g.1 15) :: rest) := zz_ast 15 F hd rfl hj (by decide) (zz_wld (zx_set_under g j v) kk)
theorem zx_get_program {k : ZK} {g : ZG} {cc : ByteArray} {nL fr lo pc : Nat} {sd pl : Nat} {sta sav pas par rfs siz bas cel pay pri fa fb fre ou un pro ch : Nat → Nat} {L : ZL} {rest : List Value} (F : zz_F k g RX0 cc nL fr lo) (hd : decode cc pc = .ok (.getfield 56, 3)) (kk : zz_W k (wX g (sd, sta, sav, pas, par, rfs, siz, bas, cel, pay, pri, fa, fb, fre, ou, un, pro, pl, ch)) (pc + 3) L (.ref (g.1 16) :: rest)) : zz_W k (wX g (sd, sta, sav, pas, par, rfs, siz, bas, cel, pay, pri, fa, fb, fre, ou, un, pro, pl, ch)) pc L (.ref (g.1 0) :: rest) := by
  obtain ⟨p, l, e, R, s, m, args, below, meth, c, Q, A, D, nc, ns⟩ := k
  obtain ⟨hx, hb, hml, hown, hts, hK, hA, hnc, hns, hfr, hlo⟩ := F
  intro H locs ls hP hD hS hl
  exact va_get (D := D) (ci := 0) (v := .ref (g.1 16)) (C := RX0) (T := TX0) (N := 19) hx hb hts in_X0 hown hK hP 0 rfl rfl 16 (by decide) (hts _ q44) (fun _ h9 => h9) rfl hd (kk H locs ls hP hD hS hl)
theorem zx_ald_program {k : ZK} {g : ZG} {own : String} {cc : ByteArray} {nL fr lo pc : Nat} {sd pl : Nat} {sta sav pas par rfs siz bas cel pay pri fa fb fre ou un pro ch : Nat → Nat} {L : ZL} {rest : List Value} {j : Nat} (F : zz_F k g own cc nL fr lo) (hd : decode cc pc = .ok (.iaload, 1)) (hj : j < 16) (kk : zz_W k (wX g (sd, sta, sav, pas, par, rfs, siz, bas, cel, pay, pri, fa, fb, fre, ou, un, pro, pl, ch)) (pc + 1) L (.int (nI (pro j)) :: rest)) : zz_W k (wX g (sd, sta, sav, pas, par, rfs, siz, bas, cel, pay, pri, fa, fb, fre, ou, un, pro, pl, ch)) pc L (.int (nI j) :: .ref (g.1 16) :: rest) := zz_ald 16 F hd rfl hj (by decide) kk
theorem zx_set_program (g : ZG) {sd pl : Nat} {sta sav pas par rfs siz bas cel pay pri fa fb fre ou un pro ch : Nat → Nat} (j v : Nat) : (wX g (sd, sta, sav, pas, par, rfs, siz, bas, cel, pay, pri, fa, fb, fre, ou, un, pro, pl, ch)).set 16 (g.1 16, .inl (g.2.1, 16, .inl (upd (fun q => nI (pro q)) j (nI v)))) = (wX g (sd, sta, sav, pas, par, rfs, siz, bas, cel, pay, pri, fa, fb, fre, ou, un, va_up pro j v, pl, ch)) := by
  unfold wX
  simp only [List.set, up_fun]
theorem zx_ast_program {k : ZK} {g : ZG} {own : String} {cc : ByteArray} {nL fr lo pc : Nat} {sd pl : Nat} {sta sav pas par rfs siz bas cel pay pri fa fb fre ou un pro ch : Nat → Nat} {L : ZL} {rest : List Value} {j v : Nat} (F : zz_F k g own cc nL fr lo) (hd : decode cc pc = .ok (.iastore, 1)) (hj : j < 16) (kk : zz_W k (wX g (sd, sta, sav, pas, par, rfs, siz, bas, cel, pay, pri, fa, fb, fre, ou, un, va_up pro j v, pl, ch)) (pc + 1) L rest) : zz_W k (wX g (sd, sta, sav, pas, par, rfs, siz, bas, cel, pay, pri, fa, fb, fre, ou, un, pro, pl, ch)) pc L (.int (nI v) :: .int (nI j) :: .ref (g.1 16) :: rest) := zz_ast 16 F hd rfl hj (by decide) (zz_wld (zx_set_program g j v) kk)
theorem zx_get_programLen {k : ZK} {g : ZG} {cc : ByteArray} {nL fr lo pc : Nat} {sd pl : Nat} {sta sav pas par rfs siz bas cel pay pri fa fb fre ou un pro ch : Nat → Nat} {L : ZL} {rest : List Value} (F : zz_F k g RX0 cc nL fr lo) (hd : decode cc pc = .ok (.getfield 119, 3)) (kk : zz_W k (wX g (sd, sta, sav, pas, par, rfs, siz, bas, cel, pay, pri, fa, fb, fre, ou, un, pro, pl, ch)) (pc + 3) L (.int (nI pl) :: rest)) : zz_W k (wX g (sd, sta, sav, pas, par, rfs, siz, bas, cel, pay, pri, fa, fb, fre, ou, un, pro, pl, ch)) pc L (.ref (g.1 0) :: rest) := by
  obtain ⟨p, l, e, R, s, m, args, below, meth, c, Q, A, D, nc, ns⟩ := k
  obtain ⟨hx, hb, hml, hown, hts, hK, hA, hnc, hns, hfr, hlo⟩ := F
  intro H locs ls hP hD hS hl
  exact va_get (D := D) (ci := 0) (v := .int (nI pl)) (C := RX0) (T := TX0) (N := 19) hx hb hts in_X0 hown hK hP 0 rfl rfl 17 (by decide) (hts _ q45) (fun _ h9 => h9) rfl hd (kk H locs ls hP hD hS hl)
theorem zx_put_programLen {k : ZK} {g : ZG} {cc : ByteArray} {nL fr lo pc : Nat} {sd pl : Nat} {sta sav pas par rfs siz bas cel pay pri fa fb fre ou un pro ch : Nat → Nat} {L : ZL} {rest : List Value} {v : Nat} (F : zz_F k g RX0 cc nL fr lo) (hd : decode cc pc = .ok (.putfield 119, 3)) (kk : zz_W k (wX g (sd, sta, sav, pas, par, rfs, siz, bas, cel, pay, pri, fa, fb, fre, ou, un, pro, v, ch)) (pc + 3) L rest) : zz_W k (wX g (sd, sta, sav, pas, par, rfs, siz, bas, cel, pay, pri, fa, fb, fre, ou, un, pro, pl, ch)) pc L (.int (nI v) :: .ref (g.1 0) :: rest) := by
  obtain ⟨p, l, e, R, s, m, args, below, meth, c, Q, A, D, nc, ns⟩ := k
  obtain ⟨hx, hb, hml, hown, hts, hK, hA, hnc, hns, hfr, hlo⟩ := F
  intro H locs ls hP hD hS hl
  refine va_put (D := D) (ci := 0) (v := .int (nI v)) (ty := .int) (C := RX0) (T := TX0) (N := 19) hx hb hts in_X0 tyX0 tyX0_ok nmX0 hown hK hP hD hS 0 rfl rfl 17 (by decide) (hts _ q45) (fun _ h9 => h9) rfl (by decide +kernel) rfl rfl (Nat.le_of_ble_eq_true rfl) hd (fun H1 locs1 hP1 hD1 hS1 => ?_)
  exact kk H1 locs1 ls hP1 hD1 hS1 hl
theorem zx_get_chain {k : ZK} {g : ZG} {cc : ByteArray} {nL fr lo pc : Nat} {sd pl : Nat} {sta sav pas par rfs siz bas cel pay pri fa fb fre ou un pro ch : Nat → Nat} {L : ZL} {rest : List Value} (F : zz_F k g RX0 cc nL fr lo) (hd : decode cc pc = .ok (.getfield 59, 3)) (kk : zz_W k (wX g (sd, sta, sav, pas, par, rfs, siz, bas, cel, pay, pri, fa, fb, fre, ou, un, pro, pl, ch)) (pc + 3) L (.ref (g.1 18) :: rest)) : zz_W k (wX g (sd, sta, sav, pas, par, rfs, siz, bas, cel, pay, pri, fa, fb, fre, ou, un, pro, pl, ch)) pc L (.ref (g.1 0) :: rest) := by
  obtain ⟨p, l, e, R, s, m, args, below, meth, c, Q, A, D, nc, ns⟩ := k
  obtain ⟨hx, hb, hml, hown, hts, hK, hA, hnc, hns, hfr, hlo⟩ := F
  intro H locs ls hP hD hS hl
  exact va_get (D := D) (ci := 0) (v := .ref (g.1 18)) (C := RX0) (T := TX0) (N := 19) hx hb hts in_X0 hown hK hP 0 rfl rfl 18 (by decide) (hts _ q46) (fun _ h9 => h9) rfl hd (kk H locs ls hP hD hS hl)
theorem zx_ald_chain {k : ZK} {g : ZG} {own : String} {cc : ByteArray} {nL fr lo pc : Nat} {sd pl : Nat} {sta sav pas par rfs siz bas cel pay pri fa fb fre ou un pro ch : Nat → Nat} {L : ZL} {rest : List Value} {j : Nat} (F : zz_F k g own cc nL fr lo) (hd : decode cc pc = .ok (.iaload, 1)) (hj : j < 8) (kk : zz_W k (wX g (sd, sta, sav, pas, par, rfs, siz, bas, cel, pay, pri, fa, fb, fre, ou, un, pro, pl, ch)) (pc + 1) L (.int (nI (ch j)) :: rest)) : zz_W k (wX g (sd, sta, sav, pas, par, rfs, siz, bas, cel, pay, pri, fa, fb, fre, ou, un, pro, pl, ch)) pc L (.int (nI j) :: .ref (g.1 18) :: rest) := zz_ald 17 F hd rfl hj (by decide) kk
theorem zx_set_chain (g : ZG) {sd pl : Nat} {sta sav pas par rfs siz bas cel pay pri fa fb fre ou un pro ch : Nat → Nat} (j v : Nat) : (wX g (sd, sta, sav, pas, par, rfs, siz, bas, cel, pay, pri, fa, fb, fre, ou, un, pro, pl, ch)).set 17 (g.1 18, .inl (g.2.1, 8, .inl (upd (fun q => nI (ch q)) j (nI v)))) = (wX g (sd, sta, sav, pas, par, rfs, siz, bas, cel, pay, pri, fa, fb, fre, ou, un, pro, pl, va_up ch j v)) := by
  unfold wX
  simp only [List.set, up_fun]
theorem zx_ast_chain {k : ZK} {g : ZG} {own : String} {cc : ByteArray} {nL fr lo pc : Nat} {sd pl : Nat} {sta sav pas par rfs siz bas cel pay pri fa fb fre ou un pro ch : Nat → Nat} {L : ZL} {rest : List Value} {j v : Nat} (F : zz_F k g own cc nL fr lo) (hd : decode cc pc = .ok (.iastore, 1)) (hj : j < 8) (kk : zz_W k (wX g (sd, sta, sav, pas, par, rfs, siz, bas, cel, pay, pri, fa, fb, fre, ou, un, pro, pl, va_up ch j v)) (pc + 1) L rest) : zz_W k (wX g (sd, sta, sav, pas, par, rfs, siz, bas, cel, pay, pri, fa, fb, fre, ou, un, pro, pl, ch)) pc L (.int (nI v) :: .int (nI j) :: .ref (g.1 18) :: rest) := zz_ast 17 F hd rfl hj (by decide) (zz_wld (zx_set_chain g j v) kk)
end
section
set_option maxRecDepth 100000
abbrev MT : Type := (Nat → Nat) × Nat × (Nat → Nat) × (Nat → Nat) × (Nat → Nat)
def wM (g : ZG) (s : MT) : va_W := [(g.1 20, .inr (1, [.ref (g.1 21), .int (nI (s.2.1)), .ref (g.1 23), .ref (g.1 24), .ref (g.1 25)])),
  (g.1 21, .inl (g.2.1, 96, .inl (fun q => nI ((s.1) q)))),
  (g.1 23, .inl (g.2.2, 6, .inl (fun q => nI ((s.2.2.1) q)))),
  (g.1 24, .inl (g.2.1, 6, .inl (fun q => nI ((s.2.2.2.1) q)))),
  (g.1 25, .inl (g.2.1, 576, .inl (fun q => nI ((s.2.2.2.2) q))))]
theorem zm_get_stage {k : ZK} {g : ZG} {cc : ByteArray} {nL fr lo pc : Nat} {msz : Nat} {mst msv mss mby : Nat → Nat} {L : ZL} {rest : List Value} (F : zz_F k g RX1 cc nL fr lo) (hd : decode cc pc = .ok (.getfield 7, 3)) (kk : zz_W k (wM g (mst, msz, msv, mss, mby)) (pc + 3) L (.ref (g.1 21) :: rest)) : zz_W k (wM g (mst, msz, msv, mss, mby)) pc L (.ref (g.1 20) :: rest) := by
  obtain ⟨p, l, e, R, s, m, args, below, meth, c, Q, A, D, nc, ns⟩ := k
  obtain ⟨hx, hb, hml, hown, hts, hK, hA, hnc, hns, hfr, hlo⟩ := F
  intro H locs ls hP hD hS hl
  exact va_get (D := D) (ci := 1) (v := .ref (g.1 21)) (C := RX1) (T := TX1) (N := 5) hx hb hts in_X1 hown hK hP 0 rfl rfl 0 (by decide) (hts _ q226) (fun _ h9 => h9) rfl hd (kk H locs ls hP hD hS hl)
theorem zm_ald_stage {k : ZK} {g : ZG} {own : String} {cc : ByteArray} {nL fr lo pc : Nat} {msz : Nat} {mst msv mss mby : Nat → Nat} {L : ZL} {rest : List Value} {j : Nat} (F : zz_F k g own cc nL fr lo) (hd : decode cc pc = .ok (.iaload, 1)) (hj : j < 96) (kk : zz_W k (wM g (mst, msz, msv, mss, mby)) (pc + 1) L (.int (nI (mst j)) :: rest)) : zz_W k (wM g (mst, msz, msv, mss, mby)) pc L (.int (nI j) :: .ref (g.1 21) :: rest) := zz_ald 1 F hd rfl hj (by decide) kk
theorem zm_set_stage (g : ZG) {msz : Nat} {mst msv mss mby : Nat → Nat} (j v : Nat) : (wM g (mst, msz, msv, mss, mby)).set 1 (g.1 21, .inl (g.2.1, 96, .inl (upd (fun q => nI (mst q)) j (nI v)))) = (wM g (va_up mst j v, msz, msv, mss, mby)) := by
  unfold wM
  simp only [List.set, up_fun]
theorem zm_ast_stage {k : ZK} {g : ZG} {own : String} {cc : ByteArray} {nL fr lo pc : Nat} {msz : Nat} {mst msv mss mby : Nat → Nat} {L : ZL} {rest : List Value} {j v : Nat} (F : zz_F k g own cc nL fr lo) (hd : decode cc pc = .ok (.iastore, 1)) (hj : j < 96) (kk : zz_W k (wM g (va_up mst j v, msz, msv, mss, mby)) (pc + 1) L rest) : zz_W k (wM g (mst, msz, msv, mss, mby)) pc L (.int (nI v) :: .int (nI j) :: .ref (g.1 21) :: rest) := zz_ast 1 F hd rfl hj (by decide) (zz_wld (zm_set_stage g j v) kk)
theorem zm_get_size {k : ZK} {g : ZG} {cc : ByteArray} {nL fr lo pc : Nat} {msz : Nat} {mst msv mss mby : Nat → Nat} {L : ZL} {rest : List Value} (F : zz_F k g RX1 cc nL fr lo) (hd : decode cc pc = .ok (.getfield 23, 3)) (kk : zz_W k (wM g (mst, msz, msv, mss, mby)) (pc + 3) L (.int (nI msz) :: rest)) : zz_W k (wM g (mst, msz, msv, mss, mby)) pc L (.ref (g.1 20) :: rest) := by
  obtain ⟨p, l, e, R, s, m, args, below, meth, c, Q, A, D, nc, ns⟩ := k
  obtain ⟨hx, hb, hml, hown, hts, hK, hA, hnc, hns, hfr, hlo⟩ := F
  intro H locs ls hP hD hS hl
  exact va_get (D := D) (ci := 1) (v := .int (nI msz)) (C := RX1) (T := TX1) (N := 5) hx hb hts in_X1 hown hK hP 0 rfl rfl 1 (by decide) (hts _ q227) (fun _ h9 => h9) rfl hd (kk H locs ls hP hD hS hl)
theorem zm_put_size {k : ZK} {g : ZG} {cc : ByteArray} {nL fr lo pc : Nat} {msz : Nat} {mst msv mss mby : Nat → Nat} {L : ZL} {rest : List Value} {v : Nat} (F : zz_F k g RX1 cc nL fr lo) (hd : decode cc pc = .ok (.putfield 23, 3)) (kk : zz_W k (wM g (mst, v, msv, mss, mby)) (pc + 3) L rest) : zz_W k (wM g (mst, msz, msv, mss, mby)) pc L (.int (nI v) :: .ref (g.1 20) :: rest) := by
  obtain ⟨p, l, e, R, s, m, args, below, meth, c, Q, A, D, nc, ns⟩ := k
  obtain ⟨hx, hb, hml, hown, hts, hK, hA, hnc, hns, hfr, hlo⟩ := F
  intro H locs ls hP hD hS hl
  refine va_put (D := D) (ci := 1) (v := .int (nI v)) (ty := .int) (C := RX1) (T := TX1) (N := 5) hx hb hts in_X1 tyX1 tyX1_ok nmX1 hown hK hP hD hS 0 rfl rfl 1 (by decide) (hts _ q227) (fun _ h9 => h9) rfl (by decide +kernel) rfl rfl (Nat.le_of_ble_eq_true rfl) hd (fun H1 locs1 hP1 hD1 hS1 => ?_)
  exact kk H1 locs1 ls hP1 hD1 hS1 hl
theorem zm_get_saved {k : ZK} {g : ZG} {cc : ByteArray} {nL fr lo pc : Nat} {msz : Nat} {mst msv mss mby : Nat → Nat} {L : ZL} {rest : List Value} (F : zz_F k g RX1 cc nL fr lo) (hd : decode cc pc = .ok (.getfield 13, 3)) (kk : zz_W k (wM g (mst, msz, msv, mss, mby)) (pc + 3) L (.ref (g.1 23) :: rest)) : zz_W k (wM g (mst, msz, msv, mss, mby)) pc L (.ref (g.1 20) :: rest) := by
  obtain ⟨p, l, e, R, s, m, args, below, meth, c, Q, A, D, nc, ns⟩ := k
  obtain ⟨hx, hb, hml, hown, hts, hK, hA, hnc, hns, hfr, hlo⟩ := F
  intro H locs ls hP hD hS hl
  exact va_get (D := D) (ci := 1) (v := .ref (g.1 23)) (C := RX1) (T := TX1) (N := 5) hx hb hts in_X1 hown hK hP 0 rfl rfl 2 (by decide) (hts _ q228) (fun _ h9 => h9) rfl hd (kk H locs ls hP hD hS hl)
theorem zm_ald_saved {k : ZK} {g : ZG} {own : String} {cc : ByteArray} {nL fr lo pc : Nat} {msz : Nat} {mst msv mss mby : Nat → Nat} {L : ZL} {rest : List Value} {j : Nat} (F : zz_F k g own cc nL fr lo) (hd : decode cc pc = .ok (.baload, 1)) (hj : j < 6) (kk : zz_W k (wM g (mst, msz, msv, mss, mby)) (pc + 1) L (.int (nI (msv j)) :: rest)) : zz_W k (wM g (mst, msz, msv, mss, mby)) pc L (.int (nI j) :: .ref (g.1 23) :: rest) := zz_zald 2 F hd rfl hj (by decide) kk
theorem zm_set_saved (g : ZG) {msz : Nat} {mst msv mss mby : Nat → Nat} (j v : Nat) : (wM g (mst, msz, msv, mss, mby)).set 2 (g.1 23, .inl (g.2.2, 6, .inl (upd (fun q => nI (msv q)) j (nI v)))) = (wM g (mst, msz, va_up msv j v, mss, mby)) := by
  unfold wM
  simp only [List.set, up_fun]
theorem zm_ast_saved {k : ZK} {g : ZG} {own : String} {cc : ByteArray} {nL fr lo pc : Nat} {msz : Nat} {mst msv mss mby : Nat → Nat} {L : ZL} {rest : List Value} {j v : Nat} (F : zz_F k g own cc nL fr lo) (hd : decode cc pc = .ok (.bastore, 1)) (hj : j < 6) (hv : vp_nar .boolean (nI v) = nI v) (kk : zz_W k (wM g (mst, msz, va_up msv j v, mss, mby)) (pc + 1) L rest) : zz_W k (wM g (mst, msz, msv, mss, mby)) pc L (.int (nI v) :: .int (nI j) :: .ref (g.1 23) :: rest) := zz_zast 2 F hd rfl hj (by decide) hv (zz_wld (zm_set_saved g j v) kk)
theorem zm_get_sizes {k : ZK} {g : ZG} {cc : ByteArray} {nL fr lo pc : Nat} {msz : Nat} {mst msv mss mby : Nat → Nat} {L : ZL} {rest : List Value} (F : zz_F k g RX1 cc nL fr lo) (hd : decode cc pc = .ok (.getfield 17, 3)) (kk : zz_W k (wM g (mst, msz, msv, mss, mby)) (pc + 3) L (.ref (g.1 24) :: rest)) : zz_W k (wM g (mst, msz, msv, mss, mby)) pc L (.ref (g.1 20) :: rest) := by
  obtain ⟨p, l, e, R, s, m, args, below, meth, c, Q, A, D, nc, ns⟩ := k
  obtain ⟨hx, hb, hml, hown, hts, hK, hA, hnc, hns, hfr, hlo⟩ := F
  intro H locs ls hP hD hS hl
  exact va_get (D := D) (ci := 1) (v := .ref (g.1 24)) (C := RX1) (T := TX1) (N := 5) hx hb hts in_X1 hown hK hP 0 rfl rfl 3 (by decide) (hts _ q229) (fun _ h9 => h9) rfl hd (kk H locs ls hP hD hS hl)
theorem zm_ald_sizes {k : ZK} {g : ZG} {own : String} {cc : ByteArray} {nL fr lo pc : Nat} {msz : Nat} {mst msv mss mby : Nat → Nat} {L : ZL} {rest : List Value} {j : Nat} (F : zz_F k g own cc nL fr lo) (hd : decode cc pc = .ok (.iaload, 1)) (hj : j < 6) (kk : zz_W k (wM g (mst, msz, msv, mss, mby)) (pc + 1) L (.int (nI (mss j)) :: rest)) : zz_W k (wM g (mst, msz, msv, mss, mby)) pc L (.int (nI j) :: .ref (g.1 24) :: rest) := zz_ald 3 F hd rfl hj (by decide) kk
theorem zm_set_sizes (g : ZG) {msz : Nat} {mst msv mss mby : Nat → Nat} (j v : Nat) : (wM g (mst, msz, msv, mss, mby)).set 3 (g.1 24, .inl (g.2.1, 6, .inl (upd (fun q => nI (mss q)) j (nI v)))) = (wM g (mst, msz, msv, va_up mss j v, mby)) := by
  unfold wM
  simp only [List.set, up_fun]
theorem zm_ast_sizes {k : ZK} {g : ZG} {own : String} {cc : ByteArray} {nL fr lo pc : Nat} {msz : Nat} {mst msv mss mby : Nat → Nat} {L : ZL} {rest : List Value} {j v : Nat} (F : zz_F k g own cc nL fr lo) (hd : decode cc pc = .ok (.iastore, 1)) (hj : j < 6) (kk : zz_W k (wM g (mst, msz, msv, va_up mss j v, mby)) (pc + 1) L rest) : zz_W k (wM g (mst, msz, msv, mss, mby)) pc L (.int (nI v) :: .int (nI j) :: .ref (g.1 24) :: rest) := zz_ast 3 F hd rfl hj (by decide) (zz_wld (zm_set_sizes g j v) kk)
theorem zm_get_bytes {k : ZK} {g : ZG} {cc : ByteArray} {nL fr lo pc : Nat} {msz : Nat} {mst msv mss mby : Nat → Nat} {L : ZL} {rest : List Value} (F : zz_F k g RX1 cc nL fr lo) (hd : decode cc pc = .ok (.getfield 20, 3)) (kk : zz_W k (wM g (mst, msz, msv, mss, mby)) (pc + 3) L (.ref (g.1 25) :: rest)) : zz_W k (wM g (mst, msz, msv, mss, mby)) pc L (.ref (g.1 20) :: rest) := by
  obtain ⟨p, l, e, R, s, m, args, below, meth, c, Q, A, D, nc, ns⟩ := k
  obtain ⟨hx, hb, hml, hown, hts, hK, hA, hnc, hns, hfr, hlo⟩ := F
  intro H locs ls hP hD hS hl
  exact va_get (D := D) (ci := 1) (v := .ref (g.1 25)) (C := RX1) (T := TX1) (N := 5) hx hb hts in_X1 hown hK hP 0 rfl rfl 4 (by decide) (hts _ q230) (fun _ h9 => h9) rfl hd (kk H locs ls hP hD hS hl)
theorem zm_ald_bytes {k : ZK} {g : ZG} {own : String} {cc : ByteArray} {nL fr lo pc : Nat} {msz : Nat} {mst msv mss mby : Nat → Nat} {L : ZL} {rest : List Value} {j : Nat} (F : zz_F k g own cc nL fr lo) (hd : decode cc pc = .ok (.iaload, 1)) (hj : j < 576) (kk : zz_W k (wM g (mst, msz, msv, mss, mby)) (pc + 1) L (.int (nI (mby j)) :: rest)) : zz_W k (wM g (mst, msz, msv, mss, mby)) pc L (.int (nI j) :: .ref (g.1 25) :: rest) := zz_ald 4 F hd rfl hj (by decide) kk
theorem zm_set_bytes (g : ZG) {msz : Nat} {mst msv mss mby : Nat → Nat} (j v : Nat) : (wM g (mst, msz, msv, mss, mby)).set 4 (g.1 25, .inl (g.2.1, 576, .inl (upd (fun q => nI (mby q)) j (nI v)))) = (wM g (mst, msz, msv, mss, va_up mby j v)) := by
  unfold wM
  simp only [List.set, up_fun]
theorem zm_ast_bytes {k : ZK} {g : ZG} {own : String} {cc : ByteArray} {nL fr lo pc : Nat} {msz : Nat} {mst msv mss mby : Nat → Nat} {L : ZL} {rest : List Value} {j v : Nat} (F : zz_F k g own cc nL fr lo) (hd : decode cc pc = .ok (.iastore, 1)) (hj : j < 576) (kk : zz_W k (wM g (mst, msz, msv, mss, va_up mby j v)) (pc + 1) L rest) : zz_W k (wM g (mst, msz, msv, mss, mby)) pc L (.int (nI v) :: .int (nI j) :: .ref (g.1 25) :: rest) := zz_ast 4 F hd rfl hj (by decide) (zz_wld (zm_set_bytes g j v) kk)
end
section
set_option maxRecDepth 100000
/-! contracts over a world of one object, their start, their calls -/
def zz_Pc (D : va_G) (g : ZG) (ws : va_W) (sz : Nat) (av : List Value) : Array Value → State → Prop := va_Pc av (fun U => U.heap.size = sz ∧ va_P D vwCl ws U.heap ∧ va_K D vwCl [(g.2.1, .int), (g.2.2, .boolean)] U ∧ va_D (fun _ => True) ws)
def zz_B (D : va_G) (g : ZG) {S : Type} (w : S → va_W) (A : Nat → Prop) (st : S) (t : State) : Prop := va_P D vwCl (w st) t.heap ∧ va_K D vwCl [(g.2.1, .int), (g.2.2, .boolean)] t ∧ va_D A (w st)
/-- the contract of a method that answers an int (or boolean): from the world w st with arguments av it returns r in the world w st' with post r st' -/
def zz_Mi (l : Launch) (D : va_G) (g : ZG) {S : Type} (w : S → va_W) (y : MethodName) (cc : ByteArray) (nL fr lo : Nat) (rt : FieldType) (st : S) (av : List Value) (post : Int32 → S → Prop) : Prop :=
  ∀ sz : Nat, Met l y (ws_ y cc nL (some rt)) { frames := fr, cells := 0, slots := 0, locals := lo } (zz_Pc D g (w st) sz av) (va_Qi post (zz_B D g w (va_A (w st) sz)) (va_A (w st) sz)) 0 0 (va_A (w st) sz)
def zz_Mv (l : Launch) (D : va_G) (g : ZG) {S : Type} (w : S → va_W) (y : MethodName) (cc : ByteArray) (nL fr lo : Nat) (st : S) (av : List Value) (post : S → Prop) : Prop :=
  ∀ sz : Nat, Met l y (ws_ y cc nL none) { frames := fr, cells := 0, slots := 0, locals := lo } (zz_Pc D g (w st) sz av) (va_Qv post (zz_B D g w (va_A (w st) sz)) (va_A (w st) sz)) 0 0 (va_A (w st) sz)
theorem zz_enter_i {l : Launch} {D : va_G} {g : ZG} {S : Type} {w : S → va_W} {y : MethodName} {cc : ByteArray} {nL fr lo : Nat} {rt : FieldType} {st : S} {av : List Value} {post : Int32 → S → Prop} (own : String) (L0 : ZL) (r : Nat) (hy : plainName y.cls = true) (hc : y.cls = own) (hav : ∀ v ∈ av, v.category = 1) (hlen : (lg_sl av).length ≤ nL) (hL : L0 = av.map some ++ List.replicate r none)
    (body : ∀ k : ZK, zk_l k = l → zk_D k = D → zz_F k g own cc nL fr lo → (∀ (pc : Nat) (L : ZL) (st2 : S) (x : Int32), decode cc pc = .ok (.ireturn, 1) → narrow rt (.int x) = .int x → post x st2 → zz_W k (w st2) pc L [.int x]) → zz_W k (w st) 0 L0 []) : zz_Mi l D g w y cc nL fr lo rt st av post := by
  intro sz
  refine Met.ofW (cc := cc) (maxL := nL) (ret := some rt) hy rfl ?_
  intro p e s m args below meth c s₁ B hml hv
  obtain ⟨rfl, hsz, hP, hK, hD0⟩ := hv
  have hts := atoms_spec (ws := ws_ y cc nL (some rt)) B.pre
  have hts : ∀ w ∈ lw_all, w.before _ s = true := fun w h => hts w (List.mem_cons_of_mem _ h)
  have hown : s.vm.findClass own = some m.cls := by rw [← hc]; exact findClass_of_methodNamed B.named
  have hlocks := B.notSynchronized
  subst hsz
  have hD := hD0.self (sz := s.heap.size)
  have hl := zl_entry (r := r) hav hlen
  rw [← hL, ← hml] at hl
  rw [lg_entry_eq, ← hml]
  have key := body (p, l, e, { frames := fr, cells := 0, slots := 0, locals := lo }, s, m, av.toArray, below, meth, c, MQ below (va_Qi post (zz_B D g w (va_A (w st) s.heap.size)) (va_A (w st) s.heap.size)) av.toArray s 0 0 (va_A (w st) s.heap.size), va_A (w st) s.heap.size, D, 0, 0) rfl rfl ⟨B.exec, B.bytes, hml, hown, hts, hK, fun q h => Or.inr h, Nat.le_refl _, Nat.le_refl _, Nat.le_refl _, Nat.le_refl _⟩
    (fun pc L st2 x hd hn hp H locs ls hP hD hS _ => W.zret B.exec B.bytes B.returns hn (fun t ht hW => ⟨⟨x, st2, rfl, hp, by rw [ht]; exact hP, va_K.moved hW.alike hK, hD⟩, hS.F ht⟩) hS.2.2 hd)
  exact key s.heap [] _ hP hD va_S.rf hl
theorem zz_enter_v {l : Launch} {D : va_G} {g : ZG} {S : Type} {w : S → va_W} {y : MethodName} {cc : ByteArray} {nL fr lo : Nat} {st : S} {av : List Value} {post : S → Prop} (own : String) (L0 : ZL) (r : Nat) (hy : plainName y.cls = true) (hc : y.cls = own) (hav : ∀ v ∈ av, v.category = 1) (hlen : (lg_sl av).length ≤ nL) (hL : L0 = av.map some ++ List.replicate r none)
    (body : ∀ k : ZK, zk_l k = l → zk_D k = D → zz_F k g own cc nL fr lo → (∀ (pc : Nat) (L : ZL) (st2 : S), decode cc pc = .ok (.return_, 1) → post st2 → zz_W k (w st2) pc L []) → zz_W k (w st) 0 L0 []) : zz_Mv l D g w y cc nL fr lo st av post := by
  intro sz
  refine Met.ofW (cc := cc) (maxL := nL) (ret := none) hy rfl ?_
  intro p e s m args below meth c s₁ B hml hv
  obtain ⟨rfl, hsz, hP, hK, hD0⟩ := hv
  have hts := atoms_spec (ws := ws_ y cc nL none) B.pre
  have hts : ∀ w ∈ lw_all, w.before _ s = true := fun w h => hts w (List.mem_cons_of_mem _ h)
  have hown : s.vm.findClass own = some m.cls := by rw [← hc]; exact findClass_of_methodNamed B.named
  have hlocks := B.notSynchronized
  subst hsz
  have hD := hD0.self (sz := s.heap.size)
  have hl := zl_entry (r := r) hav hlen
  rw [← hL, ← hml] at hl
  rw [lg_entry_eq, ← hml]
  have key := body (p, l, e, { frames := fr, cells := 0, slots := 0, locals := lo }, s, m, av.toArray, below, meth, c, MQ below (va_Qv post (zz_B D g w (va_A (w st) s.heap.size)) (va_A (w st) s.heap.size)) av.toArray s 0 0 (va_A (w st) s.heap.size), va_A (w st) s.heap.size, D, 0, 0) rfl rfl ⟨B.exec, B.bytes, hml, hown, hts, hK, fun q h => Or.inr h, Nat.le_refl _, Nat.le_refl _, Nat.le_refl _, Nat.le_refl _⟩
    (fun pc L st2 hd hp H locs ls hP hD hS _ => W.vret B.exec B.bytes B.returns (fun t ht hW => ⟨⟨st2, rfl, hp, by rw [ht]; exact hP, va_K.moved hW.alike hK, hD⟩, hS.F ht⟩) hS.2.2 hd)
  exact key s.heap [] _ hP hD va_S.rf hl
theorem zz_blind {D : va_G} {g : ZG} {ws : va_W} {sz : Nat} {av : List Value} : FrameBlind (zz_Pc D g ws sz av) := fun a U gg mk q => by
  obtain ⟨q0, q1, qP, qK, qD⟩ := q
  exact ⟨q0, q1, qP, va_K.moved (u := U) (U := U.calling gg mk a) (Vm.Alike.refl U.vm) qK, qD⟩

theorem zz_callVi {k : ZK} {g : ZG} {own : String} {cc : ByteArray} {nL fr lo pc : Nat} {L : ZL} {rest stk : List Value} {S : Type} {w : S → va_W} {st : S} {y : MethodName} {bytes : ByteArray} {maxL fr2 lo2 idx nA b ci : Nat} {As : List Value} {C : String} {qc : vw_C} {fs : List Value} {rt : FieldType} {post : Int32 → S → Prop} (F : zz_F k g own cc nL fr lo) (hM : zz_Mi (zk_l k) (zk_D k) g w y bytes maxL fr2 lo2 rt st (.ref b :: As) post) (hG : GoodIn lw_all (wsV own idx C y (ws_ y bytes maxL (some rt))))
    (hy : y.cls = C ∧ y.cls ≠ "java/lang/invoke/MethodHandle" ∧ y.cls ≠ "java/lang/invoke/VarHandle" ∧ (parseMethodDescriptor y.desc).map (fun d => d.parameters.length) = some nA) (hnA : As.length = nA) (hcl : vwCl[ci]? = some qc) (hqc : qc.1 = C) (h0 : (w st)[0]? = some (b, .inr (ci, fs))) (hst : stk = As.reverse ++ .ref b :: rest) (hrest : (rest.map fun v => v.category).sum ≤ 8) (hR : fr2 + 1 ≤ fr ∧ 8 + (maxL + 11) + lo2 ≤ lo) (hd : decode cc pc = .ok (.invokevirtual idx, 3))
    (kk : ∀ (x : Int32) (st2 : S), post x st2 → zz_W k (w st2) (pc + 3) L (.int x :: rest)) : zz_W k (w st) pc L stk := by
  obtain ⟨p, l, e, R, s, m, args, below, meth, c, Q, A, D, nc, ns⟩ := k
  obtain ⟨hx, hb, hml, hown, hts, hK, hA, hnc, hns, hfr, hlo⟩ := F
  intro H locs ls hP hD hS hl
  have hFc : ∀ q, va_A (w st) H.size q → A q := fun q h => by
    rcases h with ⟨kq, e, h⟩ | h
    · exact hD.2 kq (q, e) h
    · exact hA q (Nat.le_trans hS.1 h)
  refine va_calli (va_runV (C := C) (b := b) (As := As) (rest := rest) (n := nA) ⟨hx, hb, rfl, hown, hts⟩ (hM H.size) (cwV nA hts hG rfl rfl rfl hy ⟨Nat.le_trans hR.1 hfr, Nat.le_trans hR.2 hlo⟩) ⟨zz_blind, hqc ▸ va_recv hK hP (ci := ci) (q0 := 0) hcl h0, fun U hU hW => ⟨rfl, by rw [hU], by rw [hU]; exact hP, va_K.moved hW.alike hK, hD.weaken (fun _ _ _ _ => trivial)⟩⟩ rfl hnA hl.1 hst (lv_room hrest) hd ⟨hnc, hns⟩) hS (fun q _ h => hFc q h) hFc (fun x u t H1 locs1 ht hvm hp hB hz1 hk1 hS1 => ?_)
  obtain ⟨hP1, hK1, hD1⟩ := hB
  rw [ht] at hP1
  exact kk x u hp H1 locs1 ls hP1 (hD1.weaken (fun _ q _ h => hFc q.1 h)) hS1 hl
theorem zz_callVv {k : ZK} {g : ZG} {own : String} {cc : ByteArray} {nL fr lo pc : Nat} {L : ZL} {rest stk : List Value} {S : Type} {w : S → va_W} {st : S} {y : MethodName} {bytes : ByteArray} {maxL fr2 lo2 idx nA b ci : Nat} {As : List Value} {C : String} {qc : vw_C} {fs : List Value} {post : S → Prop} (F : zz_F k g own cc nL fr lo) (hM : zz_Mv (zk_l k) (zk_D k) g w y bytes maxL fr2 lo2 st (.ref b :: As) post) (hG : GoodIn lw_all (wsV own idx C y (ws_ y bytes maxL none)))
    (hy : y.cls = C ∧ y.cls ≠ "java/lang/invoke/MethodHandle" ∧ y.cls ≠ "java/lang/invoke/VarHandle" ∧ (parseMethodDescriptor y.desc).map (fun d => d.parameters.length) = some nA) (hnA : As.length = nA) (hcl : vwCl[ci]? = some qc) (hqc : qc.1 = C) (h0 : (w st)[0]? = some (b, .inr (ci, fs))) (hst : stk = As.reverse ++ .ref b :: rest) (hrest : (rest.map fun v => v.category).sum ≤ 8) (hR : fr2 + 1 ≤ fr ∧ 8 + (maxL + 11) + lo2 ≤ lo) (hd : decode cc pc = .ok (.invokevirtual idx, 3))
    (kk : ∀ (st2 : S), post st2 → zz_W k (w st2) (pc + 3) L (rest)) : zz_W k (w st) pc L stk := by
  obtain ⟨p, l, e, R, s, m, args, below, meth, c, Q, A, D, nc, ns⟩ := k
  obtain ⟨hx, hb, hml, hown, hts, hK, hA, hnc, hns, hfr, hlo⟩ := F
  intro H locs ls hP hD hS hl
  have hFc : ∀ q, va_A (w st) H.size q → A q := fun q h => by
    rcases h with ⟨kq, e, h⟩ | h
    · exact hD.2 kq (q, e) h
    · exact hA q (Nat.le_trans hS.1 h)
  refine va_callv (va_runV (C := C) (b := b) (As := As) (rest := rest) (n := nA) ⟨hx, hb, rfl, hown, hts⟩ (hM H.size) (cwV nA hts hG rfl rfl rfl hy ⟨Nat.le_trans hR.1 hfr, Nat.le_trans hR.2 hlo⟩) ⟨zz_blind, hqc ▸ va_recv hK hP (ci := ci) (q0 := 0) hcl h0, fun U hU hW => ⟨rfl, by rw [hU], by rw [hU]; exact hP, va_K.moved hW.alike hK, hD.weaken (fun _ _ _ _ => trivial)⟩⟩ rfl hnA hl.1 hst (lv_room hrest) hd ⟨hnc, hns⟩) hS (fun q _ h => hFc q h) hFc (fun u t H1 locs1 ht hvm hp hB hz1 hk1 hS1 => ?_)
  obtain ⟨hP1, hK1, hD1⟩ := hB
  rw [ht] at hP1
  exact kk u hp H1 locs1 ls hP1 (hD1.weaken (fun _ q _ h => hFc q.1 h)) hS1 hl
theorem zz_callSi {k : ZK} {g : ZG} {own : String} {cc : ByteArray} {nL fr lo pc : Nat} {L : ZL} {rest stk : List Value} {S : Type} {w : S → va_W} {st : S} {y : MethodName} {bytes : ByteArray} {maxL fr2 lo2 idx nA : Nat} {As : List Value} {rt : FieldType} {post : Int32 → S → Prop} (F : zz_F k g own cc nL fr lo) (hM : zz_Mi (zk_l k) (zk_D k) g w y bytes maxL fr2 lo2 rt st As post) (hG : GoodIn lw_all (va_wsS own idx y (ws_ y bytes maxL (some rt))))
    (hy : y.cls ≠ "java/lang/invoke/MethodHandle" ∧ y.cls ≠ "java/lang/invoke/VarHandle" ∧ (parseMethodDescriptor y.desc).map (fun d => d.parameters.length) = some nA) (hnA : As.length = nA) (hst : stk = As.reverse ++ rest) (hrest : (rest.map fun v => v.category).sum ≤ 8) (hR : fr2 + 1 ≤ fr ∧ 8 + (maxL + 11) + lo2 ≤ lo) (hd : decode cc pc = .ok (.invokestatic idx, 3))
    (kk : ∀ (x : Int32) (st2 : S), post x st2 → zz_W k (w st2) (pc + 3) L (.int x :: rest)) : zz_W k (w st) pc L stk := by
  obtain ⟨p, l, e, R, s, m, args, below, meth, c, Q, A, D, nc, ns⟩ := k
  obtain ⟨hx, hb, hml, hown, hts, hK, hA, hnc, hns, hfr, hlo⟩ := F
  intro H locs ls hP hD hS hl
  have hFc : ∀ q, va_A (w st) H.size q → A q := fun q h => by
    rcases h with ⟨kq, e, h⟩ | h
    · exact hD.2 kq (q, e) h
    · exact hA q (Nat.le_trans hS.1 h)
  refine va_calli (va_runS (As := As) (rest := rest) (n := nA) ⟨hx, hb, rfl, hown, hts⟩ (hM H.size) (va_cwS nA hts hG rfl rfl rfl hy ⟨Nat.le_trans hR.1 hfr, Nat.le_trans hR.2 hlo⟩) ⟨zz_blind, fun U hU hW => ⟨rfl, by rw [hU], by rw [hU]; exact hP, va_K.moved hW.alike hK, hD.weaken (fun _ _ _ _ => trivial)⟩⟩ rfl hnA hl.1 hst (lv_room hrest) hd ⟨hnc, hns⟩) hS (fun q _ h => hFc q h) hFc (fun x u t H1 locs1 ht hvm hp hB hz1 hk1 hS1 => ?_)
  obtain ⟨hP1, hK1, hD1⟩ := hB
  rw [ht] at hP1
  exact kk x u hp H1 locs1 ls hP1 (hD1.weaken (fun _ q _ h => hFc q.1 h)) hS1 hl
theorem zx_gw_feed : GoodIn lw_all (wsV RX0 66 RX0 yX0_feed (ws_ yX0_feed cX0_feed 2 (some .int))) := lw_V q100 q93 q94 q18 q95
theorem zx_call_feed {k : ZK} {g : ZG} {cc : ByteArray} {nL fr lo pc fr2 lo2 : Nat} {L : ZL} {rest : List Value} {st : XT} {p1 : Int32} {post : Int32 → XT → Prop} (F : zz_F k g RX0 cc nL fr lo) (hd : decode cc pc = .ok (.invokevirtual 66, 3)) (hM : zz_Mi (zk_l k) (zk_D k) g (wX g) yX0_feed cX0_feed 2 fr2 lo2 .int st [.ref (g.1 0), .int p1] post) (hR : fr2 + 1 ≤ fr ∧ 8 + (2 + 11) + lo2 ≤ lo) (hrest : (rest.map fun v => v.category).sum ≤ 8) (kk : ∀ (x : Int32) (st2 : XT), post x st2 → zz_W k (wX g st2) (pc + 3) L (.int x :: rest)) : zz_W k (wX g st) pc L (.int p1 :: .ref (g.1 0) :: rest) := zz_callVi (ci := 0) (nA := 1) F hM zx_gw_feed (by decide +kernel) rfl rfl rfl rfl rfl hrest hR hd kk
theorem zx_gw_length : GoodIn lw_all (wsV RX0 70 RX0 yX0_length (ws_ yX0_length cX0_length 4 (some .int))) := lw_V q105 q106 q107 q18 q108
theorem zx_call_length {k : ZK} {g : ZG} {cc : ByteArray} {nL fr lo pc fr2 lo2 : Nat} {L : ZL} {rest : List Value} {st : XT} {p1 : Int32} {post : Int32 → XT → Prop} (F : zz_F k g RX0 cc nL fr lo) (hd : decode cc pc = .ok (.invokevirtual 70, 3)) (hM : zz_Mi (zk_l k) (zk_D k) g (wX g) yX0_length cX0_length 4 fr2 lo2 .int st [.ref (g.1 0), .int p1] post) (hR : fr2 + 1 ≤ fr ∧ 8 + (4 + 11) + lo2 ≤ lo) (hrest : (rest.map fun v => v.category).sum ≤ 8) (kk : ∀ (x : Int32) (st2 : XT), post x st2 → zz_W k (wX g st2) (pc + 3) L (.int x :: rest)) : zz_W k (wX g st) pc L (.int p1 :: .ref (g.1 0) :: rest) := zz_callVi (ci := 0) (nA := 1) F hM zx_gw_length (by decide +kernel) rfl rfl rfl rfl rfl hrest hR hd kk
theorem zx_gw_badSlot : GoodIn lw_all (va_wsS RX0 77 yX0_badSlot (ws_ yX0_badSlot cX0_badSlot 1 (some .boolean))) := lw_S q109 q110 q18 q111
theorem zx_call_badSlot {k : ZK} {g : ZG} {cc : ByteArray} {nL fr lo pc fr2 lo2 : Nat} {L : ZL} {rest : List Value} {st : XT} {p1 : Int32} {post : Int32 → XT → Prop} (F : zz_F k g RX0 cc nL fr lo) (hd : decode cc pc = .ok (.invokestatic 77, 3)) (hM : zz_Mi (zk_l k) (zk_D k) g (wX g) yX0_badSlot cX0_badSlot 1 fr2 lo2 .boolean st [.int p1] post) (hR : fr2 + 1 ≤ fr ∧ 8 + (1 + 11) + lo2 ≤ lo) (hrest : (rest.map fun v => v.category).sum ≤ 8) (kk : ∀ (x : Int32) (st2 : XT), post x st2 → zz_W k (wX g st2) (pc + 3) L (.int x :: rest)) : zz_W k (wX g st) pc L (.int p1 :: rest) := zz_callSi (nA := 1) F hM zx_gw_badSlot (by decide +kernel) rfl rfl hrest hR hd kk
theorem zx_gw_restored : GoodIn lw_all (wsV RX0 73 RX0 yX0_restored (ws_ yX0_restored cX0_restored 6 (some .int))) := lw_V q112 q114 qs0 q18 q115
theorem zx_call_restored {k : ZK} {g : ZG} {cc : ByteArray} {nL fr lo pc fr2 lo2 : Nat} {L : ZL} {rest : List Value} {st : XT} {p1 p2 : Int32} {post : Int32 → XT → Prop} (F : zz_F k g RX0 cc nL fr lo) (hd : decode cc pc = .ok (.invokevirtual 73, 3)) (hM : zz_Mi (zk_l k) (zk_D k) g (wX g) yX0_restored cX0_restored 6 fr2 lo2 .int st [.ref (g.1 0), .int p1, .int p2] post) (hR : fr2 + 1 ≤ fr ∧ 8 + (6 + 11) + lo2 ≤ lo) (hrest : (rest.map fun v => v.category).sum ≤ 8) (kk : ∀ (x : Int32) (st2 : XT), post x st2 → zz_W k (wX g st2) (pc + 3) L (.int x :: rest)) : zz_W k (wX g st) pc L (.int p2 :: .int p1 :: .ref (g.1 0) :: rest) := zz_callVi (ci := 0) (nA := 2) F hM zx_gw_restored (by decide +kernel) rfl rfl rfl rfl rfl hrest hR hd kk
theorem zx_gw_writeOut : GoodIn lw_all (wsV RX0 103 RX0 yX0_writeOut (ws_ yX0_writeOut cX0_writeOut 5 none)) := lw_V q116 q118 qs1 q18 q119
theorem zx_call_writeOut {k : ZK} {g : ZG} {cc : ByteArray} {nL fr lo pc fr2 lo2 : Nat} {L : ZL} {rest : List Value} {st : XT} {p1 : Int32} {post : XT → Prop} (F : zz_F k g RX0 cc nL fr lo) (hd : decode cc pc = .ok (.invokevirtual 103, 3)) (hM : zz_Mv (zk_l k) (zk_D k) g (wX g) yX0_writeOut cX0_writeOut 5 fr2 lo2 st [.ref (g.1 0), .int p1] post) (hR : fr2 + 1 ≤ fr ∧ 8 + (5 + 11) + lo2 ≤ lo) (hrest : (rest.map fun v => v.category).sum ≤ 8) (kk : ∀ (st2 : XT), post st2 → zz_W k (wX g st2) (pc + 3) L rest) : zz_W k (wX g st) pc L (.int p1 :: .ref (g.1 0) :: rest) := zz_callVv (ci := 0) (nA := 1) F hM zx_gw_writeOut (by decide +kernel) rfl rfl rfl rfl rfl hrest hR hd kk
theorem zx_gw_runProgram : GoodIn lw_all (wsV RX0 126 RX0 yX0_runProgram (ws_ yX0_runProgram cX0_runProgram 5 none)) := lw_V q120 q122 qs2 q18 q123
theorem zx_call_runProgram {k : ZK} {g : ZG} {cc : ByteArray} {nL fr lo pc fr2 lo2 : Nat} {L : ZL} {rest : List Value} {st : XT} {p1 : Int32} {post : XT → Prop} (F : zz_F k g RX0 cc nL fr lo) (hd : decode cc pc = .ok (.invokevirtual 126, 3)) (hM : zz_Mv (zk_l k) (zk_D k) g (wX g) yX0_runProgram cX0_runProgram 5 fr2 lo2 st [.ref (g.1 0), .int p1] post) (hR : fr2 + 1 ≤ fr ∧ 8 + (5 + 11) + lo2 ≤ lo) (hrest : (rest.map fun v => v.category).sum ≤ 8) (kk : ∀ (st2 : XT), post st2 → zz_W k (wX g st2) (pc + 3) L rest) : zz_W k (wX g st) pc L (.int p1 :: .ref (g.1 0) :: rest) := zz_callVv (ci := 0) (nA := 1) F hM zx_gw_runProgram (by decide +kernel) rfl rfl rfl rfl rfl hrest hR hd kk
theorem zx_gw_copyBytes : GoodIn lw_all (wsV RX0 129 RX0 yX0_copyBytes (ws_ yX0_copyBytes cX0_copyBytes 6 (some .int))) := lw_V q124 q126 qs3 q18 q127
theorem zx_call_copyBytes {k : ZK} {g : ZG} {cc : ByteArray} {nL fr lo pc fr2 lo2 : Nat} {L : ZL} {rest : List Value} {st : XT} {p1 p2 p3 : Int32} {post : Int32 → XT → Prop} (F : zz_F k g RX0 cc nL fr lo) (hd : decode cc pc = .ok (.invokevirtual 129, 3)) (hM : zz_Mi (zk_l k) (zk_D k) g (wX g) yX0_copyBytes cX0_copyBytes 6 fr2 lo2 .int st [.ref (g.1 0), .int p1, .int p2, .int p3] post) (hR : fr2 + 1 ≤ fr ∧ 8 + (6 + 11) + lo2 ≤ lo) (hrest : (rest.map fun v => v.category).sum ≤ 8) (kk : ∀ (x : Int32) (st2 : XT), post x st2 → zz_W k (wX g st2) (pc + 3) L (.int x :: rest)) : zz_W k (wX g st) pc L (.int p3 :: .int p2 :: .int p1 :: .ref (g.1 0) :: rest) := zz_callVi (ci := 0) (nA := 3) F hM zx_gw_copyBytes (by decide +kernel) rfl rfl rfl rfl rfl hrest hR hd kk
theorem zx_gw_boundary : GoodIn lw_all (wsV RX0 81 RX0 yX0_boundary (ws_ yX0_boundary cX0_boundary 5 (some .boolean))) := lw_V q144 q146 qs4 q18 q147
theorem zx_call_boundary {k : ZK} {g : ZG} {cc : ByteArray} {nL fr lo pc fr2 lo2 : Nat} {L : ZL} {rest : List Value} {st : XT} {p1 p2 : Int32} {post : Int32 → XT → Prop} (F : zz_F k g RX0 cc nL fr lo) (hd : decode cc pc = .ok (.invokevirtual 81, 3)) (hM : zz_Mi (zk_l k) (zk_D k) g (wX g) yX0_boundary cX0_boundary 5 fr2 lo2 .boolean st [.ref (g.1 0), .int p1, .int p2] post) (hR : fr2 + 1 ≤ fr ∧ 8 + (5 + 11) + lo2 ≤ lo) (hrest : (rest.map fun v => v.category).sum ≤ 8) (kk : ∀ (x : Int32) (st2 : XT), post x st2 → zz_W k (wX g st2) (pc + 3) L (.int x :: rest)) : zz_W k (wX g st) pc L (.int p2 :: .int p1 :: .ref (g.1 0) :: rest) := zz_callVi (ci := 0) (nA := 2) F hM zx_gw_boundary (by decide +kernel) rfl rfl rfl rfl rfl hrest hR hd kk
theorem zx_gw_keepChunk : GoodIn lw_all (wsV RX0 85 RX0 yX0_keepChunk (ws_ yX0_keepChunk cX0_keepChunk 9 (some .int))) := lw_V q148 q150 qs5 q18 q151
theorem zx_call_keepChunk {k : ZK} {g : ZG} {cc : ByteArray} {nL fr lo pc fr2 lo2 : Nat} {L : ZL} {rest : List Value} {st : XT} {p1 p2 : Int32} {post : Int32 → XT → Prop} (F : zz_F k g RX0 cc nL fr lo) (hd : decode cc pc = .ok (.invokevirtual 85, 3)) (hM : zz_Mi (zk_l k) (zk_D k) g (wX g) yX0_keepChunk cX0_keepChunk 9 fr2 lo2 .int st [.ref (g.1 0), .int p1, .int p2] post) (hR : fr2 + 1 ≤ fr ∧ 8 + (9 + 11) + lo2 ≤ lo) (hrest : (rest.map fun v => v.category).sum ≤ 8) (kk : ∀ (x : Int32) (st2 : XT), post x st2 → zz_W k (wX g st2) (pc + 3) L (.int x :: rest)) : zz_W k (wX g st) pc L (.int p2 :: .int p1 :: .ref (g.1 0) :: rest) := zz_callVi (ci := 0) (nA := 2) F hM zx_gw_keepChunk (by decide +kernel) rfl rfl rfl rfl rfl hrest hR hd kk
theorem zx_gw_findEqual : GoodIn lw_all (wsV RX0 88 RX0 yX0_findEqual (ws_ yX0_findEqual cX0_findEqual 4 (some .int))) := lw_V q152 q154 qs6 q18 q155
theorem zx_call_findEqual {k : ZK} {g : ZG} {cc : ByteArray} {nL fr lo pc fr2 lo2 : Nat} {L : ZL} {rest : List Value} {st : XT} {p1 p2 : Int32} {post : Int32 → XT → Prop} (F : zz_F k g RX0 cc nL fr lo) (hd : decode cc pc = .ok (.invokevirtual 88, 3)) (hM : zz_Mi (zk_l k) (zk_D k) g (wX g) yX0_findEqual cX0_findEqual 4 fr2 lo2 .int st [.ref (g.1 0), .int p1, .int p2] post) (hR : fr2 + 1 ≤ fr ∧ 8 + (4 + 11) + lo2 ≤ lo) (hrest : (rest.map fun v => v.category).sum ≤ 8) (kk : ∀ (x : Int32) (st2 : XT), post x st2 → zz_W k (wX g st2) (pc + 3) L (.int x :: rest)) : zz_W k (wX g st) pc L (.int p2 :: .int p1 :: .ref (g.1 0) :: rest) := zz_callVi (ci := 0) (nA := 2) F hM zx_gw_findEqual (by decide +kernel) rfl rfl rfl rfl rfl hrest hR hd kk
theorem zx_gw_outIsFresh : GoodIn lw_all (wsV RX0 107 RX0 yX0_outIsFresh (ws_ yX0_outIsFresh cX0_outIsFresh 3 (some .boolean))) := lw_V q156 q158 qs7 q18 q159
theorem zx_call_outIsFresh {k : ZK} {g : ZG} {cc : ByteArray} {nL fr lo pc fr2 lo2 : Nat} {L : ZL} {rest : List Value} {st : XT} {p1 : Int32} {post : Int32 → XT → Prop} (F : zz_F k g RX0 cc nL fr lo) (hd : decode cc pc = .ok (.invokevirtual 107, 3)) (hM : zz_Mi (zk_l k) (zk_D k) g (wX g) yX0_outIsFresh cX0_outIsFresh 3 fr2 lo2 .boolean st [.ref (g.1 0), .int p1] post) (hR : fr2 + 1 ≤ fr ∧ 8 + (3 + 11) + lo2 ≤ lo) (hrest : (rest.map fun v => v.category).sum ≤ 8) (kk : ∀ (x : Int32) (st2 : XT), post x st2 → zz_W k (wX g st2) (pc + 3) L (.int x :: rest)) : zz_W k (wX g st) pc L (.int p1 :: .ref (g.1 0) :: rest) := zz_callVi (ci := 0) (nA := 1) F hM zx_gw_outIsFresh (by decide +kernel) rfl rfl rfl rfl rfl hrest hR hd kk
theorem zx_gw_leastWindow : GoodIn lw_all (wsV RX0 92 RX0 yX0_leastWindow (ws_ yX0_leastWindow cX0_leastWindow 9 (some .int))) := lw_V q161 q163 qs8 q18 q164
theorem zx_call_leastWindow {k : ZK} {g : ZG} {cc : ByteArray} {nL fr lo pc fr2 lo2 : Nat} {L : ZL} {rest : List Value} {st : XT} {p1 p2 p3 : Int32} {post : Int32 → XT → Prop} (F : zz_F k g RX0 cc nL fr lo) (hd : decode cc pc = .ok (.invokevirtual 92, 3)) (hM : zz_Mi (zk_l k) (zk_D k) g (wX g) yX0_leastWindow cX0_leastWindow 9 fr2 lo2 .int st [.ref (g.1 0), .int p1, .int p2, .int p3] post) (hR : fr2 + 1 ≤ fr ∧ 8 + (9 + 11) + lo2 ≤ lo) (hrest : (rest.map fun v => v.category).sum ≤ 8) (kk : ∀ (x : Int32) (st2 : XT), post x st2 → zz_W k (wX g st2) (pc + 3) L (.int x :: rest)) : zz_W k (wX g st) pc L (.int p3 :: .int p2 :: .int p1 :: .ref (g.1 0) :: rest) := zz_callVi (ci := 0) (nA := 3) F hM zx_gw_leastWindow (by decide +kernel) rfl rfl rfl rfl rfl hrest hR hd kk
theorem zx_gw_findSimilar : GoodIn lw_all (wsV RX0 96 RX0 yX0_findSimilar (ws_ yX0_findSimilar cX0_findSimilar 6 (some .int))) := lw_V q167 q169 qs9 q18 q170
theorem zx_call_findSimilar {k : ZK} {g : ZG} {cc : ByteArray} {nL fr lo pc fr2 lo2 : Nat} {L : ZL} {rest : List Value} {st : XT} {p1 p2 p3 : Int32} {post : Int32 → XT → Prop} (F : zz_F k g RX0 cc nL fr lo) (hd : decode cc pc = .ok (.invokevirtual 96, 3)) (hM : zz_Mi (zk_l k) (zk_D k) g (wX g) yX0_findSimilar cX0_findSimilar 6 fr2 lo2 .int st [.ref (g.1 0), .int p1, .int p2, .int p3] post) (hR : fr2 + 1 ≤ fr ∧ 8 + (6 + 11) + lo2 ≤ lo) (hrest : (rest.map fun v => v.category).sum ≤ 8) (kk : ∀ (x : Int32) (st2 : XT), post x st2 → zz_W k (wX g st2) (pc + 3) L (.int x :: rest)) : zz_W k (wX g st) pc L (.int p3 :: .int p2 :: .int p1 :: .ref (g.1 0) :: rest) := zz_callVi (ci := 0) (nA := 3) F hM zx_gw_findSimilar (by decide +kernel) rfl rfl rfl rfl rfl hrest hR hd kk
theorem zx_gw_basesBelow : GoodIn lw_all (wsV RX0 112 RX0 yX0_basesBelow (ws_ yX0_basesBelow cX0_basesBelow 4 (some .int))) := lw_V q171 q173 qs10 q18 q174
theorem zx_call_basesBelow {k : ZK} {g : ZG} {cc : ByteArray} {nL fr lo pc fr2 lo2 : Nat} {L : ZL} {rest : List Value} {st : XT} {p1 : Int32} {post : Int32 → XT → Prop} (F : zz_F k g RX0 cc nL fr lo) (hd : decode cc pc = .ok (.invokevirtual 112, 3)) (hM : zz_Mi (zk_l k) (zk_D k) g (wX g) yX0_basesBelow cX0_basesBelow 4 fr2 lo2 .int st [.ref (g.1 0), .int p1] post) (hR : fr2 + 1 ≤ fr ∧ 8 + (4 + 11) + lo2 ≤ lo) (hrest : (rest.map fun v => v.category).sum ≤ 8) (kk : ∀ (x : Int32) (st2 : XT), post x st2 → zz_W k (wX g st2) (pc + 3) L (.int x :: rest)) : zz_W k (wX g st) pc L (.int p1 :: .ref (g.1 0) :: rest) := zz_callVi (ci := 0) (nA := 1) F hM zx_gw_basesBelow (by decide +kernel) rfl rfl rfl rfl rfl hrest hR hd kk
theorem zx_gw_storeAgainst : GoodIn lw_all (wsV RX0 99 RX0 yX0_storeAgainst (ws_ yX0_storeAgainst cX0_storeAgainst 5 none)) := lw_V q175 q177 qs11 q18 q178
theorem zx_call_storeAgainst {k : ZK} {g : ZG} {cc : ByteArray} {nL fr lo pc fr2 lo2 : Nat} {L : ZL} {rest : List Value} {st : XT} {p1 p2 p3 : Int32} {post : XT → Prop} (F : zz_F k g RX0 cc nL fr lo) (hd : decode cc pc = .ok (.invokevirtual 99, 3)) (hM : zz_Mv (zk_l k) (zk_D k) g (wX g) yX0_storeAgainst cX0_storeAgainst 5 fr2 lo2 st [.ref (g.1 0), .int p1, .int p2, .int p3] post) (hR : fr2 + 1 ≤ fr ∧ 8 + (5 + 11) + lo2 ≤ lo) (hrest : (rest.map fun v => v.category).sum ≤ 8) (kk : ∀ (st2 : XT), post st2 → zz_W k (wX g st2) (pc + 3) L rest) : zz_W k (wX g st) pc L (.int p3 :: .int p2 :: .int p1 :: .ref (g.1 0) :: rest) := zz_callVv (ci := 0) (nA := 3) F hM zx_gw_storeAgainst (by decide +kernel) rfl rfl rfl rfl rfl hrest hR hd kk
theorem zx_gw_makeProgram : GoodIn lw_all (wsV RX0 115 RX0 yX0_makeProgram (ws_ yX0_makeProgram cX0_makeProgram 8 none)) := lw_V q179 q181 qs12 q18 q182
theorem zx_call_makeProgram {k : ZK} {g : ZG} {cc : ByteArray} {nL fr lo pc fr2 lo2 : Nat} {L : ZL} {rest : List Value} {st : XT} {p1 p2 : Int32} {post : XT → Prop} (F : zz_F k g RX0 cc nL fr lo) (hd : decode cc pc = .ok (.invokevirtual 115, 3)) (hM : zz_Mv (zk_l k) (zk_D k) g (wX g) yX0_makeProgram cX0_makeProgram 8 fr2 lo2 st [.ref (g.1 0), .int p1, .int p2] post) (hR : fr2 + 1 ≤ fr ∧ 8 + (8 + 11) + lo2 ≤ lo) (hrest : (rest.map fun v => v.category).sum ≤ 8) (kk : ∀ (st2 : XT), post st2 → zz_W k (wX g st2) (pc + 3) L rest) : zz_W k (wX g st) pc L (.int p2 :: .int p1 :: .ref (g.1 0) :: rest) := zz_callVv (ci := 0) (nA := 2) F hM zx_gw_makeProgram (by decide +kernel) rfl rfl rfl rfl rfl hrest hR hd kk
theorem zx_gw_matchLength : GoodIn lw_all (wsV RX0 122 RX0 yX0_matchLength (ws_ yX0_matchLength cX0_matchLength 6 (some .int))) := lw_V q183 q185 qs13 q18 q186
theorem zx_call_matchLength {k : ZK} {g : ZG} {cc : ByteArray} {nL fr lo pc fr2 lo2 : Nat} {L : ZL} {rest : List Value} {st : XT} {p1 p2 p3 p4 : Int32} {post : Int32 → XT → Prop} (F : zz_F k g RX0 cc nL fr lo) (hd : decode cc pc = .ok (.invokevirtual 122, 3)) (hM : zz_Mi (zk_l k) (zk_D k) g (wX g) yX0_matchLength cX0_matchLength 6 fr2 lo2 .int st [.ref (g.1 0), .int p1, .int p2, .int p3, .int p4] post) (hR : fr2 + 1 ≤ fr ∧ 8 + (6 + 11) + lo2 ≤ lo) (hrest : (rest.map fun v => v.category).sum ≤ 8) (kk : ∀ (x : Int32) (st2 : XT), post x st2 → zz_W k (wX g st2) (pc + 3) L (.int x :: rest)) : zz_W k (wX g st) pc L (.int p4 :: .int p3 :: .int p2 :: .int p1 :: .ref (g.1 0) :: rest) := zz_callVi (ci := 0) (nA := 4) F hM zx_gw_matchLength (by decide +kernel) rfl rfl rfl rfl rfl hrest hR hd kk
theorem zx_gw_release : GoodIn lw_all (wsV RX0 132 RX0 yX0_release (ws_ yX0_release cX0_release 3 none)) := lw_V q191 q193 qs14 q18 q194
theorem zx_call_release {k : ZK} {g : ZG} {cc : ByteArray} {nL fr lo pc fr2 lo2 : Nat} {L : ZL} {rest : List Value} {st : XT} {p1 : Int32} {post : XT → Prop} (F : zz_F k g RX0 cc nL fr lo) (hd : decode cc pc = .ok (.invokevirtual 132, 3)) (hM : zz_Mv (zk_l k) (zk_D k) g (wX g) yX0_release cX0_release 3 fr2 lo2 st [.ref (g.1 0), .int p1] post) (hR : fr2 + 1 ≤ fr ∧ 8 + (3 + 11) + lo2 ≤ lo) (hrest : (rest.map fun v => v.category).sum ≤ 8) (kk : ∀ (st2 : XT), post st2 → zz_W k (wX g st2) (pc + 3) L rest) : zz_W k (wX g st) pc L (.int p1 :: .ref (g.1 0) :: rest) := zz_callVv (ci := 0) (nA := 1) F hM zx_gw_release (by decide +kernel) rfl rfl rfl rfl rfl hrest hR hd kk
theorem zx_gw_makeRaw : GoodIn lw_all (wsV RX0 135 RX0 yX0_makeRaw (ws_ yX0_makeRaw cX0_makeRaw 3 none)) := lw_V q195 q197 qs15 q18 q198
theorem zx_call_makeRaw {k : ZK} {g : ZG} {cc : ByteArray} {nL fr lo pc fr2 lo2 : Nat} {L : ZL} {rest : List Value} {st : XT} {p1 : Int32} {post : XT → Prop} (F : zz_F k g RX0 cc nL fr lo) (hd : decode cc pc = .ok (.invokevirtual 135, 3)) (hM : zz_Mv (zk_l k) (zk_D k) g (wX g) yX0_makeRaw cX0_makeRaw 3 fr2 lo2 st [.ref (g.1 0), .int p1] post) (hR : fr2 + 1 ≤ fr ∧ 8 + (3 + 11) + lo2 ≤ lo) (hrest : (rest.map fun v => v.category).sum ≤ 8) (kk : ∀ (st2 : XT), post st2 → zz_W k (wX g st2) (pc + 3) L rest) : zz_W k (wX g st) pc L (.int p1 :: .ref (g.1 0) :: rest) := zz_callVv (ci := 0) (nA := 1) F hM zx_gw_makeRaw (by decide +kernel) rfl rfl rfl rfl rfl hrest hR hd kk
theorem zm_gw_feedRun : GoodIn lw_all (wsV RX1 27 RX1 yX1_feedRun (ws_ yX1_feedRun cX1_feedRun 5 (some .int))) := lw_V q250 q251 q252 q19 q253
theorem zm_call_feedRun {k : ZK} {g : ZG} {cc : ByteArray} {nL fr lo pc fr2 lo2 : Nat} {L : ZL} {rest : List Value} {st : MT} {p1 p2 p3 : Int32} {post : Int32 → MT → Prop} (F : zz_F k g RX1 cc nL fr lo) (hd : decode cc pc = .ok (.invokevirtual 27, 3)) (hM : zz_Mi (zk_l k) (zk_D k) g (wM g) yX1_feedRun cX1_feedRun 5 fr2 lo2 .int st [.ref (g.1 20), .int p1, .int p2, .int p3] post) (hR : fr2 + 1 ≤ fr ∧ 8 + (5 + 11) + lo2 ≤ lo) (hrest : (rest.map fun v => v.category).sum ≤ 8) (kk : ∀ (x : Int32) (st2 : MT), post x st2 → zz_W k (wM g st2) (pc + 3) L (.int x :: rest)) : zz_W k (wM g st) pc L (.int p3 :: .int p2 :: .int p1 :: .ref (g.1 20) :: rest) := zz_callVi (ci := 1) (nA := 3) F hM zm_gw_feedRun (by decide +kernel) rfl rfl rfl rfl rfl hrest hR hd kk
theorem zm_gw_missing : GoodIn lw_all (wsV RX1 31 RX1 yX1_missing (ws_ yX1_missing cX1_missing 2 (some .int))) := lw_V q259 q261 qs16 q19 q262
theorem zm_call_missing {k : ZK} {g : ZG} {cc : ByteArray} {nL fr lo pc fr2 lo2 : Nat} {L : ZL} {rest : List Value} {st : MT} {p1 : Int32} {post : Int32 → MT → Prop} (F : zz_F k g RX1 cc nL fr lo) (hd : decode cc pc = .ok (.invokevirtual 31, 3)) (hM : zz_Mi (zk_l k) (zk_D k) g (wM g) yX1_missing cX1_missing 2 fr2 lo2 .int st [.ref (g.1 20), .int p1] post) (hR : fr2 + 1 ≤ fr ∧ 8 + (2 + 11) + lo2 ≤ lo) (hrest : (rest.map fun v => v.category).sum ≤ 8) (kk : ∀ (x : Int32) (st2 : MT), post x st2 → zz_W k (wM g st2) (pc + 3) L (.int x :: rest)) : zz_W k (wM g st) pc L (.int p1 :: .ref (g.1 20) :: rest) := zz_callVi (ci := 1) (nA := 1) F hM zm_gw_missing (by decide +kernel) rfl rfl rfl rfl rfl hrest hR hd kk
end
section
/-! the plain words: chunks, programs, slots -/
theorem zz_any (x : Int32) : ∃ n : Nat, x = nI n := ⟨x.toBitVec.toNat, by
  apply Int32.toBitVec_inj.mp
  apply BitVec.eq_of_toNat_eq
  show _ = (BitVec.ofNat 32 _).toNat
  rw [BitVec.toNat_ofNat]
  exact (Nat.mod_eq_of_lt x.toBitVec.isLt).symm⟩
theorem cpy_0 {f h : Nat → Nat} {a t : Nat} : va_cpy f h a t 0 = h := by
  funext q
  unfold va_cpy
  rw [if_neg (by omega)]
theorem cpy_step {f h : Nat → Nat} {a t i : Nat} : va_up (va_cpy f h a t i) (t + i) (f (a + i)) = va_cpy f h a t (i + 1) := by
  funext q
  unfold va_up va_cpy
  by_cases h1 : q = t + i
  · rw [if_pos h1, if_pos (by omega), h1]
    congr 1
    omega
  · rw [if_neg h1]
    by_cases h2 : t ≤ q ∧ q < t + i
    · rw [if_pos h2, if_pos (by omega)]
    · rw [if_neg h2, if_neg (by omega)]
theorem up_at {a : Nat → Nat} {j v q : Nat} : va_up a j v q = if q = j then v else a q := rfl
/-- a program c of m cells that makes the n bytes X out of the bs bytes B -/
def sd_PR (c : Nat → Nat) (m : Nat) (B : Nat → Nat) (bs : Nat) (X : Nat → Nat) (n : Nat) : Prop :=
  ∃ pos : Nat → Nat, pos 0 = 0 ∧ pos m = n ∧ ∀ p, p < m → pos (p + 1) ≤ n ∧ ((c p < 256 ∧ pos (p + 1) = pos p + 1 ∧ X (pos p) = c p) ∨ (256 ≤ c p ∧ c p < 512 ∧ pos (p + 1) = pos p + ((c p - 256) % 16 + 1) ∧ (c p - 256) / 16 + ((c p - 256) % 16 + 1) ≤ bs ∧ ∀ i, i < (c p - 256) % 16 + 1 → X (pos p + i) = B ((c p - 256) / 16 + i)))
/-- at most two bases lie below -/
def sd_D1 (bas : Nat → Nat) (x : Nat) : Prop := bas x = 0 ∨ bas (bas x - 1) = 0
def sd_D2 (bas : Nat → Nat) (x : Nat) : Prop := bas x = 0 ∨ bas (bas x - 1) = 0 ∨ bas (bas (bas x - 1) - 1) = 0
/-- the kept chunks Lv hold the bytes C -/
def sd_C1 (siz bas cel pay : Nat → Nat) (Lv : Nat → Prop) (C : Nat → Nat → Nat) (x : Nat) : Prop :=
  x < 96 ∧ 1 ≤ siz x ∧ siz x ≤ 16 ∧ (∀ i, i < siz x → C x i < 256) ∧ bas x ≤ 96 ∧ (bas x = 0 → ∀ i, i < siz x → pay (x * 16 + i) = C x i) ∧ (0 < bas x → Lv (bas x - 1) ∧ sd_D2 bas x ∧ cel x ≤ 16 ∧ sd_PR (fun p => pay (x * 16 + p)) (cel x) (C (bas x - 1)) (siz (bas x - 1)) (C x) (siz x))
def sd_CC (siz bas cel pay : Nat → Nat) (Lv : Nat → Prop) (C : Nat → Nat → Nat) : Prop := ∀ x, Lv x → sd_C1 siz bas cel pay Lv C x
/-- the chain of bases below x -/
def sd_cf (bas : Nat → Nat) (x : Nat) : Nat → Nat
  | 0 => x
  | j + 1 => bas (sd_cf bas x j) - 1
/-- the bytes of the first n parts of a slot -/
def sd_off (siz par : Nat → Nat) (s : Nat) : Nat → Nat
  | 0 => 0
  | n + 1 => sd_off siz par s n + siz (par (s * 16 + n))
def sd_run (f : Nat → Nat) (z : Nat) (a b : Int32) (n : Nat) : Nat → Nat := fun j => if z ≤ j ∧ j < z + n then by8 (a + nI (j - z) * b) else f j
theorem run_0 {f : Nat → Nat} {z : Nat} {a b : Int32} : sd_run f z a b 0 = f := by
  funext q
  unfold sd_run
  rw [if_neg (by omega)]
theorem run_step {f : Nat → Nat} {z n : Nat} {a b : Int32} : va_up (sd_run f z a b n) (z + n) (by8 (a + nI n * b)) = sd_run f z a b (n + 1) := by
  funext q
  unfold va_up sd_run
  by_cases h1 : q = z + n
  · rw [if_pos h1, if_pos (by omega), h1, Nat.add_sub_cancel_left]
  · rw [if_neg h1]
    by_cases h2 : z ≤ q ∧ q < z + n
    · rw [if_pos h2, if_pos (by omega)]
    · rw [if_neg h2, if_neg (by omega)]
theorem run_b (a b : Int32) (n : Nat) : a + nI n * b + b = a + nI (n + 1) * b := by
  rw [nI_succ]
  grind
end
section
set_option maxRecDepth 100000
theorem zz_slot {x : Int32} (h1 : ¬ x < 0) (h2 : x ≤ nI 5) : ∃ j : Nat, j < 6 ∧ x = nI j := by
  rcases pk_ix x (n := 6) (by decide) with q | q | q
  · exact absurd q h1
  · exact absurd (Int32.le_trans q h2) (by decide)
  · exact q
theorem zz_gt5 {x : Int32} (h : ¬ x ≤ nI 5) : nI 6 ≤ x := by
  rcases pk_ix x (n := 6) (by decide) with q | q | ⟨j, hj, rfl⟩
  · exact absurd (Int32.le_of_lt (Int32.lt_of_lt_of_le q (by decide))) h
  · exact q
  · exact absurd (nI_le (by omega) (by decide)) h
set_option maxHeartbeats 4000000 in
theorem m_badSlot (l : Launch) (D : va_G) (g : ZG) (sd pl : Nat) (sta sav pas par rfs siz bas cel pay pri fa fb fre ou un pro ch : Nat → Nat) (x : Int32) : zz_Mi l D g (wX g) yX0_badSlot cX0_badSlot 1 0 0 .boolean (sd, sta, sav, pas, par, rfs, siz, bas, cel, pay, pri, fa, fb, fre, ou, un, pro, pl, ch) [.int x] (fun r s => s = (sd, sta, sav, pas, par, rfs, siz, bas, cel, pay, pri, fa, fb, fre, ou, un, pro, pl, ch) ∧ ((x < 0 ∨ nI 6 ≤ x) ∧ r = nI 1 ∨ (∃ j : Nat, j < 6 ∧ x = nI j) ∧ r = nI 0)) := by
  refine zz_enter_i RX0 [some (.int x)] 0 (by decide) rfl (by intro v hv; simp only [List.mem_cons, List.not_mem_nil, or_false] at hv; rcases hv with rfl <;> rfl) (Nat.le_of_ble_eq_true rfl) rfl ?_
  intro k hkl hkD F hR
  subst hkl hkD
  refine zz_iload_n0 (pc := 0) F dX0_badSlot_0 ?_
  refine zz_if_ltG (pc := 1) 9 F dX0_badSlot_1 (by decide) (fun c1 => ?_) (fun c1 => ?_)
  · refine zz_iconst_1 (pc := 9) F dX0_badSlot_9 ?_
    refine zz_goto (pc := 10) 14 F dX0_badSlot_10 (by decide) ?_
    exact hR _ _ _ _ dX0_badSlot_14 (by decide) ⟨rfl, Or.inl ⟨Or.inl c1, rfl⟩⟩
  · refine zz_iload_n0 (pc := 4) F dX0_badSlot_4 ?_
    refine zz_iconst_5 (pc := 5) F dX0_badSlot_5 ?_
    refine zz_icmp_leG (pc := 6) 13 F dX0_badSlot_6 (by decide) (fun c6 => ?_) (fun c6 => ?_)
    · obtain ⟨j, hj, rfl⟩ := zz_slot c1 c6
      refine zz_iconst_0 (pc := 13) F dX0_badSlot_13 ?_
      exact hR _ _ _ _ dX0_badSlot_14 (by decide) ⟨rfl, Or.inr ⟨⟨j, hj, rfl⟩, rfl⟩⟩
    · refine zz_iconst_1 (pc := 9) F dX0_badSlot_9 ?_
      refine zz_goto (pc := 10) 14 F dX0_badSlot_10 (by decide) ?_
      exact hR _ _ _ _ dX0_badSlot_14 (by decide) ⟨rfl, Or.inl ⟨Or.inr (zz_gt5 c6), rfl⟩⟩
set_option maxHeartbeats 4000000 in
theorem m_copyBytes (l : Launch) (D : va_G) (g : ZG) (sd pl : Nat) (sta sav pas par rfs siz bas cel pay pri fa fb fre ou un pro ch : Nat → Nat) (a n t : Nat) (h1 : a + n ≤ 16) (h2 : t + n ≤ 16) : zz_Mi l D g (wX g) yX0_copyBytes cX0_copyBytes 6 0 0 .int (sd, sta, sav, pas, par, rfs, siz, bas, cel, pay, pri, fa, fb, fre, ou, un, pro, pl, ch) [.ref (g.1 0), .int (nI a), .int (nI n), .int (nI t)] (fun r s => r = nI (t + n) ∧ s = (sd, sta, sav, pas, par, rfs, siz, bas, cel, pay, pri, fa, fb, fre, va_cpy un ou a t n, un, pro, pl, ch)) := by
  refine zz_enter_i RX0 [some (.ref (g.1 0)), some (.int (nI a)), some (.int (nI n)), some (.int (nI t)), none, none] 2 (by decide) rfl (by intro v hv; simp only [List.mem_cons, List.not_mem_nil, or_false] at hv; rcases hv with rfl | rfl | rfl | rfl <;> rfl) (Nat.le_of_ble_eq_true rfl) rfl ?_
  intro k hkl hkD F hR
  subst hkl hkD
  have loop : ∀ n2 i : Nat, i ≤ n → n < i + n2 → zz_W k (wX g (sd, sta, sav, pas, par, rfs, siz, bas, cel, pay, pri, fa, fb, fre, va_cpy un ou a t i, un, pro, pl, ch)) 6 [some (.ref (g.1 0)), some (.int (nI (a))), some (.int (nI (n))), some (.int (nI (t))), some (.int (nI (t + i))), some (.int (nI (i)))] [] := by
    intro n2
    induction n2 with
    | zero => intro i h1 h2; exfalso; omega
    | succ n2 ih =>
      intro i hi hm
      refine zz_iload5 (pc := 6) F dX0_copyBytes_6 ?_
      refine zz_iload_n2 (pc := 8) F dX0_copyBytes_8 ?_
      refine zz_icmp_ge (pc := 9) 53 F dX0_copyBytes_9 (by decide) (by omega) (by omega) (fun c9 => ?_) (fun c9 => ?_)
      · have e : i = n := by omega
        subst e
        refine zz_iload4 (pc := 53) F dX0_copyBytes_53 ?_
        exact hR _ _ _ _ dX0_copyBytes_55 (vp_nar_int _) ⟨rfl, rfl⟩
      · refine zz_iload4 (pc := 12) F dX0_copyBytes_12 ?_
        refine zz_bipush_16 (pc := 14) F dX0_copyBytes_14 ?_
        refine zz_icmp_ge (pc := 16) 53 F dX0_copyBytes_16 (by decide) (by omega) (by omega) (fun c16 => ?_) (fun c16 => ?_)
        · exfalso; omega
        · refine zz_iload_n1 (pc := 19) F dX0_copyBytes_19 ?_
          refine zz_iload5 (pc := 20) F dX0_copyBytes_20 ?_
          refine zz_iadd (pc := 22) F dX0_copyBytes_22 ?_
          refine zz_bipush_16 (pc := 23) F dX0_copyBytes_23 ?_
          refine zz_icmp_ge (pc := 25) 53 F dX0_copyBytes_25 (by decide) (by omega) (by omega) (fun c25 => ?_) (fun c25 => ?_)
          · exfalso; omega
          · refine zz_aload_n0 (pc := 28) F dX0_copyBytes_28 ?_
            refine zx_get_out (pc := 29) F dX0_copyBytes_29 ?_
            refine zz_iload4 (pc := 32) F dX0_copyBytes_32 ?_
            refine zz_aload_n0 (pc := 34) F dX0_copyBytes_34 ?_
            refine zx_get_under (pc := 35) F dX0_copyBytes_35 ?_
            refine zz_iload_n1 (pc := 38) F dX0_copyBytes_38 ?_
            refine zz_iload5 (pc := 39) F dX0_copyBytes_39 ?_
            refine zz_iadd (pc := 41) F dX0_copyBytes_41 ?_
            refine zx_ald_under (pc := 42) F dX0_copyBytes_42 (by omega) ?_
            refine zx_ast_out (pc := 43) F dX0_copyBytes_43 (by omega) ?_
            refine zz_iinc4 (pc := 44) F dX0_copyBytes_44 (by decide) ?_
            refine zz_iinc5 (pc := 47) F dX0_copyBytes_47 (by decide) ?_
            refine zz_goto (pc := 50) 6 F dX0_copyBytes_50 (by decide) ?_
            rw [cpy_step]
            exact ih (i + 1) (by omega) (by omega)
  refine zz_iload_n3 (pc := 0) F dX0_copyBytes_0 ?_
  refine zz_istore4 (pc := 1) F dX0_copyBytes_1 (by decide) ?_
  refine zz_iconst_0 (pc := 3) F dX0_copyBytes_3 ?_
  refine zz_istore5 (pc := 4) F dX0_copyBytes_4 (by decide) ?_
  have h := loop (n + 1) 0 (by omega) (by omega)
  rw [cpy_0] at h
  exact h
set_option maxHeartbeats 4000000 in
theorem m_matchLength (l : Launch) (D : va_G) (g : ZG) (sd pl : Nat) (sta sav pas par rfs siz bas cel pay pri fa fb fre ou un pro ch : Nat → Nat) (a n b z : Nat) (h1 : a ≤ n) (h2 : n ≤ 16) (h3 : b ≤ z) (h4 : z ≤ 16) (h5 : ∀ q, q < n → fre q < 256) (h6 : ∀ q, q < z → ou q < 256) : zz_Mi l D g (wX g) yX0_matchLength cX0_matchLength 6 0 0 .int (sd, sta, sav, pas, par, rfs, siz, bas, cel, pay, pri, fa, fb, fre, ou, un, pro, pl, ch) [.ref (g.1 0), .int (nI a), .int (nI n), .int (nI b), .int (nI z)] (fun r s => s = (sd, sta, sav, pas, par, rfs, siz, bas, cel, pay, pri, fa, fb, fre, ou, un, pro, pl, ch) ∧ ∃ m : Nat, r = nI m ∧ a + m ≤ n ∧ b + m ≤ z ∧ ∀ q, q < m → fre (a + q) = ou (b + q)) := by
  refine zz_enter_i RX0 [some (.ref (g.1 0)), some (.int (nI a)), some (.int (nI n)), some (.int (nI b)), some (.int (nI z)), none] 1 (by decide) rfl (by intro v hv; simp only [List.mem_cons, List.not_mem_nil, or_false] at hv; rcases hv with rfl | rfl | rfl | rfl | rfl <;> rfl) (Nat.le_of_ble_eq_true rfl) rfl ?_
  intro k hkl hkD F hR
  subst hkl hkD
  have loop : ∀ n2 i : Nat, a + i ≤ n → b + i ≤ z → n < a + i + n2 → (∀ q, q < i → fre (a + q) = ou (b + q)) → zz_W k (wX g (sd, sta, sav, pas, par, rfs, siz, bas, cel, pay, pri, fa, fb, fre, ou, un, pro, pl, ch)) 3 [some (.ref (g.1 0)), some (.int (nI (a))), some (.int (nI (n))), some (.int (nI (b))), some (.int (nI (z))), some (.int (nI (i)))] [] := by
    intro n2
    induction n2 with
    | zero => intro i h1 h2 h3 h4; exfalso; omega
    | succ n2 ih =>
      intro i hi1 hi2 hm hq
      refine zz_iload_n1 (pc := 3) F dX0_matchLength_3 ?_
      refine zz_iload5 (pc := 4) F dX0_matchLength_4 ?_
      refine zz_iadd (pc := 6) F dX0_matchLength_6 ?_
      refine zz_iload_n2 (pc := 7) F dX0_matchLength_7 ?_
      refine zz_icmp_ge (pc := 8) 47 F dX0_matchLength_8 (by decide) (by omega) (by omega) (fun c8 => ?_) (fun c8 => ?_)
      · refine zz_iload5 (pc := 47) F dX0_matchLength_47 ?_
        exact hR _ _ _ _ dX0_matchLength_49 (vp_nar_int _) ⟨rfl, i, rfl, by omega, by omega, hq⟩
      · refine zz_iload_n3 (pc := 11) F dX0_matchLength_11 ?_
        refine zz_iload5 (pc := 12) F dX0_matchLength_12 ?_
        refine zz_iadd (pc := 14) F dX0_matchLength_14 ?_
        refine zz_iload4 (pc := 15) F dX0_matchLength_15 ?_
        refine zz_icmp_ge (pc := 17) 47 F dX0_matchLength_17 (by decide) (by omega) (by omega) (fun c17 => ?_) (fun c17 => ?_)
        · refine zz_iload5 (pc := 47) F dX0_matchLength_47 ?_
          exact hR _ _ _ _ dX0_matchLength_49 (vp_nar_int _) ⟨rfl, i, rfl, by omega, by omega, hq⟩
        · refine zz_aload_n0 (pc := 20) F dX0_matchLength_20 ?_
          refine zx_get_fresh (pc := 21) F dX0_matchLength_21 ?_
          refine zz_iload_n1 (pc := 24) F dX0_matchLength_24 ?_
          refine zz_iload5 (pc := 25) F dX0_matchLength_25 ?_
          refine zz_iadd (pc := 27) F dX0_matchLength_27 ?_
          refine zx_ald_fresh (pc := 28) F dX0_matchLength_28 (by omega) ?_
          refine zz_aload_n0 (pc := 29) F dX0_matchLength_29 ?_
          refine zx_get_out (pc := 30) F dX0_matchLength_30 ?_
          refine zz_iload_n3 (pc := 33) F dX0_matchLength_33 ?_
          refine zz_iload5 (pc := 34) F dX0_matchLength_34 ?_
          refine zz_iadd (pc := 36) F dX0_matchLength_36 ?_
          refine zx_ald_out (pc := 37) F dX0_matchLength_37 (by omega) ?_
          refine zz_icmp_ne (pc := 38) 47 F dX0_matchLength_38 (by decide) (Nat.lt_trans (h5 _ (by omega)) (by decide)) (Nat.lt_trans (h6 _ (by omega)) (by decide)) (fun c38 => ?_) (fun c38 => ?_)
          · refine zz_iload5 (pc := 47) F dX0_matchLength_47 ?_
            exact hR _ _ _ _ dX0_matchLength_49 (vp_nar_int _) ⟨rfl, i, rfl, by omega, by omega, hq⟩
          · refine zz_iinc5 (pc := 41) F dX0_matchLength_41 (by decide) ?_
            refine zz_goto (pc := 44) 3 F dX0_matchLength_44 (by decide) ?_
            exact ih (i + 1) (by omega) (by omega) (by omega) (lt_s hq c38)
  refine zz_iconst_0 (pc := 0) F dX0_matchLength_0 ?_
  refine zz_istore5 (pc := 1) F dX0_matchLength_1 (by decide) ?_
  exact loop (n + 1) 0 (by omega) (by omega) (by omega) (fun q h => absurd h (Nat.not_lt_zero q))
set_option maxHeartbeats 4000000 in
theorem m_outIsFresh (l : Launch) (D : va_G) (g : ZG) (sd pl : Nat) (sta sav pas par rfs siz bas cel pay pri fa fb fre ou un pro ch : Nat → Nat) (n : Nat) (h2 : n ≤ 16) (h5 : ∀ q, q < n → fre q < 256) (h6 : ∀ q, q < n → ou q < 256) : zz_Mi l D g (wX g) yX0_outIsFresh cX0_outIsFresh 3 0 0 .boolean (sd, sta, sav, pas, par, rfs, siz, bas, cel, pay, pri, fa, fb, fre, ou, un, pro, pl, ch) [.ref (g.1 0), .int (nI n)] (fun r s => s = (sd, sta, sav, pas, par, rfs, siz, bas, cel, pay, pri, fa, fb, fre, ou, un, pro, pl, ch) ∧ (r = nI 0 ∨ r = nI 1 ∧ ∀ q, q < n → ou q = fre q)) := by
  refine zz_enter_i RX0 [some (.ref (g.1 0)), some (.int (nI n)), none] 1 (by decide) rfl (by intro v hv; simp only [List.mem_cons, List.not_mem_nil, or_false] at hv; rcases hv with rfl | rfl <;> rfl) (Nat.le_of_ble_eq_true rfl) rfl ?_
  intro k hkl hkD F hR
  subst hkl hkD
  have loop : ∀ n2 i : Nat, i ≤ n → n < i + n2 → (∀ q, q < i → ou q = fre q) → zz_W k (wX g (sd, sta, sav, pas, par, rfs, siz, bas, cel, pay, pri, fa, fb, fre, ou, un, pro, pl, ch)) 2 [some (.ref (g.1 0)), some (.int (nI (n))), some (.int (nI (i)))] [] := by
    intro n2
    induction n2 with
    | zero => intro i h1 h2 h3; exfalso; omega
    | succ n2 ih =>
      intro i hi hm hq
      refine zz_iload_n2 (pc := 2) F dX0_outIsFresh_2 ?_
      refine zz_iload_n1 (pc := 3) F dX0_outIsFresh_3 ?_
      refine zz_icmp_ge (pc := 4) 30 F dX0_outIsFresh_4 (by decide) (by omega) (by omega) (fun c4 => ?_) (fun c4 => ?_)
      · refine zz_iconst_1 (pc := 30) F dX0_outIsFresh_30 ?_
        exact hR _ _ _ _ dX0_outIsFresh_31 (by decide) ⟨rfl, Or.inr ⟨rfl, fun q h => hq q (by omega)⟩⟩
      · refine zz_aload_n0 (pc := 7) F dX0_outIsFresh_7 ?_
        refine zx_get_out (pc := 8) F dX0_outIsFresh_8 ?_
        refine zz_iload_n2 (pc := 11) F dX0_outIsFresh_11 ?_
        refine zx_ald_out (pc := 12) F dX0_outIsFresh_12 (by omega) ?_
        refine zz_aload_n0 (pc := 13) F dX0_outIsFresh_13 ?_
        refine zx_get_fresh (pc := 14) F dX0_outIsFresh_14 ?_
        refine zz_iload_n2 (pc := 17) F dX0_outIsFresh_17 ?_
        refine zx_ald_fresh (pc := 18) F dX0_outIsFresh_18 (by omega) ?_
        refine zz_icmp_eq (pc := 19) 24 F dX0_outIsFresh_19 (by decide) (Nat.lt_trans (h6 _ (by omega)) (by decide)) (Nat.lt_trans (h5 _ (by omega)) (by decide)) (fun c19 => ?_) (fun c19 => ?_)
        · refine zz_iinc2 (pc := 24) F dX0_outIsFresh_24 (by decide) ?_
          refine zz_goto (pc := 27) 2 F dX0_outIsFresh_27 (by decide) ?_
          exact ih (i + 1) (by omega) (by omega) (lt_s hq c19)
        · refine zz_iconst_0 (pc := 22) F dX0_outIsFresh_22 ?_
          exact hR _ _ _ _ dX0_outIsFresh_23 (by decide) ⟨rfl, Or.inl rfl⟩
  refine zz_iconst_0 (pc := 0) F dX0_outIsFresh_0 ?_
  refine zz_istore_n2 (pc := 1) F dX0_outIsFresh_1 (by decide) ?_
  exact loop (n + 1) 0 (by omega) (by omega) (fun q h => absurd h (Nat.not_lt_zero q))
set_option maxHeartbeats 4000000 in
theorem m_boundary (l : Launch) (D : va_G) (g : ZG) (sd pl : Nat) (sta sav pas par rfs siz bas cel pay pri fa fb fre ou un pro ch : Nat → Nat) (a b : Nat) (h1 : a ≤ b) (h2 : b < 96) (h3 : ∀ q, q ≤ b → sta q < 256) : zz_Mi l D g (wX g) yX0_boundary cX0_boundary 5 0 0 .boolean (sd, sta, sav, pas, par, rfs, siz, bas, cel, pay, pri, fa, fb, fre, ou, un, pro, pl, ch) [.ref (g.1 0), .int (nI a), .int (nI b)] (fun r s => s = (sd, sta, sav, pas, par, rfs, siz, bas, cel, pay, pri, fa, fb, fre, ou, un, pro, pl, ch) ∧ (r = nI 0 ∧ b + 1 - a < 16 ∨ r = nI 1 ∧ 6 ≤ b + 1 - a)) := by
  refine zz_enter_i RX0 [some (.ref (g.1 0)), some (.int (nI a)), some (.int (nI b)), none, none] 2 (by decide) rfl (by intro v hv; simp only [List.mem_cons, List.not_mem_nil, or_false] at hv; rcases hv with rfl | rfl | rfl <;> rfl) (Nat.le_of_ble_eq_true rfl) rfl ?_
  intro k hkl hkD F hR
  subst hkl hkD
  refine zz_iload_n2 (pc := 0) F dX0_boundary_0 ?_
  refine zz_iconst_1 (pc := 1) F dX0_boundary_1 ?_
  refine zz_iadd (pc := 2) F dX0_boundary_2 ?_
  refine zz_iload_n1 (pc := 3) F dX0_boundary_3 ?_
  refine zz_isub (pc := 4) F dX0_boundary_4 (by omega) ?_
  refine zz_istore_n3 (pc := 5) F dX0_boundary_5 (by decide) ?_
  refine zz_iload_n3 (pc := 6) F dX0_boundary_6 ?_
  refine zz_bipush_6 (pc := 7) F dX0_boundary_7 ?_
  refine zz_icmp_ge (pc := 9) 14 F dX0_boundary_9 (by decide) (by omega) (by omega) (fun c9 => ?_) (fun c9 => ?_)
  · refine zz_iload_n3 (pc := 14) F dX0_boundary_14 ?_
    refine zz_bipush_16 (pc := 15) F dX0_boundary_15 ?_
    refine zz_icmp_lt (pc := 17) 22 F dX0_boundary_17 (by decide) (by omega) (by omega) (fun c17 => ?_) (fun c17 => ?_)
    · refine zz_aload_n0 (pc := 22) F dX0_boundary_22 ?_
      refine zx_get_stage (pc := 23) F dX0_boundary_23 ?_
      refine zz_iload_n2 (pc := 26) F dX0_boundary_26 ?_
      refine zx_ald_stage (pc := 27) F dX0_boundary_27 (by omega) ?_
      refine zz_iconst_5 (pc := 28) F dX0_boundary_28 ?_
      refine zz_imul (pc := 29) F dX0_boundary_29 ?_
      refine zz_aload_n0 (pc := 30) F dX0_boundary_30 ?_
      refine zx_get_stage (pc := 31) F dX0_boundary_31 ?_
      refine zz_iload_n2 (pc := 34) F dX0_boundary_34 ?_
      refine zz_iconst_1 (pc := 35) F dX0_boundary_35 ?_
      refine zz_isub (pc := 36) F dX0_boundary_36 (by omega) ?_
      refine zx_ald_stage (pc := 37) F dX0_boundary_37 (by omega) ?_
      refine zz_bipush_11 (pc := 38) F dX0_boundary_38 ?_
      refine zz_imul (pc := 40) F dX0_boundary_40 ?_
      refine zz_iadd (pc := 41) F dX0_boundary_41 ?_
      refine zz_aload_n0 (pc := 42) F dX0_boundary_42 ?_
      refine zx_get_stage (pc := 43) F dX0_boundary_43 ?_
      refine zz_iload_n2 (pc := 46) F dX0_boundary_46 ?_
      refine zz_iconst_2 (pc := 47) F dX0_boundary_47 ?_
      refine zz_isub (pc := 48) F dX0_boundary_48 (by omega) ?_
      refine zx_ald_stage (pc := 49) F dX0_boundary_49 (by omega) ?_
      refine zz_bipush_23 (pc := 50) F dX0_boundary_50 ?_
      refine zz_imul (pc := 52) F dX0_boundary_52 ?_
      refine zz_iadd (pc := 53) F dX0_boundary_53 ?_
      refine zz_istore4 (pc := 54) F dX0_boundary_54 (by decide) ?_
      have q0 := h3 b (by omega)
      have q1 := h3 (b - 1) (by omega)
      have q2 := h3 (b - 2) (by omega)
      refine zz_iload4 (pc := 56) F dX0_boundary_56 ?_
      refine zz_iconst_2 (pc := 58) F dX0_boundary_58 ?_
      refine zz_shr2 (pc := 59) F dX0_boundary_59 (by omega) ?_
      refine zz_bipush_7 (pc := 60) F dX0_boundary_60 ?_
      refine zz_and7 (pc := 62) F dX0_boundary_62 (by omega) ?_
      refine zz_iconst_3 (pc := 63) F dX0_boundary_63 ?_
      refine zz_icmp_ne (pc := 64) 71 F dX0_boundary_64 (by decide) (by omega) (by omega) (fun c64 => ?_) (fun c64 => ?_)
      · refine zz_iconst_0 (pc := 71) F dX0_boundary_71 ?_
        exact hR _ _ _ _ dX0_boundary_72 (by decide) ⟨rfl, by first | exact Or.inr ⟨rfl, by omega⟩ | exact Or.inl ⟨rfl, by omega⟩⟩
      · refine zz_iconst_1 (pc := 67) F dX0_boundary_67 ?_
        refine zz_goto (pc := 68) 72 F dX0_boundary_68 (by decide) ?_
        exact hR _ _ _ _ dX0_boundary_72 (by decide) ⟨rfl, by first | exact Or.inr ⟨rfl, by omega⟩ | exact Or.inl ⟨rfl, by omega⟩⟩
    · refine zz_iconst_1 (pc := 20) F dX0_boundary_20 ?_
      exact hR _ _ _ _ dX0_boundary_21 (by decide) ⟨rfl, Or.inr ⟨rfl, by omega⟩⟩
  · refine zz_iconst_0 (pc := 12) F dX0_boundary_12 ?_
    exact hR _ _ _ _ dX0_boundary_13 (by decide) ⟨rfl, Or.inl ⟨rfl, by omega⟩⟩
set_option maxHeartbeats 4000000 in
theorem m_leastWindow (l : Launch) (D : va_G) (g : ZG) (sd pl : Nat) (sta sav pas par rfs siz bas cel pay pri fa fb fre ou un pro ch : Nat → Nat) (n : Nat) (fc sl : Int32) (h1 : 1 ≤ n) (h2 : n ≤ 16) : zz_Mi l D g (wX g) yX0_leastWindow cX0_leastWindow 9 0 0 .int (sd, sta, sav, pas, par, rfs, siz, bas, cel, pay, pri, fa, fb, fre, ou, un, pro, pl, ch) [.ref (g.1 0), .int (nI n), .int fc, .int sl] (fun _ s => s = (sd, sta, sav, pas, par, rfs, siz, bas, cel, pay, pri, fa, fb, fre, ou, un, pro, pl, ch)) := by
  refine zz_enter_i RX0 [some (.ref (g.1 0)), some (.int (nI n)), some (.int fc), some (.int sl), none, none, none, none, none] 5 (by decide) rfl (by intro v hv; simp only [List.mem_cons, List.not_mem_nil, or_false] at hv; rcases hv with rfl | rfl | rfl | rfl <;> rfl) (Nat.le_of_ble_eq_true rfl) rfl ?_
  intro k hkl hkD F hR
  subst hkl hkD
  have main : ∀ wd : Nat, wd ≤ n → 1 ≤ wd → zz_W k (wX g (sd, sta, sav, pas, par, rfs, siz, bas, cel, pay, pri, fa, fb, fre, ou, un, pro, pl, ch)) 10 [some (.ref (g.1 0)), some (.int (nI (n))), some (.int fc), some (.int sl), none, none, none, none, none] [.int (nI wd)] := by
    intro wd hw1 hw2
    have loop : ∀ (n2 i : Nat) (le : Int32) (y7 y8 : Option Value), i ≤ n → n < i + n2 → zz_W k (wX g (sd, sta, sav, pas, par, rfs, siz, bas, cel, pay, pri, fa, fb, fre, ou, un, pro, pl, ch)) 19 [some (.ref (g.1 0)), some (.int (nI (n))), some (.int fc), some (.int sl), some (.int (nI (wd))), some (.int le), some (.int (nI (i))), y7, y8] [] := by
      intro n2
      induction n2 with
      | zero => intro i le y7 y8 h1 h2; exfalso; omega
      | succ n2 ih =>
        intro i le y7 y8 hi hm
        have inner : ∀ (n3 j : Nat) (hh : Int32), i + wd ≤ n → j ≤ wd → wd < j + n3 → zz_W k (wX g (sd, sta, sav, pas, par, rfs, siz, bas, cel, pay, pri, fa, fb, fre, ou, un, pro, pl, ch)) 34 [some (.ref (g.1 0)), some (.int (nI (n))), some (.int fc), some (.int sl), some (.int (nI (wd))), some (.int le), some (.int (nI (i))), some (.int hh), some (.int (nI (j)))] [] := by
          intro n3
          induction n3 with
          | zero => intro j hh h0 h1 h2; exfalso; omega
          | succ n3 ih3 =>
            intro j hh h0 hj hm3
            refine zz_iload8 (pc := 34) F dX0_leastWindow_34 ?_
            refine zz_iload4 (pc := 36) F dX0_leastWindow_36 ?_
            refine zz_icmp_ge (pc := 38) 66 F dX0_leastWindow_38 (by decide) (by omega) (by omega) (fun c38 => ?_) (fun c38 => ?_)
            · refine zz_iload7 (pc := 66) F dX0_leastWindow_66 ?_
              refine zz_iload_n2 (pc := 68) F dX0_leastWindow_68 ?_
              refine zz_imulG (pc := 69) F dX0_leastWindow_69 ?_
              refine zz_istore7 (pc := 70) F dX0_leastWindow_70 (by decide) ?_
              refine zz_iload7 (pc := 72) F dX0_leastWindow_72 ?_
              refine zz_iload7 (pc := 74) F dX0_leastWindow_74 ?_
              refine zz_bipush_13 (pc := 76) F dX0_leastWindow_76 ?_
              refine zz_iushrG (pc := 78) F dX0_leastWindow_78 ?_
              refine zz_ixorG (pc := 79) F dX0_leastWindow_79 ?_
              refine zz_ldc (v := nI 1048575) (pc := 80) F dX0_leastWindow_80 q166 ?_
              refine zz_iandG (pc := 82) F dX0_leastWindow_82 ?_
              refine zz_istore7 (pc := 83) F dX0_leastWindow_83 (by decide) ?_
              refine zz_iload7 (pc := 85) F dX0_leastWindow_85 ?_
              refine zz_iload5 (pc := 87) F dX0_leastWindow_87 ?_
              refine zz_icmp_geG (pc := 89) 96 F dX0_leastWindow_89 (by decide) (fun c89 => ?_) (fun c89 => ?_)
              · refine zz_iinc6 (pc := 96) F dX0_leastWindow_96 (by decide) ?_
                refine zz_goto (pc := 99) 19 F dX0_leastWindow_99 (by decide) ?_
                exact ih (i + 1) _ _ _ (by omega) (by omega)
              · refine zz_iload7 (pc := 92) F dX0_leastWindow_92 ?_
                refine zz_istore5 (pc := 94) F dX0_leastWindow_94 (by decide) ?_
                refine zz_iinc6 (pc := 96) F dX0_leastWindow_96 (by decide) ?_
                refine zz_goto (pc := 99) 19 F dX0_leastWindow_99 (by decide) ?_
                exact ih (i + 1) _ _ _ (by omega) (by omega)
            · refine zz_iload7 (pc := 41) F dX0_leastWindow_41 ?_
              refine zz_sipush_256 (pc := 43) F dX0_leastWindow_43 ?_
              refine zz_imulG (pc := 46) F dX0_leastWindow_46 ?_
              refine zz_aload_n0 (pc := 47) F dX0_leastWindow_47 ?_
              refine zx_get_fresh (pc := 48) F dX0_leastWindow_48 ?_
              refine zz_iload6 (pc := 51) F dX0_leastWindow_51 ?_
              refine zz_iload8 (pc := 53) F dX0_leastWindow_53 ?_
              refine zz_iadd (pc := 55) F dX0_leastWindow_55 ?_
              refine zx_ald_fresh (pc := 56) F dX0_leastWindow_56 (by omega) ?_
              refine zz_iaddG (pc := 57) F dX0_leastWindow_57 ?_
              refine zz_istore7 (pc := 58) F dX0_leastWindow_58 (by decide) ?_
              refine zz_iinc8 (pc := 60) F dX0_leastWindow_60 (by decide) ?_
              refine zz_goto (pc := 63) 34 F dX0_leastWindow_63 (by decide) ?_
              exact ih3 (j + 1) _ h0 (by omega) (by omega)
        refine zz_iload6 (pc := 19) F dX0_leastWindow_19 ?_
        refine zz_iload4 (pc := 21) F dX0_leastWindow_21 ?_
        refine zz_iadd (pc := 23) F dX0_leastWindow_23 ?_
        refine zz_iload_n1 (pc := 24) F dX0_leastWindow_24 ?_
        refine zz_icmp_gt (pc := 25) 102 F dX0_leastWindow_25 (by decide) (by omega) (by omega) (fun c25 => ?_) (fun c25 => ?_)
        · refine zz_iload5 (pc := 102) F dX0_leastWindow_102 ?_
          exact hR _ _ _ _ dX0_leastWindow_104 (vp_nar_int _) rfl
        · refine zz_iload_n3 (pc := 28) F dX0_leastWindow_28 ?_
          refine zz_istore7 (pc := 29) F dX0_leastWindow_29 (by decide) ?_
          refine zz_iconst_0 (pc := 31) F dX0_leastWindow_31 ?_
          refine zz_istore8 (pc := 32) F dX0_leastWindow_32 (by decide) ?_
          exact inner (wd + 1) 0 sl (by omega) (by omega) (by omega)
    refine zz_istore4 (pc := 10) F dX0_leastWindow_10 (by decide) ?_
    refine zz_ldc (v := nI 2147483647) (pc := 12) F dX0_leastWindow_12 q165 ?_
    refine zz_istore5 (pc := 14) F dX0_leastWindow_14 (by decide) ?_
    refine zz_iconst_0 (pc := 16) F dX0_leastWindow_16 ?_
    refine zz_istore6 (pc := 17) F dX0_leastWindow_17 (by decide) ?_
    exact loop (n + 1) 0 _ _ _ (by omega) (by omega)
  refine zz_iload_n1 (pc := 0) F dX0_leastWindow_0 ?_
  refine zz_iconst_4 (pc := 1) F dX0_leastWindow_1 ?_
  refine zz_icmp_ge (pc := 2) 9 F dX0_leastWindow_2 (by decide) (by omega) (by omega) (fun c2 => ?_) (fun c2 => ?_)
  · refine zz_iconst_4 (pc := 9) F dX0_leastWindow_9 ?_
    first | exact main n (by omega) (by omega) | exact main 4 (by omega) (by omega)
  · refine zz_iload_n1 (pc := 5) F dX0_leastWindow_5 ?_
    refine zz_goto (pc := 6) 10 F dX0_leastWindow_6 (by decide) ?_
    first | exact main n (by omega) (by omega) | exact main 4 (by omega) (by omega)
end
section
/-! plain lemmas: copies, programs, chunks -/
theorem zz_dec (q : Nat) : nI q + Int32.ofInt (-1) = nI q - 1 := by
  rw [show Int32.ofInt (-1) = -1 from rfl]
  grind
theorem zz_sub2 {n : Nat} (h : 1 ≤ n) : nI n - nI 2 = nI (n - 1) - 1 := by
  obtain ⟨m, rfl⟩ : ∃ m, n = m + 1 := ⟨n - 1, by omega⟩
  rw [nI_succ, Nat.add_sub_cancel, show nI 2 = 2 from rfl]
  grind
theorem cpy_stepT {f h : Nat → Nat} {a i : Nat} : va_up (va_cpy f h a 0 i) i (f (a + i)) = va_cpy f h a 0 (i + 1) := by
  have e := cpy_step (f := f) (h := h) (a := a) (t := 0) (i := i)
  rw [Nat.zero_add] at e
  exact e
theorem cpy_stepA {f h : Nat → Nat} {t i : Nat} : va_up (va_cpy f h 0 t i) (t + i) (f i) = va_cpy f h 0 t (i + 1) := by
  have e := cpy_step (f := f) (h := h) (a := 0) (t := t) (i := i)
  rw [Nat.zero_add] at e
  exact e
theorem cpy_stepO {f h : Nat → Nat} {i : Nat} : va_up (va_cpy f h 0 0 i) i (f i) = va_cpy f h 0 0 (i + 1) := by
  have e := cpy_stepT (f := f) (h := h) (a := 0) (i := i)
  rw [Nat.zero_add] at e
  exact e
theorem cpy_in {f h : Nat → Nat} {a t n q : Nat} (hq : q < n) : va_cpy f h a t n (t + q) = f (a + q) := by
  unfold va_cpy
  rw [if_pos (by omega), Nat.add_sub_cancel_left]
theorem cpy_in0 {f h : Nat → Nat} {a n q : Nat} (hq : q < n) : va_cpy f h a 0 n q = f (a + q) := by
  have e := cpy_in (f := f) (h := h) (a := a) (t := 0) hq
  rw [Nat.zero_add] at e
  exact e
theorem cpy_out {f h : Nat → Nat} {a t n q : Nat} (hq : q < t ∨ t + n ≤ q) : va_cpy f h a t n q = h q := by
  unfold va_cpy
  rw [if_neg (by omega)]
theorem PR_nil {c B X : Nat → Nat} {z : Nat} : sd_PR c 0 B z X 0 := ⟨fun _ => 0, rfl, rfl, fun p h => absurd h (Nat.not_lt_zero p)⟩
theorem PR_lit {c B X : Nat → Nat} {m z i : Nat} (h : sd_PR c m B z X i) (hx : X i < 256) : sd_PR (va_up c m (X i)) (m + 1) B z X (i + 1) := by
  obtain ⟨pos, h0, hm, hp⟩ := h
  refine ⟨va_up pos (m + 1) (i + 1), ?_, va_up_self _ _ _, fun p hpm => ?_⟩
  · rw [va_up_ne _ _ (by omega)]
    exact h0
  · by_cases e : p = m
    · subst e
      rw [va_up_self, va_up_self, va_up_ne _ _ (by omega), hm]
      exact ⟨Nat.le_refl _, Or.inl ⟨hx, rfl, rfl⟩⟩
    · obtain ⟨q1, q2⟩ := hp p (by omega)
      rw [va_up_ne pos _ (show p + 1 ≠ m + 1 by omega), va_up_ne pos _ (show p ≠ m + 1 by omega), va_up_ne c _ e]
      exact ⟨by omega, q2⟩
theorem PR_cpy {c B X : Nat → Nat} {m z i a n : Nat} (h : sd_PR c m B z X i) (h1 : 1 ≤ n) (h2 : a + n ≤ z) (hz : z ≤ 16) (hx : ∀ q, q < n → X (i + q) = B (a + q)) : sd_PR (va_up c m (256 + a * 16 + n - 1)) (m + 1) B z X (i + n) := by
  obtain ⟨pos, h0, hm, hp⟩ := h
  refine ⟨va_up pos (m + 1) (i + n), ?_, va_up_self _ _ _, fun p hpm => ?_⟩
  · rw [va_up_ne _ _ (by omega)]
    exact h0
  · by_cases e : p = m
    · subst e
      rw [va_up_self, va_up_self, va_up_ne _ _ (by omega), hm]
      have e1 : (256 + a * 16 + n - 1 - 256) % 16 + 1 = n := by omega
      have e2 : (256 + a * 16 + n - 1 - 256) / 16 = a := by omega
      refine ⟨Nat.le_refl _, Or.inr ⟨by omega, by omega, ?_, ?_, ?_⟩⟩
      · rw [e1]
      · rw [e1, e2]
        exact h2
      · rw [e1, e2]
        exact hx
    · obtain ⟨q1, q2⟩ := hp p (by omega)
      rw [va_up_ne pos _ (show p + 1 ≠ m + 1 by omega), va_up_ne pos _ (show p ≠ m + 1 by omega), va_up_ne c _ e]
      exact ⟨by omega, q2⟩
theorem PR_congr {c c2 B B2 X X2 : Nat → Nat} {m z n : Nat} (h : sd_PR c m B z X n) (hc : ∀ p, p < m → c2 p = c p) (hB : ∀ p, p < z → B2 p = B p) (hX : ∀ p, p < n → X2 p = X p) : sd_PR c2 m B2 z X2 n := by
  obtain ⟨pos, h0, hm, hp⟩ := h
  refine ⟨pos, h0, hm, fun p hpm => ?_⟩
  obtain ⟨q1, q2⟩ := hp p hpm
  rw [hc p hpm]
  refine ⟨q1, ?_⟩
  rcases q2 with ⟨a1, a2, a3⟩ | ⟨a1, a2, a3, a4, a5⟩
  · exact Or.inl ⟨a1, a2, by rw [hX _ (by omega)]; exact a3⟩
  · exact Or.inr ⟨a1, a2, a3, a4, fun i hi => by rw [hX _ (by omega), hB _ (by omega)]; exact a5 i hi⟩
theorem cf_Lv {siz bas cel pay : Nat → Nat} {Lv : Nat → Prop} {C : Nat → Nat → Nat} (hC : sd_CC siz bas cel pay Lv C) {x : Nat} (hx : Lv x) : ∀ j, (∀ i, i < j → 0 < bas (sd_cf bas x i)) → Lv (sd_cf bas x j)
  | 0, _ => hx
  | j + 1, h => ((hC _ (cf_Lv hC hx j (fun i hi => h i (by omega)))).2.2.2.2.2.2 (h j (by omega))).1
theorem cf_two {siz bas cel pay : Nat → Nat} {Lv : Nat → Prop} {C : Nat → Nat → Nat} (hC : sd_CC siz bas cel pay Lv C) {x : Nat} (hx : Lv x) (h0 : 0 < bas (sd_cf bas x 0)) (h1 : 0 < bas (sd_cf bas x 1)) (h2 : 0 < bas (sd_cf bas x 2)) : False := by
  have h : sd_D2 bas x := ((hC x hx).2.2.2.2.2.2 h0).2.1
  rcases h with h | h | h
  · exact absurd h (Nat.ne_of_gt h0)
  · exact absurd h (Nat.ne_of_gt h1)
  · exact absurd h (Nat.ne_of_gt h2)
/-- what agrees on the kept chunks keeps them -/
theorem CC_congr {siz bas cel pay siz2 bas2 cel2 pay2 : Nat → Nat} {Lv : Nat → Prop} {C C2 : Nat → Nat → Nat} (hC : sd_CC siz bas cel pay Lv C) (h1 : ∀ y, Lv y → siz2 y = siz y) (h2 : ∀ y, Lv y → bas2 y = bas y) (h3 : ∀ y, Lv y → cel2 y = cel y) (h4 : ∀ y, Lv y → ∀ i, i < 16 → pay2 (y * 16 + i) = pay (y * 16 + i)) (h5 : ∀ y, Lv y → ∀ i, i < siz y → C2 y i = C y i) : sd_CC siz2 bas2 cel2 pay2 Lv C2 := by
  intro x hx
  obtain ⟨a1, a2, a3, a4, a5, a6, a7⟩ := hC x hx
  refine ⟨a1, by rw [h1 x hx]; exact a2, by rw [h1 x hx]; exact a3, ?_, by rw [h2 x hx]; exact a5, ?_, ?_⟩
  · intro i hi
    rw [h1 x hx] at hi
    rw [h5 x hx i hi]
    exact a4 i hi
  · intro hb i hi
    rw [h1 x hx] at hi
    rw [h2 x hx] at hb
    rw [h5 x hx i hi, h4 x hx i (by omega)]
    exact a6 hb i hi
  · intro hb
    rw [h2 x hx] at hb
    obtain ⟨b1, b2, b3, b4⟩ := a7 hb
    rw [h2 x hx, h3 x hx, h1 x hx, h1 _ b1]
    refine ⟨b1, ?_, b3, ?_⟩
    · unfold sd_D2
      rw [h2 x hx, h2 _ b1]
      rcases b2 with q | q | q
      · exact Or.inl q
      · exact Or.inr (Or.inl q)
      · by_cases z : bas (bas x - 1) = 0
        · exact Or.inr (Or.inl z)
        · rw [h2 _ (((hC _ b1).2.2.2.2.2.2 (Nat.pos_of_ne_zero z)).1)]
          exact Or.inr (Or.inr q)
    · exact PR_congr b4 (fun p hp => h4 x hx p (by omega)) (fun p hp => h5 _ b1 p hp) (fun p hp => h5 x hx p hp)
theorem CC_sub {siz bas cel pay : Nat → Nat} {Lv Lv2 : Nat → Prop} {C : Nat → Nat → Nat} (hC : sd_CC siz bas cel pay Lv C) (h : ∀ y, Lv2 y → Lv y) (hb : ∀ y, Lv2 y → 0 < bas y → Lv2 (bas y - 1)) : sd_CC siz bas cel pay Lv2 C := by
  intro x hx
  obtain ⟨a1, a2, a3, a4, a5, a6, a7⟩ := hC x (h x hx)
  refine ⟨a1, a2, a3, a4, a5, a6, fun q => ?_⟩
  obtain ⟨b1, b2⟩ := a7 q
  exact ⟨hb x hx q, b2⟩
/-- one more chunk, kept raw or against a kept one -/
theorem CC_add {siz bas cel pay : Nat → Nat} {Lv : Nat → Prop} {C : Nat → Nat → Nat} {x : Nat} (hC : sd_CC siz bas cel pay Lv C) (h1 : sd_C1 siz bas cel pay (fun y => Lv y ∨ y = x) C x) : sd_CC siz bas cel pay (fun y => Lv y ∨ y = x) C := by
  intro y hy
  rcases hy with hy | hy
  · obtain ⟨a1, a2, a3, a4, a5, a6, a7⟩ := hC y hy
    exact ⟨a1, a2, a3, a4, a5, a6, fun q => ⟨Or.inl (a7 q).1, (a7 q).2⟩⟩
  · rw [hy]
    exact h1
/-- a chunk made raw -/
theorem CC_raw {siz bas cel pay cel2 pay2 : Nat → Nat} {Lv : Nat → Prop} {C : Nat → Nat → Nat} {x : Nat} (hC : sd_CC siz bas cel pay Lv C) (h3 : ∀ y, y ≠ x → cel2 y = cel y) (h4 : ∀ y, y ≠ x → ∀ i, i < 16 → pay2 (y * 16 + i) = pay (y * 16 + i)) (h5 : ∀ i, i < siz x → pay2 (x * 16 + i) = C x i) : sd_CC siz (va_up bas x 0) cel2 pay2 Lv C := by
  intro y hy
  obtain ⟨a1, a2, a3, a4, a5, a6, a7⟩ := hC y hy
  by_cases e : y = x
  · subst e
    refine ⟨a1, a2, a3, a4, by rw [va_up_self]; exact Nat.zero_le _, fun _ => h5, fun q => ?_⟩
    rw [va_up_self] at q
    exact absurd q (Nat.lt_irrefl 0)
  · refine ⟨a1, a2, a3, a4, by rw [va_up_ne _ _ e]; exact a5, ?_, ?_⟩
    · intro q i hi
      rw [va_up_ne _ _ e] at q
      rw [h4 y e i (by omega)]
      exact a6 q i hi
    · intro q
      rw [va_up_ne _ _ e] at q
      obtain ⟨b1, b2, b3, b4⟩ := a7 q
      rw [va_up_ne _ _ e, h3 y e]
      refine ⟨b1, ?_, b3, PR_congr b4 (fun p hp => h4 y e p (by omega)) (fun _ _ => rfl) (fun _ _ => rfl)⟩
      unfold sd_D2
      rw [va_up_ne _ _ e]
      by_cases e2 : bas y - 1 = x
      · rw [e2, va_up_self]
        exact Or.inr (Or.inl rfl)
      · rw [va_up_ne _ _ e2]
        by_cases e3 : bas (bas y - 1) - 1 = x
        · rw [e3, va_up_self]
          exact Or.inr (Or.inr rfl)
        · rw [va_up_ne _ _ e3]
          exact b2
end
section
set_option maxRecDepth 100000
set_option maxHeartbeats 4000000 in
theorem m_basesBelow (l : Launch) (D : va_G) (g : ZG) (sd pl : Nat) (sta sav pas par rfs siz bas cel pay pri fa fb fre ou un pro ch : Nat → Nat) (x : Nat) (Lv : Nat → Prop) (C : Nat → Nat → Nat) (hC : sd_CC siz bas cel pay Lv C) (hx : Lv x) : zz_Mi l D g (wX g) yX0_basesBelow cX0_basesBelow 4 0 0 .int (sd, sta, sav, pas, par, rfs, siz, bas, cel, pay, pri, fa, fb, fre, ou, un, pro, pl, ch) [.ref (g.1 0), .int (nI x)] (fun r s => s = (sd, sta, sav, pas, par, rfs, siz, bas, cel, pay, pri, fa, fb, fre, ou, un, pro, pl, ch) ∧ ∃ n : Nat, r = nI n ∧ n ≤ 2 ∧ (n < 2 → sd_D1 bas x)) := by
  refine zz_enter_i RX0 [some (.ref (g.1 0)), some (.int (nI x)), none, none] 2 (by decide) rfl (by intro v hv; simp only [List.mem_cons, List.not_mem_nil, or_false] at hv; rcases hv with rfl | rfl <;> rfl) (Nat.le_of_ble_eq_true rfl) rfl ?_
  intro k hkl hkD F hR
  subst hkl hkD
  have loop : ∀ n2 n : Nat, n ≤ 2 → 2 < n + n2 → (∀ i, i < n → 0 < bas (sd_cf bas x i)) → zz_W k (wX g (sd, sta, sav, pas, par, rfs, siz, bas, cel, pay, pri, fa, fb, fre, ou, un, pro, pl, ch)) 4 [some (.ref (g.1 0)), some (.int (nI (x))), some (.int (nI (n))), some (.int (nI (sd_cf bas x n)))] [] := by
    intro n2
    induction n2 with
    | zero => intro n h1 h2; exfalso; omega
    | succ n2 ih =>
      intro n hn hm hp
      have hq := hC _ (cf_Lv hC hx n hp)
      have hq1 := hq.1
      have hq2 := hq.2.2.2.2.1
      refine zz_iload_n2 (pc := 4) F dX0_basesBelow_4 ?_
      refine zz_bipush_7 (pc := 5) F dX0_basesBelow_5 ?_
      refine zz_icmp_ge (pc := 7) 34 F dX0_basesBelow_7 (by decide) (by omega) (by omega) (fun c7 => ?_) (fun c7 => ?_)
      · exfalso; omega
      · refine zz_aload_n0 (pc := 10) F dX0_basesBelow_10 ?_
        refine zx_get_base (pc := 11) F dX0_basesBelow_11 ?_
        refine zz_iload_n3 (pc := 14) F dX0_basesBelow_14 ?_
        refine zx_ald_base (pc := 15) F dX0_basesBelow_15 (by omega) ?_
        refine zz_if_le (pc := 16) 34 F dX0_basesBelow_16 (by decide) (by omega) (fun c16 => ?_) (fun c16 => ?_)
        · refine zz_iload_n2 (pc := 34) F dX0_basesBelow_34 ?_
          exact hR _ _ _ _ dX0_basesBelow_35 (vp_nar_int _) ⟨rfl, n, rfl, hn, fun q => by
            rcases (show n = 0 ∨ n = 1 by omega) with e | e
            · subst e; exact Or.inl c16
            · subst e; exact Or.inr c16⟩
        · have hn2 : n + 1 ≤ 2 := by
            rcases Nat.lt_or_ge n 2 with q | q
            · exact q
            · have e : n = 2 := by omega
              subst e
              exact absurd c16 (fun _ => cf_two hC hx (hp 0 (by decide)) (hp 1 (by decide)) c16)
          refine zz_aload_n0 (pc := 19) F dX0_basesBelow_19 ?_
          refine zx_get_base (pc := 20) F dX0_basesBelow_20 ?_
          refine zz_iload_n3 (pc := 23) F dX0_basesBelow_23 ?_
          refine zx_ald_base (pc := 24) F dX0_basesBelow_24 (by omega) ?_
          refine zz_iconst_1 (pc := 25) F dX0_basesBelow_25 ?_
          refine zz_isub (pc := 26) F dX0_basesBelow_26 (by omega) ?_
          refine zz_istore_n3 (pc := 27) F dX0_basesBelow_27 (by decide) ?_
          refine zz_iinc2 (pc := 28) F dX0_basesBelow_28 (by decide) ?_
          refine zz_goto (pc := 31) 4 F dX0_basesBelow_31 (by decide) ?_
          exact ih (n + 1) hn2 (by omega) (lt_s hp c16)
  refine zz_iconst_0 (pc := 0) F dX0_basesBelow_0 ?_
  refine zz_istore_n2 (pc := 1) F dX0_basesBelow_1 (by decide) ?_
  refine zz_iload_n1 (pc := 2) F dX0_basesBelow_2 ?_
  refine zz_istore_n3 (pc := 3) F dX0_basesBelow_3 (by decide) ?_
  exact loop 3 0 (by decide) (by decide) (fun i h => absurd h (Nat.not_lt_zero i))
set_option maxHeartbeats 4000000 in
theorem m_findSimilar (l : Launch) (D : va_G) (g : ZG) (sd pl : Nat) (sta sav pas par rfs siz bas cel pay pri fa fb fre ou un pro ch : Nat → Nat) (a b : Int32) (n : Nat) (C : Nat → Nat → Nat) (hC : sd_CC siz bas cel pay (fun y => y < 96 ∧ 0 < rfs y) C) (hr : ∀ y, y < 96 → rfs y ≤ 96) (hn : n ≤ 16) : zz_Mi l D g (wX g) yX0_findSimilar cX0_findSimilar 6 1 23 .int (sd, sta, sav, pas, par, rfs, siz, bas, cel, pay, pri, fa, fb, fre, ou, un, pro, pl, ch) [.ref (g.1 0), .int a, .int b, .int (nI n)] (fun r s => s = (sd, sta, sav, pas, par, rfs, siz, bas, cel, pay, pri, fa, fb, fre, ou, un, pro, pl, ch) ∧ (r = -1 ∨ ∃ y : Nat, r = nI y ∧ y < 96 ∧ 0 < rfs y ∧ sd_D1 bas y)) := by
  refine zz_enter_i RX0 [some (.ref (g.1 0)), some (.int a), some (.int b), some (.int (nI n)), none, none] 2 (by decide) rfl (by intro v hv; simp only [List.mem_cons, List.not_mem_nil, or_false] at hv; rcases hv with rfl | rfl | rfl | rfl <;> rfl) (Nat.le_of_ble_eq_true rfl) rfl ?_
  intro k hkl hkD F hR
  subst hkl hkD
  have loop : ∀ (n2 i : Nat) (y5 : Option Value), i ≤ 96 → 96 < i + n2 → zz_W k (wX g (sd, sta, sav, pas, par, rfs, siz, bas, cel, pay, pri, fa, fb, fre, ou, un, pro, pl, ch)) 11 [some (.ref (g.1 0)), some (.int (a)), some (.int (b)), some (.int (nI (n))), some (.int (nI (i))), y5] [] := by
    intro n2
    induction n2 with
    | zero => intro i y5 h1 h2; exfalso; omega
    | succ n2 ih =>
      intro i y5 hi hm
      refine zz_iload4 (pc := 11) F dX0_findSimilar_11 ?_
      refine zz_bipush_96 (pc := 13) F dX0_findSimilar_13 ?_
      refine zz_icmp_ge (pc := 15) 73 F dX0_findSimilar_15 (by decide) (by omega) (by omega) (fun c15 => ?_) (fun c15 => ?_)
      · refine zz_iconst_m1 (pc := 73) F dX0_findSimilar_73 ?_
        exact hR _ _ _ _ dX0_findSimilar_74 (vp_nar_int _) ⟨rfl, Or.inl rfl⟩
      · have hri := hr i c15
        refine zz_aload_n0 (pc := 18) F dX0_findSimilar_18 ?_
        refine zx_get_refs (pc := 19) F dX0_findSimilar_19 ?_
        refine zz_iload4 (pc := 22) F dX0_findSimilar_22 ?_
        refine zx_ald_refs (pc := 24) F dX0_findSimilar_24 (by omega) ?_
        refine zz_if_le (pc := 25) 67 F dX0_findSimilar_25 (by decide) (by omega) (fun c25 => ?_) (fun c25 => ?_)
        · refine zz_iinc4 (pc := 67) F dX0_findSimilar_67 (by decide) ?_
          refine zz_goto (pc := 70) 11 F dX0_findSimilar_70 (by decide) ?_
          exact ih (i + 1) _ (by omega) (by omega)
        · refine zz_aload_n0 (pc := 28) F dX0_findSimilar_28 ?_
          refine zx_get_featA (pc := 29) F dX0_findSimilar_29 ?_
          refine zz_iload4 (pc := 32) F dX0_findSimilar_32 ?_
          refine zx_ald_featA (pc := 34) F dX0_findSimilar_34 (by omega) ?_
          refine zz_iload_n1 (pc := 35) F dX0_findSimilar_35 ?_
          refine zz_icmp_eqG (pc := 36) 50 F dX0_findSimilar_36 (by decide) (fun c36 => ?_) (fun c36 => ?_)
          · refine zz_aload_n0 (pc := 50) F dX0_findSimilar_50 ?_
            refine zz_iload4 (pc := 51) F dX0_findSimilar_51 ?_
            refine zx_call_basesBelow (pc := 53) F dX0_findSimilar_53 (m_basesBelow _ _ _ _ _ _ _ _ _ _ _ _ _ _ _ _ _ _ _ _ _ _ i _ C hC ⟨c15, c25⟩) (by decide) (Nat.le_of_ble_eq_true rfl) (fun r53 s53 h53 => ?_)
            obtain ⟨rfl, n1, rfl, hn1, hd1⟩ := h53
            refine zz_istore5 (pc := 56) F dX0_findSimilar_56 (by decide) ?_
            refine zz_iload5 (pc := 58) F dX0_findSimilar_58 ?_
            refine zz_iconst_2 (pc := 60) F dX0_findSimilar_60 ?_
            refine zz_icmp_ge (pc := 61) 67 F dX0_findSimilar_61 (by decide) (by omega) (by omega) (fun c61 => ?_) (fun c61 => ?_)
            · refine zz_iinc4 (pc := 67) F dX0_findSimilar_67 (by decide) ?_
              refine zz_goto (pc := 70) 11 F dX0_findSimilar_70 (by decide) ?_
              exact ih (i + 1) _ (by omega) (by omega)
            · refine zz_iload4 (pc := 64) F dX0_findSimilar_64 ?_
              exact hR _ _ _ _ dX0_findSimilar_66 (vp_nar_int _) ⟨rfl, Or.inr ⟨i, rfl, c15, c25, hd1 c61⟩⟩
          · refine zz_aload_n0 (pc := 39) F dX0_findSimilar_39 ?_
            refine zx_get_featB (pc := 40) F dX0_findSimilar_40 ?_
            refine zz_iload4 (pc := 43) F dX0_findSimilar_43 ?_
            refine zx_ald_featB (pc := 45) F dX0_findSimilar_45 (by omega) ?_
            refine zz_iload_n2 (pc := 46) F dX0_findSimilar_46 ?_
            refine zz_icmp_neG (pc := 47) 67 F dX0_findSimilar_47 (by decide) (fun c47 => ?_) (fun c47 => ?_)
            · refine zz_iinc4 (pc := 67) F dX0_findSimilar_67 (by decide) ?_
              refine zz_goto (pc := 70) 11 F dX0_findSimilar_70 (by decide) ?_
              exact ih (i + 1) _ (by omega) (by omega)
            · refine zz_aload_n0 (pc := 50) F dX0_findSimilar_50 ?_
              refine zz_iload4 (pc := 51) F dX0_findSimilar_51 ?_
              refine zx_call_basesBelow (pc := 53) F dX0_findSimilar_53 (m_basesBelow _ _ _ _ _ _ _ _ _ _ _ _ _ _ _ _ _ _ _ _ _ _ i _ C hC ⟨c15, c25⟩) (by decide) (Nat.le_of_ble_eq_true rfl) (fun r53 s53 h53 => ?_)
              obtain ⟨rfl, n1, rfl, hn1, hd1⟩ := h53
              refine zz_istore5 (pc := 56) F dX0_findSimilar_56 (by decide) ?_
              refine zz_iload5 (pc := 58) F dX0_findSimilar_58 ?_
              refine zz_iconst_2 (pc := 60) F dX0_findSimilar_60 ?_
              refine zz_icmp_ge (pc := 61) 67 F dX0_findSimilar_61 (by decide) (by omega) (by omega) (fun c61 => ?_) (fun c61 => ?_)
              · refine zz_iinc4 (pc := 67) F dX0_findSimilar_67 (by decide) ?_
                refine zz_goto (pc := 70) 11 F dX0_findSimilar_70 (by decide) ?_
                exact ih (i + 1) _ (by omega) (by omega)
              · refine zz_iload4 (pc := 64) F dX0_findSimilar_64 ?_
                exact hR _ _ _ _ dX0_findSimilar_66 (vp_nar_int _) ⟨rfl, Or.inr ⟨i, rfl, c15, c25, hd1 c61⟩⟩
  refine zz_iload_n3 (pc := 0) F dX0_findSimilar_0 ?_
  refine zz_bipush_6 (pc := 1) F dX0_findSimilar_1 ?_
  refine zz_icmp_ge (pc := 3) 8 F dX0_findSimilar_3 (by decide) (by omega) (by omega) (fun c3 => ?_) (fun c3 => ?_)
  · refine zz_iconst_0 (pc := 8) F dX0_findSimilar_8 ?_
    refine zz_istore4 (pc := 9) F dX0_findSimilar_9 (by decide) ?_
    exact loop 97 0 _ (by decide) (by decide)
  · refine zz_iconst_m1 (pc := 6) F dX0_findSimilar_6 ?_
    exact hR _ _ _ _ dX0_findSimilar_7 (vp_nar_int _) ⟨rfl, Or.inl rfl⟩
set_option maxHeartbeats 4000000 in
theorem m_runProgram (l : Launch) (D : va_G) (g : ZG) (sd pl : Nat) (sta sav pas par rfs siz bas cel pay pri fa fb fre ou un pro ch : Nat → Nat) (x z n : Nat) (B X : Nat → Nat) (hx : x < 96) (hce : cel x ≤ 16) (hz : z ≤ 16) (hn : n ≤ 16) (hB : ∀ i, i < z → ou i = B i) (hP : sd_PR (fun p => pay (x * 16 + p)) (cel x) B z X n) : zz_Mv l D g (wX g) yX0_runProgram cX0_runProgram 5 1 25 (sd, sta, sav, pas, par, rfs, siz, bas, cel, pay, pri, fa, fb, fre, ou, un, pro, pl, ch) [.ref (g.1 0), .int (nI x)] (fun s => ∃ ou2 un2 : Nat → Nat, s = (sd, sta, sav, pas, par, rfs, siz, bas, cel, pay, pri, fa, fb, fre, ou2, un2, pro, pl, ch) ∧ ∀ i, i < n → ou2 i = X i) := by
  refine zz_enter_v RX0 [some (.ref (g.1 0)), some (.int (nI x)), none, none, none] 3 (by decide) rfl (by intro v hv; simp only [List.mem_cons, List.not_mem_nil, or_false] at hv; rcases hv with rfl | rfl <;> rfl) (Nat.le_of_ble_eq_true rfl) rfl ?_
  intro k hkl hkD F hR
  subst hkl hkD
  obtain ⟨pos, hp0, hpm, hps⟩ := hP
  have loop2 : ∀ (n2 p : Nat) (ou2 un2 : Nat → Nat) (y4 : Option Value), p ≤ cel x → cel x < p + n2 → (∀ i, i < z → un2 i = B i) → (∀ i, i < pos p → ou2 i = X i) → zz_W k (wX g (sd, sta, sav, pas, par, rfs, siz, bas, cel, pay, pri, fa, fb, fre, ou2, un2, pro, pl, ch)) 30 [some (.ref (g.1 0)), some (.int (nI (x))), some (.int (nI (pos p))), some (.int (nI (p))), y4] [] := by
    intro n2
    induction n2 with
    | zero => intro p ou2 un2 y4 h1 h2; exfalso; omega
    | succ n2 ih =>
      intro p ou2 un2 y4 hi hm hU hO
      refine zz_iload_n3 (pc := 30) F dX0_runProgram_30 ?_
      refine zz_aload_n0 (pc := 31) F dX0_runProgram_31 ?_
      refine zx_get_cells (pc := 32) F dX0_runProgram_32 ?_
      refine zz_iload_n1 (pc := 35) F dX0_runProgram_35 ?_
      refine zx_ald_cells (pc := 36) F dX0_runProgram_36 (by omega) ?_
      refine zz_icmp_ge (pc := 37) 112 F dX0_runProgram_37 (by decide) (by omega) (by omega) (fun c37 => ?_) (fun c37 => ?_)
      · have e : p = cel x := by omega
        subst e
        exact hR _ _ _ dX0_runProgram_112 ⟨ou2, un2, rfl, fun i hi => hO i (by omega)⟩
      · obtain ⟨hp1, hp2⟩ := hps p c37
        have hp2 := hp2
        dsimp only at hp2
        refine zz_aload_n0 (pc := 40) F dX0_runProgram_40 ?_
        refine zx_get_payload (pc := 41) F dX0_runProgram_41 ?_
        refine zz_iload_n1 (pc := 44) F dX0_runProgram_44 ?_
        refine zz_bipush_16 (pc := 45) F dX0_runProgram_45 ?_
        refine zz_imul (pc := 47) F dX0_runProgram_47 ?_
        refine zz_iload_n3 (pc := 48) F dX0_runProgram_48 ?_
        refine zz_iadd (pc := 49) F dX0_runProgram_49 ?_
        refine zx_ald_payload (pc := 50) F dX0_runProgram_50 (by omega) ?_
        refine zz_istore4 (pc := 51) F dX0_runProgram_51 (by decide) ?_
        refine zz_iload4 (pc := 53) F dX0_runProgram_53 ?_
        refine zz_sipush_256 (pc := 55) F dX0_runProgram_55 ?_
        refine zz_icmp_ge (pc := 58) 81 F dX0_runProgram_58 (by decide) (by rcases hp2 with q | q <;> omega) (by omega) (fun c58 => ?_) (fun c58 => ?_)
        · rcases hp2 with ⟨b1, b2, b3⟩ | ⟨b1, b2, b3, b4, b5⟩
          · exfalso; omega
          refine zz_aload_n0 (pc := 81) F dX0_runProgram_81 ?_
          refine zz_iload4 (pc := 82) F dX0_runProgram_82 ?_
          refine zz_sipush_256 (pc := 84) F dX0_runProgram_84 ?_
          refine zz_isub (pc := 87) F dX0_runProgram_87 (by omega) ?_
          refine zz_iconst_4 (pc := 88) F dX0_runProgram_88 ?_
          refine zz_shr4 (pc := 89) F dX0_runProgram_89 (by omega) ?_
          refine zz_iload4 (pc := 90) F dX0_runProgram_90 ?_
          refine zz_sipush_256 (pc := 92) F dX0_runProgram_92 ?_
          refine zz_isub (pc := 95) F dX0_runProgram_95 (by omega) ?_
          refine zz_bipush_15 (pc := 96) F dX0_runProgram_96 ?_
          refine zz_and15 (pc := 98) F dX0_runProgram_98 (by omega) ?_
          refine zz_iconst_1 (pc := 99) F dX0_runProgram_99 ?_
          refine zz_iadd (pc := 100) F dX0_runProgram_100 ?_
          refine zz_iload_n2 (pc := 101) F dX0_runProgram_101 ?_
          refine zx_call_copyBytes (pc := 102) F dX0_runProgram_102 (m_copyBytes _ _ _ _ _ _ _ _ _ _ _ _ _ _ _ _ _ _ _ _ _ _ _ _ _ (by omega) (by omega)) (by decide) (Nat.le_of_ble_eq_true rfl) (fun r102 s102 h102 => ?_)
          obtain ⟨rfl, rfl⟩ := h102
          have hgo := ih (p + 1) (va_cpy un2 ou2 ((pay (x * 16 + p) - 256) / 16) (pos p) ((pay (x * 16 + p) - 256) % 16 + 1)) un2 (some (.int (nI (pay (x * 16 + p))))) (by omega) (by omega) hU (fun i hi => by
            rw [b3] at hi
            by_cases e : i < pos p
            · rw [cpy_out (Or.inl e)]
              exact hO i e
            · obtain ⟨q, rfl⟩ : ∃ q, i = pos p + q := ⟨i - pos p, by omega⟩
              rw [cpy_in (by omega), hU _ (by omega)]
              exact (b5 q (by omega)).symm)
          rw [b3] at hgo
          refine zz_istore_n2 (pc := 105) F dX0_runProgram_105 (by decide) ?_
          refine zz_iinc3 (pc := 106) F dX0_runProgram_106 (by decide) ?_
          refine zz_goto (pc := 109) 30 F dX0_runProgram_109 (by decide) ?_
          exact hgo
        · rcases hp2 with ⟨b1, b2, b3⟩ | ⟨b1, b2, b3, b4, b5⟩
          rotate_left
          · exfalso; omega
          refine zz_iload_n2 (pc := 61) F dX0_runProgram_61 ?_
          refine zz_bipush_16 (pc := 62) F dX0_runProgram_62 ?_
          refine zz_icmp_ge (pc := 64) 75 F dX0_runProgram_64 (by decide) (by omega) (by omega) (fun c64 => ?_) (fun c64 => ?_)
          · exfalso; omega
          · refine zz_aload_n0 (pc := 67) F dX0_runProgram_67 ?_
            refine zx_get_out (pc := 68) F dX0_runProgram_68 ?_
            refine zz_iload_n2 (pc := 71) F dX0_runProgram_71 ?_
            refine zz_iload4 (pc := 72) F dX0_runProgram_72 ?_
            refine zx_ast_out (pc := 74) F dX0_runProgram_74 (by omega) ?_
            refine zz_iinc2 (pc := 75) F dX0_runProgram_75 (by decide) ?_
            have hgo := ih (p + 1) (va_up ou2 (pos p) (pay (x * 16 + p))) un2 (some (.int (nI (pay (x * 16 + p))))) (by omega) (by omega) hU (fun i hi => by
              rw [b2] at hi
              by_cases e : i = pos p
              · rw [e, va_up_self, b3]
              · rw [va_up_ne _ _ e]
                exact hO i (by omega))
            rw [b2] at hgo
            refine zz_goto (pc := 78) 106 F dX0_runProgram_78 (by decide) ?_
            refine zz_iinc3 (pc := 106) F dX0_runProgram_106 (by decide) ?_
            refine zz_goto (pc := 109) 30 F dX0_runProgram_109 (by decide) ?_
            exact hgo
  have loop1 : ∀ (n2 i : Nat), i ≤ 16 → 16 < i + n2 → zz_W k (wX g (sd, sta, sav, pas, par, rfs, siz, bas, cel, pay, pri, fa, fb, fre, ou, va_cpy ou un 0 0 i, pro, pl, ch)) 2 [some (.ref (g.1 0)), some (.int (nI (x))), some (.int (nI (i))), none, none] [] := by
    intro n2
    induction n2 with
    | zero => intro i h1 h2; exfalso; omega
    | succ n2 ih =>
      intro i hi hm
      refine zz_iload_n2 (pc := 2) F dX0_runProgram_2 ?_
      refine zz_bipush_16 (pc := 3) F dX0_runProgram_3 ?_
      refine zz_icmp_ge (pc := 5) 26 F dX0_runProgram_5 (by decide) (by omega) (by omega) (fun c5 => ?_) (fun c5 => ?_)
      · refine zz_iconst_0 (pc := 26) F dX0_runProgram_26 ?_
        refine zz_istore_n2 (pc := 27) F dX0_runProgram_27 (by decide) ?_
        refine zz_iconst_0 (pc := 28) F dX0_runProgram_28 ?_
        refine zz_istore_n3 (pc := 29) F dX0_runProgram_29 (by decide) ?_
        have e : i = 16 := by omega
        subst e
        have h := loop2 (cel x + 1) 0 ou (va_cpy ou un 0 0 16) none (by omega) (by omega) (fun i hi => by rw [cpy_in0 (by omega), Nat.zero_add]; exact hB i hi) (fun i hi => by rw [hp0] at hi; exact absurd hi (Nat.not_lt_zero i))
        rw [hp0] at h
        exact h
      · refine zz_aload_n0 (pc := 8) F dX0_runProgram_8 ?_
        refine zx_get_under (pc := 9) F dX0_runProgram_9 ?_
        refine zz_iload_n2 (pc := 12) F dX0_runProgram_12 ?_
        refine zz_aload_n0 (pc := 13) F dX0_runProgram_13 ?_
        refine zx_get_out (pc := 14) F dX0_runProgram_14 ?_
        refine zz_iload_n2 (pc := 17) F dX0_runProgram_17 ?_
        refine zx_ald_out (pc := 18) F dX0_runProgram_18 (by omega) ?_
        refine zx_ast_under (pc := 19) F dX0_runProgram_19 (by omega) ?_
        refine zz_iinc2 (pc := 20) F dX0_runProgram_20 (by decide) ?_
        refine zz_goto (pc := 23) 2 F dX0_runProgram_23 (by decide) ?_
        rw [cpy_stepO]
        exact ih (i + 1) (by omega) (by omega)
  refine zz_iconst_0 (pc := 0) F dX0_runProgram_0 ?_
  refine zz_istore_n2 (pc := 1) F dX0_runProgram_1 (by decide) ?_
  have h := loop1 17 0 (by decide) (by decide)
  rw [cpy_0] at h
  exact h
set_option maxHeartbeats 4000000 in
theorem m_writeOut (l : Launch) (D : va_G) (g : ZG) (sd pl : Nat) (sta sav pas par rfs siz bas cel pay pri fa fb fre ou un pro ch : Nat → Nat) (x : Nat) (Lv : Nat → Prop) (C : Nat → Nat → Nat) (hC : sd_CC siz bas cel pay Lv C) (hx : Lv x) : zz_Mv l D g (wX g) yX0_writeOut cX0_writeOut 5 2 49 (sd, sta, sav, pas, par, rfs, siz, bas, cel, pay, pri, fa, fb, fre, ou, un, pro, pl, ch) [.ref (g.1 0), .int (nI x)] (fun s => ∃ ou2 un2 ch2 : Nat → Nat, s = (sd, sta, sav, pas, par, rfs, siz, bas, cel, pay, pri, fa, fb, fre, ou2, un2, pro, pl, ch2) ∧ ∀ i, i < siz x → ou2 i = C x i) := by
  refine zz_enter_v RX0 [some (.ref (g.1 0)), some (.int (nI x)), none, none, none] 3 (by decide) rfl (by intro v hv; simp only [List.mem_cons, List.not_mem_nil, or_false] at hv; rcases hv with rfl | rfl <;> rfl) (Nat.le_of_ble_eq_true rfl) rfl ?_
  intro k hkl hkD F hR
  subst hkl hkD
  have tail : ∀ (n : Nat) (ch2 : Nat → Nat), 1 ≤ n → n ≤ 3 → (∀ j, j < n → ch2 j = sd_cf bas x j) → (∀ j, j + 1 < n → 0 < bas (sd_cf bas x j)) → bas (sd_cf bas x (n - 1)) = 0 → zz_W k (wX g (sd, sta, sav, pas, par, rfs, siz, bas, cel, pay, pri, fa, fb, fre, ou, un, pro, pl, ch2)) 58 [some (.ref (g.1 0)), some (.int (nI (x))), some (.int (nI (n))), none, none] [] := by
    intro n ch2 hn1 hn3 hch hps hb0
    have hlv := hC _ (cf_Lv hC hx (n - 1) (fun i hi => hps i (by omega)))
    have hlv1 := hlv.1
    have hlv2 := hlv.2.2.1
    have loop3 : ∀ q : Nat, q < n → ∀ ou2 un2 : Nat → Nat, (∀ i, i < siz (sd_cf bas x q) → ou2 i = C (sd_cf bas x q) i) → zz_W k (wX g (sd, sta, sav, pas, par, rfs, siz, bas, cel, pay, pri, fa, fb, fre, ou2, un2, pro, pl, ch2)) 111 [some (.ref (g.1 0)), some (.int (nI (x))), some (.int (nI (n))), some (.int (nI (sd_cf bas x (n - 1)))), some (.int (nI q - 1))] [] := by
      intro q
      induction q with
      | zero =>
        intro hq ou2 un2 hou
        refine zz_iload4 (pc := 111) F dX0_writeOut_111 ?_
        refine zz_if_ltG (pc := 113) 133 F dX0_writeOut_113 (by decide) (fun c113 => ?_) (fun c113 => ?_)
        · exact hR _ _ _ dX0_writeOut_133 ⟨ou2, un2, ch2, rfl, hou⟩
        · exact absurd (by decide) c113
      | succ q ih =>
        intro hq ou2 un2 hou
        rw [nI_pred]
        have hl2 := hC _ (cf_Lv hC hx q (fun i hi => hps i (by omega)))
        have hl4 := hC _ (cf_Lv hC hx (q + 1) (fun i hi => hps i (by omega)))
        obtain ⟨r1, r2, r3, r4⟩ := hl2.2.2.2.2.2.2 (hps q (by omega))
        refine zz_iload4 (pc := 111) F dX0_writeOut_111 ?_
        refine zz_if_lt (pc := 113) 133 F dX0_writeOut_113 (by decide) (by omega) ?_
        refine zz_aload_n0 (pc := 116) F dX0_writeOut_116 ?_
        refine zz_aload_n0 (pc := 117) F dX0_writeOut_117 ?_
        refine zx_get_chain (pc := 118) F dX0_writeOut_118 ?_
        refine zz_iload4 (pc := 121) F dX0_writeOut_121 ?_
        refine zx_ald_chain (pc := 123) F dX0_writeOut_123 (by omega) ?_
        rw [hch q (by omega)]
        refine zx_call_runProgram (pc := 124) F dX0_writeOut_124 (m_runProgram _ _ _ _ _ _ _ _ _ _ _ _ _ _ _ _ _ _ _ _ _ _ (sd_cf bas x q) _ _ _ _ hl2.1 r3 hl4.2.2.1 hl2.2.2.1 hou r4) (by decide) (Nat.le_of_ble_eq_true rfl) (fun s124 h124 => ?_)
        obtain ⟨ou3, un3, rfl, ho3⟩ := h124
        refine zz_iincG4 (pc := 127) F dX0_writeOut_127 (by decide) (zz_dec q) ?_
        refine zz_goto (pc := 130) 111 F dX0_writeOut_130 (by decide) ?_
        exact ih (by omega) _ _ ho3
    have loop2 : ∀ n2 i : Nat, i ≤ siz (sd_cf bas x (n - 1)) → siz (sd_cf bas x (n - 1)) < i + n2 → zz_W k (wX g (sd, sta, sav, pas, par, rfs, siz, bas, cel, pay, pri, fa, fb, fre, va_cpy pay ou (sd_cf bas x (n - 1) * 16) 0 i, un, pro, pl, ch2)) 70 [some (.ref (g.1 0)), some (.int (nI (x))), some (.int (nI (n))), some (.int (nI (sd_cf bas x (n - 1)))), some (.int (nI (i)))] [] := by
      intro n2
      induction n2 with
      | zero => intro i h1 h2; exfalso; omega
      | succ n2 ih =>
        intro i hi hm
        refine zz_iload4 (pc := 70) F dX0_writeOut_70 ?_
        refine zz_aload_n0 (pc := 72) F dX0_writeOut_72 ?_
        refine zx_get_size (pc := 73) F dX0_writeOut_73 ?_
        refine zz_iload_n3 (pc := 76) F dX0_writeOut_76 ?_
        refine zx_ald_size (pc := 77) F dX0_writeOut_77 (by omega) ?_
        refine zz_icmp_ge (pc := 78) 106 F dX0_writeOut_78 (by decide) (by omega) (by omega) (fun c78 => ?_) (fun c78 => ?_)
        · refine zz_iload_n2 (pc := 106) F dX0_writeOut_106 ?_
          refine zz_iconst_2 (pc := 107) F dX0_writeOut_107 ?_
          refine zz_isubG (pc := 108) F dX0_writeOut_108 ?_
          refine zz_top (zz_sub2 hn1) ?_
          refine zz_istore4 (pc := 109) F dX0_writeOut_109 (by decide) ?_
          exact loop3 (n - 1) (by omega) _ _ (fun q hq => by rw [cpy_in0 (by omega)]; exact hlv.2.2.2.2.2.1 hb0 q hq)
        · refine zz_aload_n0 (pc := 81) F dX0_writeOut_81 ?_
          refine zx_get_out (pc := 82) F dX0_writeOut_82 ?_
          refine zz_iload4 (pc := 85) F dX0_writeOut_85 ?_
          refine zz_aload_n0 (pc := 87) F dX0_writeOut_87 ?_
          refine zx_get_payload (pc := 88) F dX0_writeOut_88 ?_
          refine zz_iload_n3 (pc := 91) F dX0_writeOut_91 ?_
          refine zz_bipush_16 (pc := 92) F dX0_writeOut_92 ?_
          refine zz_imul (pc := 94) F dX0_writeOut_94 ?_
          refine zz_iload4 (pc := 95) F dX0_writeOut_95 ?_
          refine zz_iadd (pc := 97) F dX0_writeOut_97 ?_
          refine zx_ald_payload (pc := 98) F dX0_writeOut_98 (by omega) ?_
          refine zx_ast_out (pc := 99) F dX0_writeOut_99 (by omega) ?_
          refine zz_iinc4 (pc := 100) F dX0_writeOut_100 (by decide) ?_
          refine zz_goto (pc := 103) 70 F dX0_writeOut_103 (by decide) ?_
          rw [cpy_stepT]
          exact ih (i + 1) (by omega) (by omega)
    refine zz_aload_n0 (pc := 58) F dX0_writeOut_58 ?_
    refine zx_get_chain (pc := 59) F dX0_writeOut_59 ?_
    refine zz_iload_n2 (pc := 62) F dX0_writeOut_62 ?_
    refine zz_iconst_1 (pc := 63) F dX0_writeOut_63 ?_
    refine zz_isub (pc := 64) F dX0_writeOut_64 (by omega) ?_
    refine zx_ald_chain (pc := 65) F dX0_writeOut_65 (by omega) ?_
    rw [hch (n - 1) (by omega)]
    refine zz_istore_n3 (pc := 66) F dX0_writeOut_66 (by decide) ?_
    refine zz_iconst_0 (pc := 67) F dX0_writeOut_67 ?_
    refine zz_istore4 (pc := 68) F dX0_writeOut_68 (by decide) ?_
    have h := loop2 (siz (sd_cf bas x (n - 1)) + 1) 0 (by omega) (by omega)
    rw [cpy_0] at h
    exact h
  have loop : ∀ (n2 n : Nat) (ch2 : Nat → Nat), 1 ≤ n → n ≤ 3 → 3 < n + n2 → (∀ j, j < n → ch2 j = sd_cf bas x j) → (∀ j, j + 1 < n → 0 < bas (sd_cf bas x j)) → zz_W k (wX g (sd, sta, sav, pas, par, rfs, siz, bas, cel, pay, pri, fa, fb, fre, ou, un, pro, pl, ch2)) 9 [some (.ref (g.1 0)), some (.int (nI (x))), some (.int (nI (n))), none, none] [] := by
    intro n2
    induction n2 with
    | zero => intro n ch2 h1 h2 h3; exfalso; omega
    | succ n2 ih =>
      intro n ch2 hn1 hn3 hm hch hps
      have hlv := hC _ (cf_Lv hC hx (n - 1) (fun i hi => hps i (by omega)))
      have hlv1 := hlv.1
      have hlv2 := hlv.2.2.2.2.1
      refine zz_iload_n2 (pc := 9) F dX0_writeOut_9 ?_
      refine zz_bipush_8 (pc := 10) F dX0_writeOut_10 ?_
      refine zz_icmp_ge (pc := 12) 58 F dX0_writeOut_12 (by decide) (by omega) (by omega) (fun c12 => ?_) (fun c12 => ?_)
      · exfalso; omega
      · refine zz_aload_n0 (pc := 15) F dX0_writeOut_15 ?_
        refine zx_get_base (pc := 16) F dX0_writeOut_16 ?_
        refine zz_aload_n0 (pc := 19) F dX0_writeOut_19 ?_
        refine zx_get_chain (pc := 20) F dX0_writeOut_20 ?_
        refine zz_iload_n2 (pc := 23) F dX0_writeOut_23 ?_
        refine zz_iconst_1 (pc := 24) F dX0_writeOut_24 ?_
        refine zz_isub (pc := 25) F dX0_writeOut_25 (by omega) ?_
        refine zx_ald_chain (pc := 26) F dX0_writeOut_26 (by omega) ?_
        rw [hch (n - 1) (by omega)]
        refine zx_ald_base (pc := 27) F dX0_writeOut_27 (by omega) ?_
        refine zz_if_le (pc := 28) 58 F dX0_writeOut_28 (by decide) (by omega) (fun c28 => ?_) (fun c28 => ?_)
        · exact tail n ch2 hn1 hn3 hch hps c28
        · have hn4 : n + 1 ≤ 3 := by
            rcases Nat.lt_or_ge n 3 with q | q
            · exact q
            · have e : n = 3 := by omega
              subst e
              exact absurd c28 (fun _ => cf_two hC hx (hps 0 (by decide)) (hps 1 (by decide)) c28)
          refine zz_aload_n0 (pc := 31) F dX0_writeOut_31 ?_
          refine zx_get_chain (pc := 32) F dX0_writeOut_32 ?_
          refine zz_iload_n2 (pc := 35) F dX0_writeOut_35 ?_
          refine zz_aload_n0 (pc := 36) F dX0_writeOut_36 ?_
          refine zx_get_base (pc := 37) F dX0_writeOut_37 ?_
          refine zz_aload_n0 (pc := 40) F dX0_writeOut_40 ?_
          refine zx_get_chain (pc := 41) F dX0_writeOut_41 ?_
          refine zz_iload_n2 (pc := 44) F dX0_writeOut_44 ?_
          refine zz_iconst_1 (pc := 45) F dX0_writeOut_45 ?_
          refine zz_isub (pc := 46) F dX0_writeOut_46 (by omega) ?_
          refine zx_ald_chain (pc := 47) F dX0_writeOut_47 (by omega) ?_
          rw [hch (n - 1) (by omega)]
          refine zx_ald_base (pc := 48) F dX0_writeOut_48 (by omega) ?_
          refine zz_iconst_1 (pc := 49) F dX0_writeOut_49 ?_
          refine zz_isub (pc := 50) F dX0_writeOut_50 (by omega) ?_
          refine zx_ast_chain (pc := 51) F dX0_writeOut_51 (by omega) ?_
          refine zz_iinc2 (pc := 52) F dX0_writeOut_52 (by decide) ?_
          refine zz_goto (pc := 55) 9 F dX0_writeOut_55 (by decide) ?_
          refine ih (n + 1) _ (by omega) hn4 (by omega) (fun j hj => ?_) (fun j hj => ?_)
          · by_cases e : j = n
            · subst e
              rw [va_up_self]
              obtain ⟨q, rfl⟩ : ∃ q, j = q + 1 := ⟨j - 1, by omega⟩
              rfl
            · rw [va_up_ne _ _ e]
              exact hch j (by omega)
          · by_cases e : j + 1 = n
            · rw [show j = n - 1 by omega]
              exact c28
            · exact hps j (by omega)
  refine zz_iconst_1 (pc := 0) F dX0_writeOut_0 ?_
  refine zz_istore_n2 (pc := 1) F dX0_writeOut_1 (by decide) ?_
  refine zz_aload_n0 (pc := 2) F dX0_writeOut_2 ?_
  refine zx_get_chain (pc := 3) F dX0_writeOut_3 ?_
  refine zz_iconst_0 (pc := 6) F dX0_writeOut_6 ?_
  refine zz_iload_n1 (pc := 7) F dX0_writeOut_7 ?_
  refine zx_ast_chain (pc := 8) F dX0_writeOut_8 (by decide) ?_
  refine loop 3 1 _ (by decide) (by decide) (by decide) (fun j hj => ?_) (fun j hj => ?_)
  · rw [show j = 0 by omega, va_up_self]
    rfl
  · exfalso; omega
end
section
set_option maxRecDepth 100000
set_option maxHeartbeats 4000000 in
theorem m_makeProgram (l : Launch) (D : va_G) (g : ZG) (sd pl : Nat) (sta sav pas par rfs siz bas cel pay pri fa fb fre ou un pro ch : Nat → Nat) (n z : Nat) (h2 : n ≤ 16) (h4 : z ≤ 16) (h5 : ∀ q, q < n → fre q < 256) (h6 : ∀ q, q < z → ou q < 256) : zz_Mv l D g (wX g) yX0_makeProgram cX0_makeProgram 8 1 25 (sd, sta, sav, pas, par, rfs, siz, bas, cel, pay, pri, fa, fb, fre, ou, un, pro, pl, ch) [.ref (g.1 0), .int (nI n), .int (nI z)] (fun s => ∃ (pro2 : Nat → Nat) (pl2 : Nat), s = (sd, sta, sav, pas, par, rfs, siz, bas, cel, pay, pri, fa, fb, fre, ou, un, pro2, pl2, ch) ∧ pl2 ≤ 16 ∧ (pl2 < 16 → sd_PR pro2 pl2 ou z fre n)) := by
  refine zz_enter_v RX0 [some (.ref (g.1 0)), some (.int (nI n)), some (.int (nI z)), none, none, none, none, none] 5 (by decide) rfl (by intro v hv; simp only [List.mem_cons, List.not_mem_nil, or_false] at hv; rcases hv with rfl | rfl | rfl <;> rfl) (Nat.le_of_ble_eq_true rfl) rfl ?_
  intro k hkl hkD F hR
  subst hkl hkD
  have loop : ∀ (n2 i pl2 : Nat) (pro2 : Nat → Nat) (y4 y5 y6 y7 : Option Value), i ≤ n → n < i + n2 → pl2 ≤ 16 → sd_PR pro2 pl2 ou z fre i → zz_W k (wX g (sd, sta, sav, pas, par, rfs, siz, bas, cel, pay, pri, fa, fb, fre, ou, un, pro2, pl2, ch)) 7 [some (.ref (g.1 0)), some (.int (nI (n))), some (.int (nI (z))), some (.int (nI (i))), y4, y5, y6, y7] [] := by
    intro n2
    induction n2 with
    | zero => intro i pl2 pro2 y4 y5 y6 y7 h1 h2; exfalso; omega
    | succ n2 ih =>
      intro i pl2 pro2 y4 y5 y6 y7 hi hm hpl hpr
      have tail : ∀ (a b : Nat) (y6 y7 : Option Value), i < n → pl2 < 16 → a + b ≤ z → i + b ≤ n → (∀ q, q < b → fre (i + q) = ou (a + q)) → zz_W k (wX g (sd, sta, sav, pas, par, rfs, siz, bas, cel, pay, pri, fa, fb, fre, ou, un, pro2, pl2, ch)) 68 [some (.ref (g.1 0)), some (.int (nI (n))), some (.int (nI (z))), some (.int (nI (i))), some (.int (nI (a))), some (.int (nI (b))), y6, y7] [] := by
        intro a b y6 y7 hin hpl16 hab hib hq
        refine zz_iload5 (pc := 68) F dX0_makeProgram_68 ?_
        refine zz_iconst_2 (pc := 70) F dX0_makeProgram_70 ?_
        refine zz_icmp_lt (pc := 71) 105 F dX0_makeProgram_71 (by decide) (by omega) (by omega) (fun c71 => ?_) (fun c71 => ?_)
        · refine zz_aload_n0 (pc := 105) F dX0_makeProgram_105 ?_
          refine zx_get_program (pc := 106) F dX0_makeProgram_106 ?_
          refine zz_aload_n0 (pc := 109) F dX0_makeProgram_109 ?_
          refine zx_get_programLen (pc := 110) F dX0_makeProgram_110 ?_
          refine zz_aload_n0 (pc := 113) F dX0_makeProgram_113 ?_
          refine zx_get_fresh (pc := 114) F dX0_makeProgram_114 ?_
          refine zz_iload_n3 (pc := 117) F dX0_makeProgram_117 ?_
          refine zx_ald_fresh (pc := 118) F dX0_makeProgram_118 (by omega) ?_
          refine zx_ast_program (pc := 119) F dX0_makeProgram_119 (by omega) ?_
          refine zz_iinc3 (pc := 120) F dX0_makeProgram_120 (by decide) ?_
          refine zz_aload_n0 (pc := 123) F dX0_makeProgram_123 ?_
          refine zz_dup (pc := 124) F dX0_makeProgram_124 rfl ?_
          refine zx_get_programLen (pc := 125) F dX0_makeProgram_125 ?_
          refine zz_iconst_1 (pc := 128) F dX0_makeProgram_128 ?_
          refine zz_iadd (pc := 129) F dX0_makeProgram_129 ?_
          refine zx_put_programLen (pc := 130) F dX0_makeProgram_130 ?_
          refine zz_goto (pc := 133) 7 F dX0_makeProgram_133 (by decide) ?_
          first
            | exact ih (i + b) (pl2 + 1) _ _ _ _ _ (by omega) (by omega) (by omega) (PR_cpy hpr (by omega) hab h4 hq)
            | exact ih (i + 1) (pl2 + 1) _ _ _ _ _ (by omega) (by omega) (by omega) (PR_lit hpr (h5 i hin))
        · refine zz_aload_n0 (pc := 74) F dX0_makeProgram_74 ?_
          refine zx_get_program (pc := 75) F dX0_makeProgram_75 ?_
          refine zz_aload_n0 (pc := 78) F dX0_makeProgram_78 ?_
          refine zx_get_programLen (pc := 79) F dX0_makeProgram_79 ?_
          refine zz_sipush_256 (pc := 82) F dX0_makeProgram_82 ?_
          refine zz_iload4 (pc := 85) F dX0_makeProgram_85 ?_
          refine zz_bipush_16 (pc := 87) F dX0_makeProgram_87 ?_
          refine zz_imul (pc := 89) F dX0_makeProgram_89 ?_
          refine zz_iadd (pc := 90) F dX0_makeProgram_90 ?_
          refine zz_iload5 (pc := 91) F dX0_makeProgram_91 ?_
          refine zz_iadd (pc := 93) F dX0_makeProgram_93 ?_
          refine zz_iconst_1 (pc := 94) F dX0_makeProgram_94 ?_
          refine zz_isub (pc := 95) F dX0_makeProgram_95 (by omega) ?_
          refine zx_ast_program (pc := 96) F dX0_makeProgram_96 (by omega) ?_
          refine zz_iload_n3 (pc := 97) F dX0_makeProgram_97 ?_
          refine zz_iload5 (pc := 98) F dX0_makeProgram_98 ?_
          refine zz_iadd (pc := 100) F dX0_makeProgram_100 ?_
          refine zz_istore_n3 (pc := 101) F dX0_makeProgram_101 (by decide) ?_
          refine zz_goto (pc := 102) 123 F dX0_makeProgram_102 (by decide) ?_
          refine zz_aload_n0 (pc := 123) F dX0_makeProgram_123 ?_
          refine zz_dup (pc := 124) F dX0_makeProgram_124 rfl ?_
          refine zx_get_programLen (pc := 125) F dX0_makeProgram_125 ?_
          refine zz_iconst_1 (pc := 128) F dX0_makeProgram_128 ?_
          refine zz_iadd (pc := 129) F dX0_makeProgram_129 ?_
          refine zx_put_programLen (pc := 130) F dX0_makeProgram_130 ?_
          refine zz_goto (pc := 133) 7 F dX0_makeProgram_133 (by decide) ?_
          first
            | exact ih (i + b) (pl2 + 1) _ _ _ _ _ (by omega) (by omega) (by omega) (PR_cpy hpr (by omega) hab h4 hq)
            | exact ih (i + 1) (pl2 + 1) _ _ _ _ _ (by omega) (by omega) (by omega) (PR_lit hpr (h5 i hin))
      have inner : ∀ (n3 a b s : Nat) (y7 : Option Value), i < n → pl2 < 16 → s ≤ z → z < s + n3 → a + b ≤ z → i + b ≤ n → (∀ q, q < b → fre (i + q) = ou (a + q)) → zz_W k (wX g (sd, sta, sav, pas, par, rfs, siz, bas, cel, pay, pri, fa, fb, fre, ou, un, pro2, pl2, ch)) 30 [some (.ref (g.1 0)), some (.int (nI (n))), some (.int (nI (z))), some (.int (nI (i))), some (.int (nI (a))), some (.int (nI (b))), some (.int (nI (s))), y7] [] := by
        intro n3
        induction n3 with
        | zero => intro a b s y7 h1 h2 h3 h4; exfalso; omega
        | succ n3 ih3 =>
          intro a b s y7 hin hpl16 hs hm3 hab hib hq
          refine zz_iload6 (pc := 30) F dX0_makeProgram_30 ?_
          refine zz_iload_n2 (pc := 32) F dX0_makeProgram_32 ?_
          refine zz_icmp_ge (pc := 33) 68 F dX0_makeProgram_33 (by decide) (by omega) (by omega) (fun c33 => ?_) (fun c33 => ?_)
          · exact tail a b _ _ hin hpl16 hab hib hq
          · refine zz_aload_n0 (pc := 36) F dX0_makeProgram_36 ?_
            refine zz_iload_n3 (pc := 37) F dX0_makeProgram_37 ?_
            refine zz_iload_n1 (pc := 38) F dX0_makeProgram_38 ?_
            refine zz_iload6 (pc := 39) F dX0_makeProgram_39 ?_
            refine zz_iload_n2 (pc := 41) F dX0_makeProgram_41 ?_
            refine zx_call_matchLength (pc := 42) F dX0_makeProgram_42 (m_matchLength _ _ _ _ _ _ _ _ _ _ _ _ _ _ _ _ _ _ _ _ _ _ i n s z (by omega) h2 (by omega) h4 h5 h6) (by decide) (Nat.le_of_ble_eq_true rfl) (fun r42 s42 h42 => ?_)
            obtain ⟨rfl, m, rfl, hm1, hm2, hm4⟩ := h42
            refine zz_istore7 (pc := 45) F dX0_makeProgram_45 (by decide) ?_
            refine zz_iload7 (pc := 47) F dX0_makeProgram_47 ?_
            refine zz_iload5 (pc := 49) F dX0_makeProgram_49 ?_
            refine zz_icmp_le (pc := 51) 62 F dX0_makeProgram_51 (by decide) (by omega) (by omega) (fun c51 => ?_) (fun c51 => ?_)
            · refine zz_iinc6 (pc := 62) F dX0_makeProgram_62 (by decide) ?_
              refine zz_goto (pc := 65) 30 F dX0_makeProgram_65 (by decide) ?_
              first
                | exact ih3 s m (s + 1) _ hin hpl16 (by omega) (by omega) hm2 hm1 hm4
                | exact ih3 a b (s + 1) _ hin hpl16 (by omega) (by omega) hab hib hq
            · refine zz_iload7 (pc := 54) F dX0_makeProgram_54 ?_
              refine zz_istore5 (pc := 56) F dX0_makeProgram_56 (by decide) ?_
              refine zz_iload6 (pc := 58) F dX0_makeProgram_58 ?_
              refine zz_istore4 (pc := 60) F dX0_makeProgram_60 (by decide) ?_
              refine zz_iinc6 (pc := 62) F dX0_makeProgram_62 (by decide) ?_
              refine zz_goto (pc := 65) 30 F dX0_makeProgram_65 (by decide) ?_
              first
                | exact ih3 s m (s + 1) _ hin hpl16 (by omega) (by omega) hm2 hm1 hm4
                | exact ih3 a b (s + 1) _ hin hpl16 (by omega) (by omega) hab hib hq
      refine zz_iload_n3 (pc := 7) F dX0_makeProgram_7 ?_
      refine zz_iload_n1 (pc := 8) F dX0_makeProgram_8 ?_
      refine zz_icmp_ge (pc := 9) 136 F dX0_makeProgram_9 (by decide) (by omega) (by omega) (fun c9 => ?_) (fun c9 => ?_)
      · exact hR _ _ _ dX0_makeProgram_136 ⟨pro2, pl2, rfl, hpl, fun q => by
          first
            | (have e : i = n := by omega
               rw [← e]; exact hpr)
            | (exfalso; omega)⟩
      · refine zz_aload_n0 (pc := 12) F dX0_makeProgram_12 ?_
        refine zx_get_programLen (pc := 13) F dX0_makeProgram_13 ?_
        refine zz_bipush_16 (pc := 16) F dX0_makeProgram_16 ?_
        refine zz_icmp_ge (pc := 18) 136 F dX0_makeProgram_18 (by decide) (by omega) (by omega) (fun c18 => ?_) (fun c18 => ?_)
        · exact hR _ _ _ dX0_makeProgram_136 ⟨pro2, pl2, rfl, hpl, fun q => by
            first
              | (have e : i = n := by omega
                 rw [← e]; exact hpr)
              | (exfalso; omega)⟩
        · refine zz_iconst_0 (pc := 21) F dX0_makeProgram_21 ?_
          refine zz_istore4 (pc := 22) F dX0_makeProgram_22 (by decide) ?_
          refine zz_iconst_0 (pc := 24) F dX0_makeProgram_24 ?_
          refine zz_istore5 (pc := 25) F dX0_makeProgram_25 (by decide) ?_
          refine zz_iconst_0 (pc := 27) F dX0_makeProgram_27 ?_
          refine zz_istore6 (pc := 28) F dX0_makeProgram_28 (by decide) ?_
          exact inner (z + 1) 0 0 0 _ c9 c18 (by omega) (by omega) (by omega) (by omega) (fun q h => absurd h (Nat.not_lt_zero q))
  refine zz_aload_n0 (pc := 0) F dX0_makeProgram_0 ?_
  refine zz_iconst_0 (pc := 1) F dX0_makeProgram_1 ?_
  refine zx_put_programLen (pc := 2) F dX0_makeProgram_2 ?_
  refine zz_iconst_0 (pc := 5) F dX0_makeProgram_5 ?_
  refine zz_istore_n3 (pc := 6) F dX0_makeProgram_6 (by decide) ?_
  exact loop (n + 1) 0 0 pro _ _ _ _ (by omega) (by omega) (by omega) PR_nil
set_option maxHeartbeats 4000000 in
theorem m_storeAgainst (l : Launch) (D : va_G) (g : ZG) (sd pl : Nat) (sta sav pas par rfs siz bas cel pay pri fa fb fre ou un pro ch : Nat → Nat) (x n : Nat) (lk : Int32) (Lv : Nat → Prop) (C : Nat → Nat → Nat) (hC : sd_CC siz bas cel pay Lv C) (hx : x < 96) (hnl : ¬ Lv x) (h1 : 1 ≤ n) (h2 : n ≤ 16) (hs : siz x = n) (h5 : ∀ q, q < n → fre q < 256) (hk : lk = -1 ∨ ∃ y : Nat, lk = nI y ∧ Lv y ∧ sd_D1 bas y) : zz_Mv l D g (wX g) yX0_storeAgainst cX0_storeAgainst 5 3 73 (sd, sta, sav, pas, par, rfs, siz, bas, cel, pay, pri, fa, fb, fre, ou, un, pro, pl, ch) [.ref (g.1 0), .int (nI x), .int lk, .int (nI n)] (fun s => ∃ (bas2 cel2 pay2 ou2 un2 pro2 ch2 : Nat → Nat) (pl2 : Nat), s = (sd, sta, sav, pas, par, rfs, siz, bas2, cel2, pay2, pri, fa, fb, fre, ou2, un2, pro2, pl2, ch2) ∧ sd_CC siz bas2 cel2 pay2 (fun y => Lv y ∨ y = x) (va_up C x fre)) := by
  refine zz_enter_v RX0 [some (.ref (g.1 0)), some (.int (nI x)), some (.int lk), some (.int (nI n)), none] 1 (by decide) rfl (by intro v hv; simp only [List.mem_cons, List.not_mem_nil, or_false] at hv; rcases hv with rfl | rfl | rfl | rfl <;> rfl) (Nat.le_of_ble_eq_true rfl) rfl ?_
  intro k hkl hkD F hR
  subst hkl hkD
  have hne : ∀ y, Lv y → y ≠ x := fun y hy e => hnl (e ▸ hy)
  have hblk : ∀ (y : Nat) (f : Nat → Nat) (m i : Nat), Lv y → m ≤ 16 → i < 16 → va_cpy f pay 0 (x * 16) m (y * 16 + i) = pay (y * 16 + i) := fun y f m i hy hm hi => by
    have := hne y hy
    exact cpy_out (by omega)
  have raw : ∀ (lk2 : Int32) (ou2 un2 pro2 ch2 : Nat → Nat) (pl2 : Nat), zz_W k (wX g (sd, sta, sav, pas, par, rfs, siz, va_up bas x 0, cel, pay, pri, fa, fb, fre, ou2, un2, pro2, pl2, ch2)) 94 [some (.ref (g.1 0)), some (.int (nI (x))), some (.int (lk2)), some (.int (nI (n))), none] [] := by
    intro lk2 ou2 un2 pro2 ch2 pl2
    have loop : ∀ n2 i : Nat, i ≤ n → n < i + n2 → zz_W k (wX g (sd, sta, sav, pas, par, rfs, siz, va_up bas x 0, va_up cel x n, va_cpy fre pay 0 (x * 16) i, pri, fa, fb, fre, ou2, un2, pro2, pl2, ch2)) 104 [some (.ref (g.1 0)), some (.int (nI (x))), some (.int (lk2)), some (.int (nI (n))), some (.int (nI (i)))] [] := by
      intro n2
      induction n2 with
      | zero => intro i h1 h2; exfalso; omega
      | succ n2 ih =>
        intro i hi hm
        refine zz_iload4 (pc := 104) F dX0_storeAgainst_104 ?_
        refine zz_iload_n3 (pc := 106) F dX0_storeAgainst_106 ?_
        refine zz_icmp_ge (pc := 107) 135 F dX0_storeAgainst_107 (by decide) (by omega) (by omega) (fun c107 => ?_) (fun c107 => ?_)
        · have e : i = n := by omega
          subst e
          exact hR _ _ _ dX0_storeAgainst_135 ⟨_, _, _, ou2, un2, pro2, ch2, pl2, rfl, by
            refine CC_add (CC_congr hC (fun _ _ => rfl) (fun y hy => va_up_ne _ _ (hne y hy)) (fun y hy => va_up_ne _ _ (hne y hy)) (fun y hy j hj => hblk y fre _ j hy h2 hj) (fun y hy j hj => by rw [va_up_ne _ _ (hne y hy)])) ?_
            refine ⟨hx, by omega, by omega, fun j hj => by rw [va_up_self]; exact h5 j (by omega), by rw [va_up_self]; omega, fun _ j hj => ?_, fun q => ?_⟩
            · rw [va_up_self, cpy_in (by omega), Nat.zero_add]
            · rw [va_up_self] at q
              exact absurd q (Nat.lt_irrefl 0)⟩
        · refine zz_aload_n0 (pc := 110) F dX0_storeAgainst_110 ?_
          refine zx_get_payload (pc := 111) F dX0_storeAgainst_111 ?_
          refine zz_iload_n1 (pc := 114) F dX0_storeAgainst_114 ?_
          refine zz_bipush_16 (pc := 115) F dX0_storeAgainst_115 ?_
          refine zz_imul (pc := 117) F dX0_storeAgainst_117 ?_
          refine zz_iload4 (pc := 118) F dX0_storeAgainst_118 ?_
          refine zz_iadd (pc := 120) F dX0_storeAgainst_120 ?_
          refine zz_aload_n0 (pc := 121) F dX0_storeAgainst_121 ?_
          refine zx_get_fresh (pc := 122) F dX0_storeAgainst_122 ?_
          refine zz_iload4 (pc := 125) F dX0_storeAgainst_125 ?_
          refine zx_ald_fresh (pc := 127) F dX0_storeAgainst_127 (by omega) ?_
          refine zx_ast_payload (pc := 128) F dX0_storeAgainst_128 (by omega) ?_
          refine zz_iinc4 (pc := 129) F dX0_storeAgainst_129 (by decide) ?_
          refine zz_goto (pc := 132) 104 F dX0_storeAgainst_132 (by decide) ?_
          rw [cpy_stepA]
          exact ih (i + 1) (by omega) (by omega)
    refine zz_aload_n0 (pc := 94) F dX0_storeAgainst_94 ?_
    refine zx_get_cells (pc := 95) F dX0_storeAgainst_95 ?_
    refine zz_iload_n1 (pc := 98) F dX0_storeAgainst_98 ?_
    refine zz_iload_n3 (pc := 99) F dX0_storeAgainst_99 ?_
    refine zx_ast_cells (pc := 100) F dX0_storeAgainst_100 (by omega) ?_
    refine zz_iconst_0 (pc := 101) F dX0_storeAgainst_101 ?_
    refine zz_istore4 (pc := 102) F dX0_storeAgainst_102 (by decide) ?_
    have h := loop (n + 1) 0 (by omega) (by omega)
    rw [cpy_0] at h
    exact h
  rcases hk with rfl | ⟨y, rfl, hy, hd⟩
  · refine zz_aload_n0 (pc := 0) F dX0_storeAgainst_0 ?_
    refine zx_get_base (pc := 1) F dX0_storeAgainst_1 ?_
    refine zz_iload_n1 (pc := 4) F dX0_storeAgainst_4 ?_
    refine zz_iconst_0 (pc := 5) F dX0_storeAgainst_5 ?_
    refine zx_ast_base (pc := 6) F dX0_storeAgainst_6 (by omega) ?_
    refine zz_iload_n2 (pc := 7) F dX0_storeAgainst_7 ?_
    refine zz_if_ltG (pc := 8) 94 F dX0_storeAgainst_8 (by decide) (fun c8 => ?_) (fun c8 => ?_)
    · exact raw _ _ _ _ _ _
    · exact absurd (by decide) c8
  · have hyx := hne y hy
    have hy96 := (hC y hy).1
    have hC0 : sd_CC siz (va_up bas x 0) cel pay Lv C := CC_congr hC (fun _ _ => rfl) (fun y hy => va_up_ne _ _ (hne y hy)) (fun _ _ => rfl) (fun _ _ _ _ => rfl) (fun _ _ _ _ => rfl)
    have loop : ∀ (n2 i : Nat) (ou2 un2 pro2 ch2 : Nat → Nat) (pl2 : Nat), i ≤ pl2 → pl2 < i + n2 → pl2 ≤ 8 → sd_PR pro2 pl2 ou2 (siz y) fre n → (∀ q, q < siz y → ou2 q = C y q) → zz_W k (wX g (sd, sta, sav, pas, par, rfs, siz, va_up (va_up bas x 0) x (y + 1), va_up cel x pl2, va_cpy pro2 pay 0 (x * 16) i, pri, fa, fb, fre, ou2, un2, pro2, pl2, ch2)) 59 [some (.ref (g.1 0)), some (.int (nI (x))), some (.int (nI (y))), some (.int (nI (n))), some (.int (nI (i)))] [] := by
      intro n2
      induction n2 with
      | zero => intro i ou2 un2 pro2 ch2 pl2 h1 h2; exfalso; omega
      | succ n2 ih =>
        intro i ou2 un2 pro2 ch2 pl2 hi hm hpl8 hpr hou
        refine zz_iload4 (pc := 59) F dX0_storeAgainst_59 ?_
        refine zz_aload_n0 (pc := 61) F dX0_storeAgainst_61 ?_
        refine zx_get_programLen (pc := 62) F dX0_storeAgainst_62 ?_
        refine zz_icmp_ge (pc := 65) 93 F dX0_storeAgainst_65 (by decide) (by omega) (by omega) (fun c65 => ?_) (fun c65 => ?_)
        · have e : i = pl2 := by omega
          subst e
          exact hR _ _ _ dX0_storeAgainst_93 ⟨_, _, _, ou2, un2, pro2, ch2, i, rfl, by
            refine CC_add (CC_congr hC (fun _ _ => rfl) (fun y hy => by rw [va_up_ne _ _ (hne y hy), va_up_ne _ _ (hne y hy)]) (fun y hy => va_up_ne _ _ (hne y hy)) (fun y hy j hj => hblk y pro2 _ j hy (by omega) hj) (fun y hy j hj => by rw [va_up_ne _ _ (hne y hy)])) ?_
            refine ⟨hx, by omega, by omega, fun j hj => by rw [va_up_self]; exact h5 j (by omega), by rw [va_up_self]; omega, fun q => ?_, fun _ => ?_⟩
            · rw [va_up_self] at q
              exact absurd q (by omega)
            · rw [va_up_self, va_up_self, va_up_self, Nat.add_sub_cancel, va_up_ne C _ hyx, hs]
              refine ⟨Or.inl hy, ?_, by omega, PR_congr hpr (fun p hp => by rw [cpy_in hp, Nat.zero_add]) (fun p hp => (hou p hp).symm) (fun _ _ => rfl)⟩
              unfold sd_D2
              rw [va_up_self, Nat.add_sub_cancel, va_up_ne _ _ hyx, va_up_ne _ _ hyx]
              rcases hd with q | q
              · exact Or.inr (Or.inl q)
              · by_cases e : bas y = 0
                · exact Or.inr (Or.inl e)
                · have hb := ((hC y hy).2.2.2.2.2.2 (Nat.pos_of_ne_zero e)).1
                  rw [va_up_ne _ _ (hne _ hb), va_up_ne _ _ (hne _ hb)]
                  exact Or.inr (Or.inr q)⟩
        · refine zz_aload_n0 (pc := 68) F dX0_storeAgainst_68 ?_
          refine zx_get_payload (pc := 69) F dX0_storeAgainst_69 ?_
          refine zz_iload_n1 (pc := 72) F dX0_storeAgainst_72 ?_
          refine zz_bipush_16 (pc := 73) F dX0_storeAgainst_73 ?_
          refine zz_imul (pc := 75) F dX0_storeAgainst_75 ?_
          refine zz_iload4 (pc := 76) F dX0_storeAgainst_76 ?_
          refine zz_iadd (pc := 78) F dX0_storeAgainst_78 ?_
          refine zz_aload_n0 (pc := 79) F dX0_storeAgainst_79 ?_
          refine zx_get_program (pc := 80) F dX0_storeAgainst_80 ?_
          refine zz_iload4 (pc := 83) F dX0_storeAgainst_83 ?_
          refine zx_ald_program (pc := 85) F dX0_storeAgainst_85 (by omega) ?_
          refine zx_ast_payload (pc := 86) F dX0_storeAgainst_86 (by omega) ?_
          refine zz_iinc4 (pc := 87) F dX0_storeAgainst_87 (by decide) ?_
          refine zz_goto (pc := 90) 59 F dX0_storeAgainst_90 (by decide) ?_
          rw [cpy_stepA]
          exact ih (i + 1) ou2 un2 pro2 ch2 pl2 (by omega) (by omega) hpl8 hpr hou
    refine zz_aload_n0 (pc := 0) F dX0_storeAgainst_0 ?_
    refine zx_get_base (pc := 1) F dX0_storeAgainst_1 ?_
    refine zz_iload_n1 (pc := 4) F dX0_storeAgainst_4 ?_
    refine zz_iconst_0 (pc := 5) F dX0_storeAgainst_5 ?_
    refine zx_ast_base (pc := 6) F dX0_storeAgainst_6 (by omega) ?_
    refine zz_iload_n2 (pc := 7) F dX0_storeAgainst_7 ?_
    refine zz_if_lt (pc := 8) 94 F dX0_storeAgainst_8 (by decide) (by omega) ?_
    refine zz_aload_n0 (pc := 11) F dX0_storeAgainst_11 ?_
    refine zz_iload_n2 (pc := 12) F dX0_storeAgainst_12 ?_
    refine zx_call_writeOut (pc := 13) F dX0_storeAgainst_13 (m_writeOut _ _ _ _ _ _ _ _ _ _ _ _ _ _ _ _ _ _ _ _ _ _ y Lv C hC0 hy) (by decide) (Nat.le_of_ble_eq_true rfl) (fun s13 h13 => ?_)
    obtain ⟨ou2, un2, ch2, rfl, hou⟩ := h13
    refine zz_aload_n0 (pc := 16) F dX0_storeAgainst_16 ?_
    refine zz_iload_n3 (pc := 17) F dX0_storeAgainst_17 ?_
    refine zz_aload_n0 (pc := 18) F dX0_storeAgainst_18 ?_
    refine zx_get_size (pc := 19) F dX0_storeAgainst_19 ?_
    refine zz_iload_n2 (pc := 22) F dX0_storeAgainst_22 ?_
    refine zx_ald_size (pc := 23) F dX0_storeAgainst_23 (by omega) ?_
    refine zx_call_makeProgram (pc := 24) F dX0_storeAgainst_24 (m_makeProgram _ _ _ _ _ _ _ _ _ _ _ _ _ _ _ _ _ _ _ _ _ _ n (siz y) h2 (hC y hy).2.2.1 h5 (fun q hq => by rw [hou q hq]; exact (hC y hy).2.2.2.1 q hq)) (by decide) (Nat.le_of_ble_eq_true rfl) (fun s24 h24 => ?_)
    obtain ⟨pro3, pl3, rfl, hpl, hpr⟩ := h24
    refine zz_aload_n0 (pc := 27) F dX0_storeAgainst_27 ?_
    refine zx_get_programLen (pc := 28) F dX0_storeAgainst_28 ?_
    refine zz_iload_n3 (pc := 31) F dX0_storeAgainst_31 ?_
    refine zz_iconst_2 (pc := 32) F dX0_storeAgainst_32 ?_
    refine zz_idiv (pc := 33) F dX0_storeAgainst_33 (by omega) (by decide) (by decide) ?_
    refine zz_icmp_gt (pc := 34) 94 F dX0_storeAgainst_34 (by decide) (by omega) (by omega) (fun c34 => ?_) (fun c34 => ?_)
    · exact raw _ _ _ _ _ _
    · refine zz_aload_n0 (pc := 37) F dX0_storeAgainst_37 ?_
      refine zx_get_base (pc := 38) F dX0_storeAgainst_38 ?_
      refine zz_iload_n1 (pc := 41) F dX0_storeAgainst_41 ?_
      refine zz_iload_n2 (pc := 42) F dX0_storeAgainst_42 ?_
      refine zz_iconst_1 (pc := 43) F dX0_storeAgainst_43 ?_
      refine zz_iadd (pc := 44) F dX0_storeAgainst_44 ?_
      refine zx_ast_base (pc := 45) F dX0_storeAgainst_45 (by omega) ?_
      refine zz_aload_n0 (pc := 46) F dX0_storeAgainst_46 ?_
      refine zx_get_cells (pc := 47) F dX0_storeAgainst_47 ?_
      refine zz_iload_n1 (pc := 50) F dX0_storeAgainst_50 ?_
      refine zz_aload_n0 (pc := 51) F dX0_storeAgainst_51 ?_
      refine zx_get_programLen (pc := 52) F dX0_storeAgainst_52 ?_
      refine zx_ast_cells (pc := 55) F dX0_storeAgainst_55 (by omega) ?_
      refine zz_iconst_0 (pc := 56) F dX0_storeAgainst_56 ?_
      refine zz_istore4 (pc := 57) F dX0_storeAgainst_57 (by decide) ?_
      have h := loop (pl3 + 1) 0 ou2 un2 pro3 ch2 pl3 (by omega) (by omega) (by omega) (hpr (by omega)) hou
      rw [cpy_0] at h
      exact h
set_option maxHeartbeats 4000000 in
theorem m_findEqual (l : Launch) (D : va_G) (g : ZG) (sd pl : Nat) (sta sav pas par rfs siz bas cel pay pri fa fb fre ou un pro ch : Nat → Nat) (mk : Int32) (n : Nat) (C : Nat → Nat → Nat) (hC : sd_CC siz bas cel pay (fun y => y < 96 ∧ 0 < rfs y) C) (hr : ∀ y, y < 96 → rfs y ≤ 96) (h2 : n ≤ 16) (h5 : ∀ q, q < n → fre q < 256) : zz_Mi l D g (wX g) yX0_findEqual cX0_findEqual 4 3 73 .int (sd, sta, sav, pas, par, rfs, siz, bas, cel, pay, pri, fa, fb, fre, ou, un, pro, pl, ch) [.ref (g.1 0), .int mk, .int (nI n)] (fun r s => (∃ ou2 un2 ch2 : Nat → Nat, s = (sd, sta, sav, pas, par, rfs, siz, bas, cel, pay, pri, fa, fb, fre, ou2, un2, pro, pl, ch2)) ∧ (r = -1 ∨ ∃ y : Nat, r = nI y ∧ y < 96 ∧ 0 < rfs y ∧ siz y = n ∧ ∀ i, i < n → C y i = fre i)) := by
  refine zz_enter_i RX0 [some (.ref (g.1 0)), some (.int mk), some (.int (nI n)), none] 1 (by decide) rfl (by intro v hv; simp only [List.mem_cons, List.not_mem_nil, or_false] at hv; rcases hv with rfl | rfl | rfl <;> rfl) (Nat.le_of_ble_eq_true rfl) rfl ?_
  intro k hkl hkD F hR
  subst hkl hkD
  have loop : ∀ (n2 i : Nat) (ou2 un2 ch2 : Nat → Nat), i ≤ 96 → 96 < i + n2 → zz_W k (wX g (sd, sta, sav, pas, par, rfs, siz, bas, cel, pay, pri, fa, fb, fre, ou2, un2, pro, pl, ch2)) 2 [some (.ref (g.1 0)), some (.int (mk)), some (.int (nI (n))), some (.int (nI (i)))] [] := by
    intro n2
    induction n2 with
    | zero => intro i ou2 un2 ch2 h1 h2; exfalso; omega
    | succ n2 ih =>
      intro i ou2 un2 ch2 hi hm
      refine zz_iload_n3 (pc := 2) F dX0_findEqual_2 ?_
      refine zz_bipush_96 (pc := 3) F dX0_findEqual_3 ?_
      refine zz_icmp_ge (pc := 5) 58 F dX0_findEqual_5 (by decide) (by omega) (by omega) (fun c5 => ?_) (fun c5 => ?_)
      · refine zz_iconst_m1 (pc := 58) F dX0_findEqual_58 ?_
        exact hR _ _ _ _ dX0_findEqual_59 (vp_nar_int _) ⟨⟨ou2, un2, ch2, rfl⟩, Or.inl rfl⟩
      · have hri := hr i c5
        refine zz_aload_n0 (pc := 8) F dX0_findEqual_8 ?_
        refine zx_get_refs (pc := 9) F dX0_findEqual_9 ?_
        refine zz_iload_n3 (pc := 12) F dX0_findEqual_12 ?_
        refine zx_ald_refs (pc := 13) F dX0_findEqual_13 (by omega) ?_
        refine zz_if_le (pc := 14) 52 F dX0_findEqual_14 (by decide) (by omega) (fun c14 => ?_) (fun c14 => ?_)
        · refine zz_iinc3 (pc := 52) F dX0_findEqual_52 (by decide) ?_
          refine zz_goto (pc := 55) 2 F dX0_findEqual_55 (by decide) ?_
          exact ih (i + 1) _ _ _ (by omega) (by omega)
        · have hci := hC i ⟨c5, c14⟩
          have hsi := hci.2.2.1
          refine zz_aload_n0 (pc := 17) F dX0_findEqual_17 ?_
          refine zx_get_print (pc := 18) F dX0_findEqual_18 ?_
          refine zz_iload_n3 (pc := 21) F dX0_findEqual_21 ?_
          refine zx_ald_print (pc := 22) F dX0_findEqual_22 (by omega) ?_
          refine zz_iload_n1 (pc := 23) F dX0_findEqual_23 ?_
          refine zz_icmp_neG (pc := 24) 52 F dX0_findEqual_24 (by decide) (fun c24 => ?_) (fun c24 => ?_)
          · refine zz_iinc3 (pc := 52) F dX0_findEqual_52 (by decide) ?_
            refine zz_goto (pc := 55) 2 F dX0_findEqual_55 (by decide) ?_
            exact ih (i + 1) _ _ _ (by omega) (by omega)
          · refine zz_aload_n0 (pc := 27) F dX0_findEqual_27 ?_
            refine zx_get_size (pc := 28) F dX0_findEqual_28 ?_
            refine zz_iload_n3 (pc := 31) F dX0_findEqual_31 ?_
            refine zx_ald_size (pc := 32) F dX0_findEqual_32 (by omega) ?_
            refine zz_iload_n2 (pc := 33) F dX0_findEqual_33 ?_
            refine zz_icmp_ne (pc := 34) 52 F dX0_findEqual_34 (by decide) (by omega) (by omega) (fun c34 => ?_) (fun c34 => ?_)
            · refine zz_iinc3 (pc := 52) F dX0_findEqual_52 (by decide) ?_
              refine zz_goto (pc := 55) 2 F dX0_findEqual_55 (by decide) ?_
              exact ih (i + 1) _ _ _ (by omega) (by omega)
            · subst c34
              refine zz_aload_n0 (pc := 37) F dX0_findEqual_37 ?_
              refine zz_iload_n3 (pc := 38) F dX0_findEqual_38 ?_
              refine zx_call_writeOut (pc := 39) F dX0_findEqual_39 (m_writeOut _ _ _ _ _ _ _ _ _ _ _ _ _ _ _ _ _ _ _ _ _ _ i _ C hC ⟨c5, c14⟩) (by decide) (Nat.le_of_ble_eq_true rfl) (fun s39 h39 => ?_)
              obtain ⟨ou3, un3, ch3, rfl, hou⟩ := h39
              refine zz_aload_n0 (pc := 42) F dX0_findEqual_42 ?_
              refine zz_iload_n2 (pc := 43) F dX0_findEqual_43 ?_
              refine zx_call_outIsFresh (pc := 44) F dX0_findEqual_44 (m_outIsFresh _ _ _ _ _ _ _ _ _ _ _ _ _ _ _ _ _ _ _ _ _ _ (siz i) h2 h5 (fun q hq => by rw [hou q hq]; exact hci.2.2.2.1 q hq)) (by decide) (Nat.le_of_ble_eq_true rfl) (fun r44 s44 h44 => ?_)
              obtain ⟨rfl, rfl | ⟨rfl, hof⟩⟩ := h44
              · refine zz_if_eq (pc := 47) 52 F dX0_findEqual_47 (by decide) (by decide) (fun c47 => ?_) (fun c47 => ?_)
                · refine zz_iinc3 (pc := 52) F dX0_findEqual_52 (by decide) ?_
                  refine zz_goto (pc := 55) 2 F dX0_findEqual_55 (by decide) ?_
                  exact ih (i + 1) _ _ _ (by omega) (by omega)
                · exact absurd c47 (by decide)
              · refine zz_if_eq (pc := 47) 52 F dX0_findEqual_47 (by decide) (by decide) (fun c47 => ?_) (fun c47 => ?_)
                · exact absurd c47 (by decide)
                · refine zz_iload_n3 (pc := 50) F dX0_findEqual_50 ?_
                  exact hR _ _ _ _ dX0_findEqual_51 (vp_nar_int _) ⟨⟨ou3, un3, ch3, rfl⟩, Or.inr ⟨i, rfl, c5, c14, rfl, fun q hq => (hou q hq).symm.trans (hof q hq)⟩⟩
  refine zz_iconst_0 (pc := 0) F dX0_findEqual_0 ?_
  refine zz_istore_n3 (pc := 1) F dX0_findEqual_1 (by decide) ?_
  exact loop 97 0 _ _ _ (by decide) (by decide)
end
section
set_option maxRecDepth 100000
theorem CC_iff {siz bas cel pay : Nat → Nat} {Lv Lv2 : Nat → Prop} {C : Nat → Nat → Nat} (hC : sd_CC siz bas cel pay Lv C) (h : ∀ y, Lv2 y ↔ Lv y) : sd_CC siz bas cel pay Lv2 C := CC_sub hC (fun y hy => (h y).mp hy) (fun y hy hb => (h _).mpr ((hC y ((h y).mp hy)).2.2.2.2.2.2 hb).1)
set_option maxHeartbeats 4000000 in
theorem m_makeRaw (l : Launch) (D : va_G) (g : ZG) (sd pl : Nat) (sta sav pas par rfs siz bas cel pay pri fa fb fre ou un pro ch : Nat → Nat) (x : Nat) (Lv : Nat → Prop) (C : Nat → Nat → Nat) (hC : sd_CC siz bas cel pay Lv C) (hx : Lv x) : zz_Mv l D g (wX g) yX0_makeRaw cX0_makeRaw 3 3 73 (sd, sta, sav, pas, par, rfs, siz, bas, cel, pay, pri, fa, fb, fre, ou, un, pro, pl, ch) [.ref (g.1 0), .int (nI x)] (fun s => ∃ cel2 pay2 ou2 un2 ch2 : Nat → Nat, s = (sd, sta, sav, pas, par, rfs, siz, va_up bas x 0, cel2, pay2, pri, fa, fb, fre, ou2, un2, pro, pl, ch2) ∧ sd_CC siz (va_up bas x 0) cel2 pay2 Lv C) := by
  refine zz_enter_v RX0 [some (.ref (g.1 0)), some (.int (nI x)), none] 1 (by decide) rfl (by intro v hv; simp only [List.mem_cons, List.not_mem_nil, or_false] at hv; rcases hv with rfl | rfl <;> rfl) (Nat.le_of_ble_eq_true rfl) rfl ?_
  intro k hkl hkD F hR
  subst hkl hkD
  have hx1 := (hC x hx).1
  have hx2 := (hC x hx).2.2.1
  have loop : ∀ (n2 i : Nat) (ou2 un2 ch2 : Nat → Nat), i ≤ siz x → siz x < i + n2 → (∀ q, q < siz x → ou2 q = C x q) → zz_W k (wX g (sd, sta, sav, pas, par, rfs, siz, va_up bas x 0, va_up cel x (siz x), va_cpy ou2 pay 0 (x * 16) i, pri, fa, fb, fre, ou2, un2, pro, pl, ch2)) 26 [some (.ref (g.1 0)), some (.int (nI (x))), some (.int (nI (i)))] [] := by
    intro n2
    induction n2 with
    | zero => intro i ou2 un2 ch2 h1 h2; exfalso; omega
    | succ n2 ih =>
      intro i ou2 un2 ch2 hi hm hou
      refine zz_iload_n2 (pc := 26) F dX0_makeRaw_26 ?_
      refine zz_aload_n0 (pc := 27) F dX0_makeRaw_27 ?_
      refine zx_get_size (pc := 28) F dX0_makeRaw_28 ?_
      refine zz_iload_n1 (pc := 31) F dX0_makeRaw_31 ?_
      refine zx_ald_size (pc := 32) F dX0_makeRaw_32 (by omega) ?_
      refine zz_icmp_ge (pc := 33) 59 F dX0_makeRaw_33 (by decide) (by omega) (by omega) (fun c33 => ?_) (fun c33 => ?_)
      · exact hR _ _ _ dX0_makeRaw_59 ⟨_, _, ou2, un2, ch2, rfl, CC_raw hC (fun y hy => va_up_ne _ _ hy) (fun y hy j hj => cpy_out (by omega)) (fun j hj => by rw [cpy_in (by omega), Nat.zero_add]; exact hou j hj)⟩
      · refine zz_aload_n0 (pc := 36) F dX0_makeRaw_36 ?_
        refine zx_get_payload (pc := 37) F dX0_makeRaw_37 ?_
        refine zz_iload_n1 (pc := 40) F dX0_makeRaw_40 ?_
        refine zz_bipush_16 (pc := 41) F dX0_makeRaw_41 ?_
        refine zz_imul (pc := 43) F dX0_makeRaw_43 ?_
        refine zz_iload_n2 (pc := 44) F dX0_makeRaw_44 ?_
        refine zz_iadd (pc := 45) F dX0_makeRaw_45 ?_
        refine zz_aload_n0 (pc := 46) F dX0_makeRaw_46 ?_
        refine zx_get_out (pc := 47) F dX0_makeRaw_47 ?_
        refine zz_iload_n2 (pc := 50) F dX0_makeRaw_50 ?_
        refine zx_ald_out (pc := 51) F dX0_makeRaw_51 (by omega) ?_
        refine zx_ast_payload (pc := 52) F dX0_makeRaw_52 (by omega) ?_
        refine zz_iinc2 (pc := 53) F dX0_makeRaw_53 (by decide) ?_
        refine zz_goto (pc := 56) 26 F dX0_makeRaw_56 (by decide) ?_
        rw [cpy_stepA]
        exact ih (i + 1) ou2 un2 ch2 (by omega) (by omega) hou
  refine zz_aload_n0 (pc := 0) F dX0_makeRaw_0 ?_
  refine zz_iload_n1 (pc := 1) F dX0_makeRaw_1 ?_
  refine zx_call_writeOut (pc := 2) F dX0_makeRaw_2 (m_writeOut _ _ _ _ _ _ _ _ _ _ _ _ _ _ _ _ _ _ _ _ _ _ x Lv C hC hx) (by decide) (Nat.le_of_ble_eq_true rfl) (fun s2 h2 => ?_)
  obtain ⟨ou2, un2, ch2, rfl, hou⟩ := h2
  refine zz_aload_n0 (pc := 5) F dX0_makeRaw_5 ?_
  refine zx_get_base (pc := 6) F dX0_makeRaw_6 ?_
  refine zz_iload_n1 (pc := 9) F dX0_makeRaw_9 ?_
  refine zz_iconst_0 (pc := 10) F dX0_makeRaw_10 ?_
  refine zx_ast_base (pc := 11) F dX0_makeRaw_11 (by omega) ?_
  refine zz_aload_n0 (pc := 12) F dX0_makeRaw_12 ?_
  refine zx_get_cells (pc := 13) F dX0_makeRaw_13 ?_
  refine zz_iload_n1 (pc := 16) F dX0_makeRaw_16 ?_
  refine zz_aload_n0 (pc := 17) F dX0_makeRaw_17 ?_
  refine zx_get_size (pc := 18) F dX0_makeRaw_18 ?_
  refine zz_iload_n1 (pc := 21) F dX0_makeRaw_21 ?_
  refine zx_ald_size (pc := 22) F dX0_makeRaw_22 (by omega) ?_
  refine zx_ast_cells (pc := 23) F dX0_makeRaw_23 (by omega) ?_
  refine zz_iconst_0 (pc := 24) F dX0_makeRaw_24 ?_
  refine zz_istore_n2 (pc := 25) F dX0_makeRaw_25 (by decide) ?_
  have h := loop (siz x + 1) 0 ou2 un2 ch2 (by omega) (by omega) hou
  rw [cpy_0] at h
  exact h
set_option maxHeartbeats 4000000 in
theorem m_release (l : Launch) (D : va_G) (g : ZG) (sd pl : Nat) (sta sav pas par rfs siz bas cel pay pri fa fb fre ou un pro ch : Nat → Nat) (x : Nat) (C : Nat → Nat → Nat) (hC : sd_CC siz bas cel pay (fun y => y < 96 ∧ 0 < rfs y) C) (hr : ∀ y, y < 96 → rfs y ≤ 96) (hx : x < 96) (h0 : 0 < rfs x) : zz_Mv l D g (wX g) yX0_release cX0_release 3 4 95 (sd, sta, sav, pas, par, rfs, siz, bas, cel, pay, pri, fa, fb, fre, ou, un, pro, pl, ch) [.ref (g.1 0), .int (nI x)] (fun s => ∃ bas2 cel2 pay2 ou2 un2 ch2 : Nat → Nat, s = (sd, sta, sav, pas, par, va_up rfs x (rfs x - 1), siz, bas2, cel2, pay2, pri, fa, fb, fre, ou2, un2, pro, pl, ch2) ∧ sd_CC siz bas2 cel2 pay2 (fun y => y < 96 ∧ 0 < va_up rfs x (rfs x - 1) y) C) := by
  refine zz_enter_v RX0 [some (.ref (g.1 0)), some (.int (nI x)), none] 1 (by decide) rfl (by intro v hv; simp only [List.mem_cons, List.not_mem_nil, or_false] at hv; rcases hv with rfl | rfl <;> rfl) (Nat.le_of_ble_eq_true rfl) rfl ?_
  intro k hkl hkD F hR
  subst hkl hkD
  have hx96 := hr x hx
  have hle : ∀ d, d < 96 → va_up rfs x (rfs x - 1) d ≤ 96 := fun d hd => by
    have := hr d hd
    rw [up_at]
    split <;> omega
  have loop : ∀ (n2 d : Nat) (bas2 cel2 pay2 ou2 un2 ch2 : Nat → Nat), rfs x - 1 = 0 → d ≤ 96 → 96 < d + n2 → sd_CC siz bas2 cel2 pay2 (fun y => y < 96 ∧ 0 < rfs y) C → (∀ y, y < d → 0 < va_up rfs x (rfs x - 1) y → bas2 y ≠ x + 1) → zz_W k (wX g (sd, sta, sav, pas, par, va_up rfs x (rfs x - 1), siz, bas2, cel2, pay2, pri, fa, fb, fre, ou2, un2, pro, pl, ch2)) 22 [some (.ref (g.1 0)), some (.int (nI (x))), some (.int (nI (d)))] [] := by
    intro n2
    induction n2 with
    | zero => intro d bas2 cel2 pay2 ou2 un2 ch2 hz h1 h2; exfalso; omega
    | succ n2 ih =>
      intro d bas2 cel2 pay2 ou2 un2 ch2 hz hd hm hC2 hno
      refine zz_iload_n2 (pc := 22) F dX0_release_22 ?_
      refine zz_bipush_96 (pc := 23) F dX0_release_23 ?_
      refine zz_icmp_ge (pc := 25) 60 F dX0_release_25 (by decide) (by omega) (by omega) (fun c25 => ?_) (fun c25 => ?_)
      · refine zz_aload_n0 (pc := 60) F dX0_release_60 ?_
        refine zx_get_base (pc := 61) F dX0_release_61 ?_
        refine zz_iload_n1 (pc := 64) F dX0_release_64 ?_
        refine zz_iconst_0 (pc := 65) F dX0_release_65 ?_
        refine zx_ast_base (pc := 66) F dX0_release_66 (by omega) ?_
        exact hR _ _ _ dX0_release_67 ⟨_, cel2, pay2, ou2, un2, ch2, rfl, by
          have hC4 : sd_CC siz bas2 cel2 pay2 (fun y => y < 96 ∧ 0 < va_up rfs x (rfs x - 1) y) C := CC_sub hC2 (fun y hy => ⟨hy.1, by
              by_cases e : y = x
              · rw [e]; exact h0
              · have := hy.2
                rw [va_up_ne _ _ e] at this
                exact this⟩) (fun y hy hb => by
              have hyl : y < 96 ∧ 0 < rfs y := ⟨hy.1, by
                by_cases e : y = x
                · rw [e]; exact h0
                · have := hy.2
                  rw [va_up_ne _ _ e] at this
                  exact this⟩
              have hbl := ((hC2 y hyl).2.2.2.2.2.2 hb).1
              have hne := hno y (by omega) hy.2
              refine ⟨hbl.1, ?_⟩
              rw [va_up_ne _ _ (by omega)]
              exact hbl.2)
          exact CC_congr hC4 (fun _ _ => rfl) (fun y hy => va_up_ne _ _ (fun e => by
            have := hy.2
            rw [e, va_up_self] at this
            omega)) (fun _ _ => rfl) (fun _ _ _ _ => rfl) (fun _ _ _ _ => rfl)⟩
      · have hled := hle d c25
        refine zz_aload_n0 (pc := 28) F dX0_release_28 ?_
        refine zx_get_refs (pc := 29) F dX0_release_29 ?_
        refine zz_iload_n2 (pc := 32) F dX0_release_32 ?_
        refine zx_ald_refs (pc := 33) F dX0_release_33 (by omega) ?_
        refine zz_if_le (pc := 34) 54 F dX0_release_34 (by decide) (by omega) (fun c34 => ?_) (fun c34 => ?_)
        · refine zz_iinc2 (pc := 54) F dX0_release_54 (by decide) ?_
          refine zz_goto (pc := 57) 22 F dX0_release_57 (by decide) ?_
          first
            | exact ih (d + 1) _ _ _ _ _ _ hz (by omega) (by omega) hC3 (fun y hy hl => by
                by_cases e : y = d
                · rw [e, va_up_self]; omega
                · rw [va_up_ne _ _ e]; exact hno y (by omega) hl)
            | exact ih (d + 1) _ _ _ _ _ _ hz (by omega) (by omega) hC2 (fun y hy hl => by
                by_cases e : y = d
                · subst e
                  first
                    | exact c46
                    | (exfalso; omega)
                · exact hno y (by omega) hl)
        · have hdx : d ≠ x := fun e => by
            rw [e, va_up_self] at c34
            omega
          have hdl : d < 96 ∧ 0 < rfs d := ⟨c25, by rw [va_up_ne _ _ hdx] at c34; exact c34⟩
          have hb96 := (hC2 d hdl).2.2.2.2.1
          refine zz_aload_n0 (pc := 37) F dX0_release_37 ?_
          refine zx_get_base (pc := 38) F dX0_release_38 ?_
          refine zz_iload_n2 (pc := 41) F dX0_release_41 ?_
          refine zx_ald_base (pc := 42) F dX0_release_42 (by omega) ?_
          refine zz_iload_n1 (pc := 43) F dX0_release_43 ?_
          refine zz_iconst_1 (pc := 44) F dX0_release_44 ?_
          refine zz_iadd (pc := 45) F dX0_release_45 ?_
          refine zz_icmp_ne (pc := 46) 54 F dX0_release_46 (by decide) (by omega) (by omega) (fun c46 => ?_) (fun c46 => ?_)
          · refine zz_iinc2 (pc := 54) F dX0_release_54 (by decide) ?_
            refine zz_goto (pc := 57) 22 F dX0_release_57 (by decide) ?_
            first
              | exact ih (d + 1) _ _ _ _ _ _ hz (by omega) (by omega) hC3 (fun y hy hl => by
                  by_cases e : y = d
                  · rw [e, va_up_self]; omega
                  · rw [va_up_ne _ _ e]; exact hno y (by omega) hl)
              | exact ih (d + 1) _ _ _ _ _ _ hz (by omega) (by omega) hC2 (fun y hy hl => by
                  by_cases e : y = d
                  · subst e
                    first
                      | exact c46
                      | (exfalso; omega)
                  · exact hno y (by omega) hl)
          · refine zz_aload_n0 (pc := 49) F dX0_release_49 ?_
            refine zz_iload_n2 (pc := 50) F dX0_release_50 ?_
            refine zx_call_makeRaw (pc := 51) F dX0_release_51 (m_makeRaw _ _ _ _ _ _ _ _ _ _ _ _ _ _ _ _ _ _ _ _ _ _ d _ C hC2 hdl) (by decide) (Nat.le_of_ble_eq_true rfl) (fun s51 h51 => ?_)
            obtain ⟨cel3, pay3, ou3, un3, ch3, rfl, hC3⟩ := h51
            refine zz_iinc2 (pc := 54) F dX0_release_54 (by decide) ?_
            refine zz_goto (pc := 57) 22 F dX0_release_57 (by decide) ?_
            first
              | exact ih (d + 1) _ _ _ _ _ _ hz (by omega) (by omega) hC3 (fun y hy hl => by
                  by_cases e : y = d
                  · rw [e, va_up_self]; omega
                  · rw [va_up_ne _ _ e]; exact hno y (by omega) hl)
              | exact ih (d + 1) _ _ _ _ _ _ hz (by omega) (by omega) hC2 (fun y hy hl => by
                  by_cases e : y = d
                  · subst e
                    first
                      | exact c46
                      | (exfalso; omega)
                  · exact hno y (by omega) hl)
  refine zz_aload_n0 (pc := 0) F dX0_release_0 ?_
  refine zx_get_refs (pc := 1) F dX0_release_1 ?_
  refine zz_iload_n1 (pc := 4) F dX0_release_4 ?_
  refine zz_dup2 (pc := 5) F dX0_release_5 rfl rfl ?_
  refine zx_ald_refs (pc := 6) F dX0_release_6 (by omega) ?_
  refine zz_iconst_1 (pc := 7) F dX0_release_7 ?_
  refine zz_isub (pc := 8) F dX0_release_8 (by omega) ?_
  refine zx_ast_refs (pc := 9) F dX0_release_9 (by omega) ?_
  refine zz_aload_n0 (pc := 10) F dX0_release_10 ?_
  refine zx_get_refs (pc := 11) F dX0_release_11 ?_
  refine zz_iload_n1 (pc := 14) F dX0_release_14 ?_
  refine zx_ald_refs (pc := 15) F dX0_release_15 (by omega) ?_
  rw [va_up_self]
  refine zz_if_le (pc := 16) 20 F dX0_release_16 (by decide) (by omega) (fun c16 => ?_) (fun c16 => ?_)
  · refine zz_iconst_0 (pc := 20) F dX0_release_20 ?_
    refine zz_istore_n2 (pc := 21) F dX0_release_21 (by decide) ?_
    exact loop 97 0 _ _ _ _ _ _ c16 (by decide) (by decide) hC (fun y hy => absurd hy (Nat.not_lt_zero y))
  · exact hR _ _ _ dX0_release_19 ⟨bas, cel, pay, ou, un, ch, rfl, CC_iff hC (fun y => by
      by_cases e : y = x
      · rw [e, va_up_self]
        exact ⟨fun q => ⟨q.1, h0⟩, fun q => ⟨q.1, c16⟩⟩
      · rw [va_up_ne _ _ e])⟩
set_option maxHeartbeats 4000000 in
theorem m_keepChunk (l : Launch) (D : va_G) (g : ZG) (sd pl : Nat) (sta sav pas par rfs siz bas cel pay pri fa fb fre ou un pro ch : Nat → Nat) (a n : Nat) (C : Nat → Nat → Nat) (hC : sd_CC siz bas cel pay (fun y => y < 96 ∧ 0 < rfs y) C) (hr : ∀ y, y < 96 → rfs y ≤ 96) (hf : ∃ y, y < 96 ∧ rfs y = 0) (h1 : 1 ≤ n) (h2 : n ≤ 16) (h3 : a + n ≤ 96) (h5 : ∀ q, q < n → sta (a + q) < 256) : zz_Mi l D g (wX g) yX0_keepChunk cX0_keepChunk 9 4 97 .int (sd, sta, sav, pas, par, rfs, siz, bas, cel, pay, pri, fa, fb, fre, ou, un, pro, pl, ch) [.ref (g.1 0), .int (nI a), .int (nI n)] (fun r s => ∃ (rfs2 siz2 bas2 cel2 pay2 pri2 fa2 fb2 fre2 ou2 un2 pro2 ch2 : Nat → Nat) (pl2 y : Nat) (C2 : Nat → Nat → Nat), s = (sd, sta, sav, pas, par, rfs2, siz2, bas2, cel2, pay2, pri2, fa2, fb2, fre2, ou2, un2, pro2, pl2, ch2) ∧ r = nI y ∧ y < 96 ∧ rfs2 = va_up rfs y (rfs y + 1) ∧ sd_CC siz2 bas2 cel2 pay2 (fun x => x < 96 ∧ 0 < rfs2 x) C2 ∧ siz2 y = n ∧ (∀ i, i < n → C2 y i = sta (a + i)) ∧ ∀ x, x < 96 → 0 < rfs x → siz2 x = siz x ∧ ∀ i, i < siz x → C2 x i = C x i) := by
  refine zz_enter_i RX0 [some (.ref (g.1 0)), some (.int (nI a)), some (.int (nI n)), none, none, none, none, none, none] 6 (by decide) rfl (by intro v hv; simp only [List.mem_cons, List.not_mem_nil, or_false] at hv; rcases hv with rfl | rfl | rfl <;> rfl) (Nat.le_of_ble_eq_true rfl) rfl ?_
  intro k hkl hkD F hR
  subst hkl hkD
  have hfb : ∀ q, q < n → va_cpy sta fre a 0 n q < 256 := fun q hq => by
    rw [cpy_in0 hq]
    exact h5 q hq
  have new : ∀ (mk v4 : Int32) (y : Nat) (ou2 un2 ch2 : Nat → Nat), y < 96 → rfs y = 0 → zz_W k (wX g (sd, sta, sav, pas, par, rfs, siz, bas, cel, pay, pri, fa, fb, va_cpy sta fre a 0 n, ou2, un2, pro, pl, ch2)) 114 [some (.ref (g.1 0)), some (.int (nI (a))), some (.int (nI (n))), some (.int (mk)), some (.int (v4)), some (.int (nI (y))), none, none, none] [] := by
    intro mk v4 y ou2 un2 ch2 hy hy0
    obtain ⟨mk, rfl⟩ := zz_any mk
    have hnl : ¬ (y < 96 ∧ 0 < rfs y) := fun q => by omega
    have hne : ∀ x, (x < 96 ∧ 0 < rfs x) → x ≠ y := fun x q e => hnl (e ▸ q)
    refine zz_aload_n0 (pc := 114) F dX0_keepChunk_114 ?_
    refine zz_iload_n2 (pc := 115) F dX0_keepChunk_115 ?_
    refine zz_ldc (v := nI 40503) (pc := 116) F dX0_keepChunk_116 q160 ?_
    refine zz_iconst_0 (pc := 118) F dX0_keepChunk_118 ?_
    refine zx_call_leastWindow (pc := 119) F dX0_keepChunk_119 (m_leastWindow _ _ _ _ _ _ _ _ _ _ _ _ _ _ _ _ _ _ _ _ _ _ n _ _ h1 h2) (by decide) (Nat.le_of_ble_eq_true rfl) (fun r119 s119 h119 => ?_)
    subst h119
    obtain ⟨w1, rfl⟩ := zz_any r119
    refine zz_istore6 (pc := 122) F dX0_keepChunk_122 (by decide) ?_
    refine zz_aload_n0 (pc := 124) F dX0_keepChunk_124 ?_
    refine zz_iload_n2 (pc := 125) F dX0_keepChunk_125 ?_
    refine zz_sipush_30011 (pc := 126) F dX0_keepChunk_126 ?_
    refine zz_iconst_1 (pc := 129) F dX0_keepChunk_129 ?_
    refine zx_call_leastWindow (pc := 130) F dX0_keepChunk_130 (m_leastWindow _ _ _ _ _ _ _ _ _ _ _ _ _ _ _ _ _ _ _ _ _ _ n _ _ h1 h2) (by decide) (Nat.le_of_ble_eq_true rfl) (fun r130 s130 h130 => ?_)
    subst h130
    obtain ⟨w2, rfl⟩ := zz_any r130
    refine zz_istore7 (pc := 133) F dX0_keepChunk_133 (by decide) ?_
    refine zz_aload_n0 (pc := 135) F dX0_keepChunk_135 ?_
    refine zz_iload6 (pc := 136) F dX0_keepChunk_136 ?_
    refine zz_iload7 (pc := 138) F dX0_keepChunk_138 ?_
    refine zz_iload_n2 (pc := 140) F dX0_keepChunk_140 ?_
    refine zx_call_findSimilar (pc := 141) F dX0_keepChunk_141 (m_findSimilar _ _ _ _ _ _ _ _ _ _ _ _ _ _ _ _ _ _ _ _ _ _ _ _ n C hC hr h2) (by decide) (Nat.le_of_ble_eq_true rfl) (fun r141 s141 h141 => ?_)
    obtain ⟨rfl, hk⟩ := h141
    refine zz_istore8 (pc := 144) F dX0_keepChunk_144 (by decide) ?_
    refine zz_aload_n0 (pc := 146) F dX0_keepChunk_146 ?_
    refine zx_get_refs (pc := 147) F dX0_keepChunk_147 ?_
    refine zz_iload5 (pc := 150) F dX0_keepChunk_150 ?_
    refine zz_iconst_1 (pc := 152) F dX0_keepChunk_152 ?_
    refine zx_ast_refs (pc := 153) F dX0_keepChunk_153 (by omega) ?_
    refine zz_aload_n0 (pc := 154) F dX0_keepChunk_154 ?_
    refine zx_get_size (pc := 155) F dX0_keepChunk_155 ?_
    refine zz_iload5 (pc := 158) F dX0_keepChunk_158 ?_
    refine zz_iload_n2 (pc := 160) F dX0_keepChunk_160 ?_
    refine zx_ast_size (pc := 161) F dX0_keepChunk_161 (by omega) ?_
    refine zz_aload_n0 (pc := 162) F dX0_keepChunk_162 ?_
    refine zx_get_print (pc := 163) F dX0_keepChunk_163 ?_
    refine zz_iload5 (pc := 166) F dX0_keepChunk_166 ?_
    refine zz_iload_n3 (pc := 168) F dX0_keepChunk_168 ?_
    refine zx_ast_print (pc := 169) F dX0_keepChunk_169 (by omega) ?_
    refine zz_aload_n0 (pc := 170) F dX0_keepChunk_170 ?_
    refine zx_get_featA (pc := 171) F dX0_keepChunk_171 ?_
    refine zz_iload5 (pc := 174) F dX0_keepChunk_174 ?_
    refine zz_iload6 (pc := 176) F dX0_keepChunk_176 ?_
    refine zx_ast_featA (pc := 178) F dX0_keepChunk_178 (by omega) ?_
    refine zz_aload_n0 (pc := 179) F dX0_keepChunk_179 ?_
    refine zx_get_featB (pc := 180) F dX0_keepChunk_180 ?_
    refine zz_iload5 (pc := 183) F dX0_keepChunk_183 ?_
    refine zz_iload7 (pc := 185) F dX0_keepChunk_185 ?_
    refine zx_ast_featB (pc := 187) F dX0_keepChunk_187 (by omega) ?_
    refine zz_aload_n0 (pc := 188) F dX0_keepChunk_188 ?_
    refine zz_iload5 (pc := 189) F dX0_keepChunk_189 ?_
    refine zz_iload8 (pc := 191) F dX0_keepChunk_191 ?_
    refine zz_iload_n2 (pc := 193) F dX0_keepChunk_193 ?_
    refine zx_call_storeAgainst (pc := 194) F dX0_keepChunk_194 (m_storeAgainst _ _ _ _ _ _ _ _ _ _ _ _ _ _ _ _ _ _ _ _ _ _ y n _ (fun y => y < 96 ∧ 0 < rfs y) C (CC_congr hC (fun x q => va_up_ne _ _ (hne x q)) (fun _ _ => rfl) (fun _ _ => rfl) (fun _ _ _ _ => rfl) (fun _ _ _ _ => rfl)) hy hnl h1 h2 (va_up_self _ _ _) hfb (by rcases hk with e | ⟨z, e, z1, z2, z3⟩; exact Or.inl e; exact Or.inr ⟨z, e, ⟨z1, z2⟩, z3⟩)) (by decide) (Nat.le_of_ble_eq_true rfl) (fun s194 h194 => ?_)
    obtain ⟨bas3, cel3, pay3, ou3, un3, pro3, ch3, pl3, rfl, hC3⟩ := h194
    refine zz_iload5 (pc := 197) F dX0_keepChunk_197 ?_
    exact hR _ _ _ _ dX0_keepChunk_199 (vp_nar_int _) ⟨_, _, bas3, cel3, pay3, _, _, _, _, ou3, un3, pro3, ch3, pl3, y, va_up C y (va_cpy sta fre a 0 n), rfl, rfl, hy, by rw [hy0], CC_iff hC3 (fun x => by
      by_cases e : x = y
      · rw [e, va_up_self]
        exact ⟨fun _ => Or.inr rfl, fun _ => ⟨hy, by decide⟩⟩
      · rw [va_up_ne _ _ e]
        exact ⟨fun q => Or.inl q, fun q => q.resolve_right e⟩), va_up_self _ _ _, fun i hi => by rw [va_up_self]; exact cpy_in0 hi, fun x hx hx0 => ⟨va_up_ne _ _ (hne x ⟨hx, hx0⟩), fun i hi => by rw [va_up_ne _ _ (hne x ⟨hx, hx0⟩)]⟩⟩
  have free : ∀ (n2 i : Nat) (mk v4 : Int32) (ou2 un2 ch2 : Nat → Nat), i ≤ 95 → 95 < i + n2 → (∀ j, j < i → 0 < rfs j) → zz_W k (wX g (sd, sta, sav, pas, par, rfs, siz, bas, cel, pay, pri, fa, fb, va_cpy sta fre a 0 n, ou2, un2, pro, pl, ch2)) 91 [some (.ref (g.1 0)), some (.int (nI (a))), some (.int (nI (n))), some (.int (mk)), some (.int (v4)), some (.int (nI (i))), none, none, none] [] := by
    intro n2
    induction n2 with
    | zero => intro i mk v4 ou2 un2 ch2 h1 h2; exfalso; omega
    | succ n2 ih =>
      intro i mk v4 ou2 un2 ch2 hi hm hfr
      have hri := hr i (by omega)
      refine zz_iload5 (pc := 91) F dX0_keepChunk_91 ?_
      refine zz_bipush_95 (pc := 93) F dX0_keepChunk_93 ?_
      refine zz_icmp_ge (pc := 95) 114 F dX0_keepChunk_95 (by decide) (by omega) (by omega) (fun c95 => ?_) (fun c95 => ?_)
      · first
          | exact new _ _ i _ _ _ (by omega) c105
          | exact new _ _ i _ _ _ (by omega) (by
              obtain ⟨y, hy, hy0⟩ := hf
              have e : y = i := by
                rcases Nat.lt_or_ge y i with q | q
                · exact absurd (hfr y q) (by omega)
                · omega
              rw [← e]
              exact hy0)
      · refine zz_aload_n0 (pc := 98) F dX0_keepChunk_98 ?_
        refine zx_get_refs (pc := 99) F dX0_keepChunk_99 ?_
        refine zz_iload5 (pc := 102) F dX0_keepChunk_102 ?_
        refine zx_ald_refs (pc := 104) F dX0_keepChunk_104 (by omega) ?_
        refine zz_if_le (pc := 105) 114 F dX0_keepChunk_105 (by decide) (by omega) (fun c105 => ?_) (fun c105 => ?_)
        · first
            | exact new _ _ i _ _ _ (by omega) c105
            | exact new _ _ i _ _ _ (by omega) (by
                obtain ⟨y, hy, hy0⟩ := hf
                have e : y = i := by
                  rcases Nat.lt_or_ge y i with q | q
                  · exact absurd (hfr y q) (by omega)
                  · omega
                rw [← e]
                exact hy0)
        · refine zz_iinc5 (pc := 108) F dX0_keepChunk_108 (by decide) ?_
          refine zz_goto (pc := 111) 91 F dX0_keepChunk_111 (by decide) ?_
          exact ih (i + 1) _ _ _ _ _ (by omega) (by omega) (lt_s hfr c105)
  have eq : ∀ (mk : Int32) (y4 : Option Value), zz_W k (wX g (sd, sta, sav, pas, par, rfs, siz, bas, cel, pay, pri, fa, fb, va_cpy sta fre a 0 n, ou, un, pro, pl, ch)) 61 [some (.ref (g.1 0)), some (.int (nI (a))), some (.int (nI (n))), some (.int (mk)), y4, none, none, none, none] [] := by
    intro mk y4
    refine zz_aload_n0 (pc := 61) F dX0_keepChunk_61 ?_
    refine zz_iload_n3 (pc := 62) F dX0_keepChunk_62 ?_
    refine zz_iload_n2 (pc := 63) F dX0_keepChunk_63 ?_
    refine zx_call_findEqual (pc := 64) F dX0_keepChunk_64 (m_findEqual _ _ _ _ _ _ _ _ _ _ _ _ _ _ _ _ _ _ _ _ _ _ mk n C hC hr h2 hfb) (by decide) (Nat.le_of_ble_eq_true rfl) (fun r64 s64 h64 => ?_)
    obtain ⟨⟨ou2, un2, ch2, rfl⟩, rfl | ⟨y, rfl, hy, hy0, hys, hyC⟩⟩ := h64
    · refine zz_istore4 (pc := 67) F dX0_keepChunk_67 (by decide) ?_
      refine zz_iload4 (pc := 69) F dX0_keepChunk_69 ?_
      refine zz_if_ltG (pc := 71) 88 F dX0_keepChunk_71 (by decide) (fun c71 => ?_) (fun c71 => ?_)
      · refine zz_iconst_0 (pc := 88) F dX0_keepChunk_88 ?_
        refine zz_istore5 (pc := 89) F dX0_keepChunk_89 (by decide) ?_
        exact free 96 0 _ _ _ _ _ (by decide) (by decide) (fun j hj => absurd hj (Nat.not_lt_zero j))
      · exact absurd (by decide) c71
    · refine zz_istore4 (pc := 67) F dX0_keepChunk_67 (by decide) ?_
      refine zz_iload4 (pc := 69) F dX0_keepChunk_69 ?_
      refine zz_if_lt (pc := 71) 88 F dX0_keepChunk_71 (by decide) (by omega) ?_
      refine zz_aload_n0 (pc := 74) F dX0_keepChunk_74 ?_
      refine zx_get_refs (pc := 75) F dX0_keepChunk_75 ?_
      refine zz_iload4 (pc := 78) F dX0_keepChunk_78 ?_
      refine zz_dup2 (pc := 80) F dX0_keepChunk_80 rfl rfl ?_
      refine zx_ald_refs (pc := 81) F dX0_keepChunk_81 (by omega) ?_
      refine zz_iconst_1 (pc := 82) F dX0_keepChunk_82 ?_
      refine zz_iadd (pc := 83) F dX0_keepChunk_83 ?_
      refine zx_ast_refs (pc := 84) F dX0_keepChunk_84 (by omega) ?_
      refine zz_iload4 (pc := 85) F dX0_keepChunk_85 ?_
      exact hR _ _ _ _ dX0_keepChunk_87 (vp_nar_int _) ⟨_, siz, bas, cel, pay, pri, fa, fb, _, ou2, un2, pro, ch2, pl, y, C, rfl, rfl, hy, rfl, CC_iff hC (fun x => by
        by_cases e : x = y
        · rw [e, va_up_self]
          exact ⟨fun q => ⟨q.1, hy0⟩, fun q => ⟨q.1, by omega⟩⟩
        · rw [va_up_ne _ _ e]), hys, fun i hi => (hyC i hi).trans (cpy_in0 hi), fun x _ _ => ⟨rfl, fun _ _ => rfl⟩⟩
  have mark : ∀ (n2 i : Nat) (mk : Int32), i ≤ n → n < i + n2 → zz_W k (wX g (sd, sta, sav, pas, par, rfs, siz, bas, cel, pay, pri, fa, fb, va_cpy sta fre a 0 n, ou, un, pro, pl, ch)) 33 [some (.ref (g.1 0)), some (.int (nI (a))), some (.int (nI (n))), some (.int (mk)), some (.int (nI (i))), none, none, none, none] [] := by
    intro n2
    induction n2 with
    | zero => intro i mk h1 h2; exfalso; omega
    | succ n2 ih =>
      intro i mk hi hm
      refine zz_iload4 (pc := 33) F dX0_keepChunk_33 ?_
      refine zz_iload_n2 (pc := 35) F dX0_keepChunk_35 ?_
      refine zz_icmp_ge (pc := 36) 61 F dX0_keepChunk_36 (by decide) (by omega) (by omega) (fun c36 => ?_) (fun c36 => ?_)
      · exact eq _ _
      · refine zz_iload_n3 (pc := 39) F dX0_keepChunk_39 ?_
        refine zz_sipush_257 (pc := 40) F dX0_keepChunk_40 ?_
        refine zz_imulG (pc := 43) F dX0_keepChunk_43 ?_
        refine zz_aload_n0 (pc := 44) F dX0_keepChunk_44 ?_
        refine zx_get_fresh (pc := 45) F dX0_keepChunk_45 ?_
        refine zz_iload4 (pc := 48) F dX0_keepChunk_48 ?_
        refine zx_ald_fresh (pc := 50) F dX0_keepChunk_50 (by omega) ?_
        refine zz_iaddG (pc := 51) F dX0_keepChunk_51 ?_
        refine zz_iconst_1 (pc := 52) F dX0_keepChunk_52 ?_
        refine zz_iaddG (pc := 53) F dX0_keepChunk_53 ?_
        refine zz_istore_n3 (pc := 54) F dX0_keepChunk_54 (by decide) ?_
        refine zz_iinc4 (pc := 55) F dX0_keepChunk_55 (by decide) ?_
        refine zz_goto (pc := 58) 33 F dX0_keepChunk_58 (by decide) ?_
        exact ih (i + 1) _ (by omega) (by omega)
  have copy : ∀ n2 i : Nat, i ≤ n → n < i + n2 → zz_W k (wX g (sd, sta, sav, pas, par, rfs, siz, bas, cel, pay, pri, fa, fb, va_cpy sta fre a 0 i, ou, un, pro, pl, ch)) 2 [some (.ref (g.1 0)), some (.int (nI (a))), some (.int (nI (n))), some (.int (nI (i))), none, none, none, none, none] [] := by
    intro n2
    induction n2 with
    | zero => intro i h1 h2; exfalso; omega
    | succ n2 ih =>
      intro i hi hm
      refine zz_iload_n3 (pc := 2) F dX0_keepChunk_2 ?_
      refine zz_iload_n2 (pc := 3) F dX0_keepChunk_3 ?_
      refine zz_icmp_ge (pc := 4) 27 F dX0_keepChunk_4 (by decide) (by omega) (by omega) (fun c4 => ?_) (fun c4 => ?_)
      · refine zz_bipush_17 (pc := 27) F dX0_keepChunk_27 ?_
        refine zz_istore_n3 (pc := 29) F dX0_keepChunk_29 (by decide) ?_
        refine zz_iconst_0 (pc := 30) F dX0_keepChunk_30 ?_
        refine zz_istore4 (pc := 31) F dX0_keepChunk_31 (by decide) ?_
        have e : i = n := by omega
        subst e
        exact mark (i + 1) 0 _ (by omega) (by omega)
      · refine zz_aload_n0 (pc := 7) F dX0_keepChunk_7 ?_
        refine zx_get_fresh (pc := 8) F dX0_keepChunk_8 ?_
        refine zz_iload_n3 (pc := 11) F dX0_keepChunk_11 ?_
        refine zz_aload_n0 (pc := 12) F dX0_keepChunk_12 ?_
        refine zx_get_stage (pc := 13) F dX0_keepChunk_13 ?_
        refine zz_iload_n1 (pc := 16) F dX0_keepChunk_16 ?_
        refine zz_iload_n3 (pc := 17) F dX0_keepChunk_17 ?_
        refine zz_iadd (pc := 18) F dX0_keepChunk_18 ?_
        refine zx_ald_stage (pc := 19) F dX0_keepChunk_19 (by omega) ?_
        refine zx_ast_fresh (pc := 20) F dX0_keepChunk_20 (by omega) ?_
        refine zz_iinc3 (pc := 21) F dX0_keepChunk_21 (by decide) ?_
        refine zz_goto (pc := 24) 2 F dX0_keepChunk_24 (by decide) ?_
        rw [cpy_stepT]
        exact ih (i + 1) (by omega) (by omega)
  refine zz_iconst_0 (pc := 0) F dX0_keepChunk_0 ?_
  refine zz_istore_n3 (pc := 1) F dX0_keepChunk_1 (by decide) ?_
  have h := copy (n + 1) 0 (by omega) (by omega)
  rw [cpy_0] at h
  exact h
end
section
/-! what each call answers, over the reference's own state; the invariant that ties the class to it -/
def sd_Bad (x : Int32) : Prop := x < 0 ∨ nI 6 ≤ x
def sd_ms (msv : Nat → Nat) (x r : Int32) : Prop := sd_Bad x ∧ r = -2 ∨ (∃ s : Nat, s < 6 ∧ x = nI s ∧ msv s = 0 ∧ r = -4) ∨ (∃ s : Nat, s < 6 ∧ x = nI s ∧ 0 < msv s ∧ r = nI 0)
/-- the places of the slots: which chunk stands there, plus 1; 0 if none -/
def sd_w (sav pas par : Nat → Nat) (q : Nat) : Nat := if 0 < sav (q / 16) ∧ q % 16 < pas (q / 16) then par q + 1 else 0
def sd_ct (w : Nat → Nat) (x : Nat) : Nat → Nat
  | 0 => 0
  | n + 1 => sd_ct w x n + (if w n = x + 1 then 1 else 0)
def sd_SL (siz par pas : Nat → Nat) (C : Nat → Nat → Nat) (mss mby : Nat → Nat) (s : Nat) : Prop :=
  pas s ≤ 16 ∧ (∀ k, k < pas s → par (s * 16 + k) < 96) ∧ mss s = sd_off siz par s (pas s) ∧ mss s ≤ 96 ∧ ∀ k, k < pas s → ∀ i, i < siz (par (s * 16 + k)) → mby (s * 96 + (sd_off siz par s k + i)) = C (par (s * 16 + k)) i
/-- the class's slots and chunks stand for the reference's -/
def sd_J (sav pas par rfs siz bas cel pay msv mss mby : Nat → Nat) (C : Nat → Nat → Nat) : Prop :=
  (∀ s, s < 6 → sav s = msv s ∧ sav s ≤ 1) ∧ sd_CC siz bas cel pay (fun y => y < 96 ∧ 0 < rfs y) C ∧ (∀ x, x < 96 → rfs x = sd_ct (sd_w sav pas par) x 96) ∧ ∀ s, s < 6 → 0 < sav s → sd_SL siz par pas C mss mby s
/-- the class's state stands for the reference's -/
def sd_I (sd : Nat) (sta sav pas par rfs siz bas cel pay : Nat → Nat) (msz : Nat) (mst msv mss mby : Nat → Nat) (C : Nat → Nat → Nat) : Prop :=
  (sd = msz ∧ sd ≤ 96 ∧ ∀ j, j < sd → sta j = mst j ∧ sta j < 256) ∧ sd_J sav pas par rfs siz bas cel pay msv mss mby C
def LX (s : XT) (m : MT) : Prop := ∃ (sd pl : Nat) (sta sav pas par rfs siz bas cel pay pri fa fb fre ou un pro ch : Nat → Nat) (msz : Nat) (mst msv mss mby : Nat → Nat) (C : Nat → Nat → Nat), s = (sd, sta, sav, pas, par, rfs, siz, bas, cel, pay, pri, fa, fb, fre, ou, un, pro, pl, ch) ∧ m = (mst, msz, msv, mss, mby) ∧ sd_I sd sta sav pas par rfs siz bas cel pay msz mst msv mss mby C
theorem LX_of {sd pl : Nat} {sta sav pas par rfs siz bas cel pay pri fa fb fre ou un pro ch : Nat → Nat} {msz : Nat} {mst msv mss mby : Nat → Nat} {C : Nat → Nat → Nat} (h : sd_I sd sta sav pas par rfs siz bas cel pay msz mst msv mss mby C) : LX (sd, sta, sav, pas, par, rfs, siz, bas, cel, pay, pri, fa, fb, fre, ou, un, pro, pl, ch) (mst, msz, msv, mss, mby) := ⟨_, _, _, _, _, _, _, _, _, _, _, _, _, _, _, _, _, _, _, _, _, _, _, _, _, rfl, rfl, h⟩
def sd_ins (f : Nat → Nat) (z j v : Nat) : Nat → Nat := fun q => if q = j then v else if j < q ∧ q ≤ z then f (q - 1) else f q
def sd_sh (f : Nat → Nat) (z j : Nat) : Nat → Nat := fun q => if j < q ∧ q ≤ z then f (q - 1) else f q
theorem sh_0 {f : Nat → Nat} {z : Nat} : sd_sh f z z = f := by
  funext q
  unfold sd_sh
  rw [if_neg (by omega)]
theorem sh_step {f : Nat → Nat} {z i : Nat} (h : i < z) : va_up (sd_sh f z (i + 1)) (i + 1) (sd_sh f z (i + 1) i) = sd_sh f z i := by
  funext q
  unfold va_up sd_sh
  by_cases h1 : q = i + 1
  · rw [if_pos h1, if_neg (by omega), if_pos (by omega), h1]
    congr 1
  · rw [if_neg h1]
    by_cases h2 : i + 1 < q ∧ q ≤ z
    · rw [if_pos h2, if_pos (by omega)]
    · rw [if_neg h2, if_neg (by omega)]
theorem sh_ins {f : Nat → Nat} {z j v : Nat} : va_up (sd_sh f z j) j v = sd_ins f z j v := by
  funext q
  unfold va_up sd_sh sd_ins
  rfl
def sd_sum (f : Nat → Nat) (b : Nat) : Nat → Int32
  | 0 => nI 7
  | n + 1 => sd_sum f b n * nI 131 + nI (f (b + n))
section
variable (msz : Nat) (mst msv mss mby : Nat → Nat)
def SP_feedRun (a b n r : Int32) (m : MT) : Prop :=
  (∃ c : Nat, c ≤ 96 - msz ∧ (n = nI c ∨ n < 0 ∧ c = 0) ∧ r = nI (msz + c) ∧ m = (sd_run mst msz a b c, msz + c, msv, mss, mby)) ∨ (¬ n ≤ nI (96 - msz) ∧ r = -1 ∧ m = (mst, msz, msv, mss, mby))
def SP_length (x r : Int32) (m : MT) : Prop :=
  m = (mst, msz, msv, mss, mby) ∧ (sd_Bad x ∧ r = -2 ∨ (∃ s : Nat, s < 6 ∧ x = nI s ∧ msv s = 0 ∧ r = -4) ∨ (∃ s : Nat, s < 6 ∧ x = nI s ∧ 0 < msv s ∧ r = nI (mss s)))
/-- both are numbers that fit -/
def sd_fit (f n : Int32) (z : Nat) : Prop := ∃ j c : Nat, j + c ≤ z ∧ f = nI j ∧ n = nI c
def SP_feedFrom (x f n r : Int32) (m : MT) : Prop :=
  (m = (mst, msz, msv, mss, mby) ∧ (sd_Bad x ∧ r = -2 ∨ (∃ s : Nat, s < 6 ∧ x = nI s ∧ msv s = 0 ∧ r = -4) ∨ (∃ s : Nat, s < 6 ∧ x = nI s ∧ 0 < msv s ∧ (¬ sd_fit f n (mss s) ∧ r = -5 ∨ ∃ j c : Nat, j + c ≤ mss s ∧ f = nI j ∧ n = nI c ∧ 96 - msz < c ∧ r = -1)))) ∨
  (∃ s j c : Nat, s < 6 ∧ x = nI s ∧ 0 < msv s ∧ j + c ≤ mss s ∧ f = nI j ∧ n = nI c ∧ c ≤ 96 - msz ∧ r = nI (msz + c) ∧ m = (va_cpy mby mst (s * 96 + j) msz c, msz + c, msv, mss, mby))
def SP_poke (x b r : Int32) (m : MT) : Prop :=
  (∃ j : Nat, j < msz ∧ x = nI j ∧ r = nI (mst j) ∧ m = (va_up mst j (by8 b), msz, msv, mss, mby)) ∨ ((x < 0 ∨ nI msz ≤ x) ∧ r = -5 ∧ m = (mst, msz, msv, mss, mby))
def SP_stageByte (x r : Int32) (m : MT) : Prop :=
  m = (mst, msz, msv, mss, mby) ∧ ((∃ j : Nat, j < msz ∧ x = nI j ∧ r = nI (mst j)) ∨ (x < 0 ∨ nI msz ≤ x) ∧ r = -5)
def SP_insert (x b r : Int32) (m : MT) : Prop :=
  (∃ j : Nat, j ≤ msz ∧ x = nI j ∧ msz < 96 ∧ r = nI (msz + 1) ∧ m = (sd_ins mst msz j (by8 b), msz + 1, msv, mss, mby)) ∨ (m = (mst, msz, msv, mss, mby) ∧ ((∃ j : Nat, j ≤ msz ∧ x = nI j ∧ 96 ≤ msz ∧ r = -1) ∨ (x < 0 ∨ nI (msz + 1) ≤ x) ∧ r = -5))
def SP_cut (x n r : Int32) (m : MT) : Prop :=
  (∃ j c : Nat, j + c ≤ msz ∧ x = nI j ∧ n = nI c ∧ r = nI (msz - c) ∧ m = (va_cpy mst mst (j + c) j (msz - c - j), msz - c, msv, mss, mby)) ∨ (¬ sd_fit x n msz ∧ r = -5 ∧ m = (mst, msz, msv, mss, mby))
def SP_save (x r : Int32) (m : MT) : Prop :=
  (m = (mst, msz, msv, mss, mby) ∧ (sd_Bad x ∧ r = -2 ∨ (∃ s : Nat, s < 6 ∧ x = nI s ∧ 0 < msv s ∧ r = -3))) ∨ (∃ s : Nat, s < 6 ∧ x = nI s ∧ msv s = 0 ∧ r = nI msz ∧ m = (mst, msz, va_up msv s 1, va_up mss s msz, va_cpy mst mby 0 (s * 96) msz))
def SP_drop (x r : Int32) (m : MT) : Prop :=
  (m = (mst, msz, msv, mss, mby) ∧ (sd_Bad x ∧ r = -2 ∨ (∃ s : Nat, s < 6 ∧ x = nI s ∧ msv s = 0 ∧ r = -4))) ∨ (∃ s : Nat, s < 6 ∧ x = nI s ∧ 0 < msv s ∧ r = nI (mss s) ∧ m = (mst, msz, va_up msv s 0, mss, mby))
def SP_byteAt (x y r : Int32) (m : MT) : Prop :=
  m = (mst, msz, msv, mss, mby) ∧ (sd_Bad x ∧ r = -2 ∨ (∃ s : Nat, s < 6 ∧ x = nI s ∧ msv s = 0 ∧ r = -4) ∨ (∃ s : Nat, s < 6 ∧ x = nI s ∧ 0 < msv s ∧ ((y < 0 ∨ nI (mss s) ≤ y) ∧ r = -5 ∨ ∃ j : Nat, j < mss s ∧ y = nI j ∧ r = nI (mby (s * 96 + j)))))
def SP_sum (x r : Int32) (m : MT) : Prop :=
  m = (mst, msz, msv, mss, mby) ∧ (sd_Bad x ∧ r = nI 0 ∨ (∃ s : Nat, s < 6 ∧ x = nI s ∧ msv s = 0 ∧ r = nI 0) ∨ (∃ s : Nat, s < 6 ∧ x = nI s ∧ 0 < msv s ∧ r = sd_sum mby (s * 96) (mss s)))
def SP_common (x y r : Int32) (m : MT) : Prop :=
  m = (mst, msz, msv, mss, mby) ∧ ((sd_Bad x ∨ sd_Bad y) ∧ r = -2 ∨ (∃ s t : Nat, s < 6 ∧ t < 6 ∧ x = nI s ∧ y = nI t ∧ (msv s = 0 ∨ msv t = 0) ∧ r = -4) ∨
    (∃ s t c : Nat, s < 6 ∧ t < 6 ∧ x = nI s ∧ y = nI t ∧ 0 < msv s ∧ 0 < msv t ∧ r = nI c ∧ c ≤ mss s ∧ c ≤ mss t ∧ (∀ j, j < c → mby (s * 96 + j) = mby (t * 96 + j)) ∧ (c = mss s ∨ c = mss t ∨ mby (s * 96 + c) ≠ mby (t * 96 + c))))
end
end
section
set_option maxRecDepth 100000
theorem zz_ix {x : Int32} {z : Nat} (hz : z < 2 ^ 31) (h1 : ¬ x < 0) (h2 : x < nI z) : ∃ j : Nat, j < z ∧ x = nI j := by
  rcases pk_ix x hz with q | q | q
  · exact absurd q h1
  · exact absurd (Int32.lt_of_lt_of_le h2 q) (Int32.lt_irrefl)
  · exact q
theorem zz_ixl {x : Int32} {z : Nat} (hz : z < 2 ^ 30) (h1 : ¬ x < 0) (h2 : x ≤ nI z) : ∃ j : Nat, j ≤ z ∧ x = nI j := by
  rcases pk_ix x (n := z + 1) (by omega) with q | q | ⟨j, hj, e⟩
  · exact absurd q h1
  · exact absurd (Int32.le_trans q h2) (nI_ge (by omega) (by omega))
  · exact ⟨j, by omega, e⟩
theorem zz_nlt {x y : Int32} (h : ¬ x < y) : y ≤ x := Int32.not_lt.mp h
theorem zz_nle {x : Int32} {z : Nat} (hz : z < 2 ^ 30) (h : ¬ x ≤ nI z) : nI (z + 1) ≤ x := by
  rcases pk_ix x (n := z + 1) (by omega) with q | q | ⟨j, hj, rfl⟩
  · exact absurd (Int32.le_of_lt (Int32.lt_of_lt_of_le q (nI_pos' (by omega)))) h
  · exact q
  · exact absurd (nI_le (by omega) (by omega)) h
theorem fit_neg1 {f n : Int32} {z : Nat} (hz : z ≤ 96) (h : f < 0) : ¬ sd_fit f n z := fun ⟨j, c, h1, e1, e2⟩ => nI_pos (n := j) (by omega) (e1 ▸ h)
theorem fit_neg2 {f n : Int32} {z : Nat} (hz : z ≤ 96) (h : n < 0) : ¬ sd_fit f n z := fun ⟨j, c, h1, e1, e2⟩ => nI_pos (n := c) (by omega) (e2 ▸ h)
theorem fit_big1 {f n : Int32} {z : Nat} (hz : z ≤ 96) (h : nI z < f) : ¬ sd_fit f n z := fun ⟨j, c, h1, e1, e2⟩ => by
  rw [e1] at h
  have := (nI_ltI (by omega) (by omega)).mp h
  omega
theorem fit_big2 {n : Int32} {j z : Nat} (hz : z ≤ 96) (hj : j ≤ z) (h : ¬ n ≤ nI (z - j)) : ¬ sd_fit (nI j) n z := fun ⟨j2, c, h1, e1, e2⟩ => by
  have e3 := (nI_eq (by omega) (by omega)).mp e1
  subst e3
  rw [e2] at h
  exact h (nI_le (by omega) (by omega))
set_option maxHeartbeats 4000000 in
theorem n_missing (l : Launch) (D : va_G) (g : ZG) (msz : Nat) (mst msv mss mby : Nat → Nat) (x : Int32) (hz : msz ≤ 96) (hv : ∀ s, s < 6 → msv s ≤ 1) (hs : ∀ s, s < 6 → 0 < msv s → mss s ≤ 96) : zz_Mi l D g (wM g) yX1_missing cX1_missing 2 0 0 .int (mst, msz, msv, mss, mby) [.ref (g.1 20), .int x] (fun r s => s = (mst, msz, msv, mss, mby) ∧ sd_ms msv x r) := by
  refine zz_enter_i RX1 [some (.ref (g.1 20)), some (.int x)] 0 (by decide) rfl (by intro v hv; simp only [List.mem_cons, List.not_mem_nil, or_false] at hv; rcases hv with rfl | rfl <;> rfl) (Nat.le_of_ble_eq_true rfl) rfl ?_
  intro k hkl hkD F hR
  subst hkl hkD
  refine zz_iload_n1 (pc := 0) F dX1_missing_0 ?_
  refine zz_if_ltG (pc := 1) 9 F dX1_missing_1 (by decide) (fun c1 => ?_) (fun c1 => ?_)
  · refine zz_bipush_m2 (pc := 9) F dX1_missing_9 ?_
    exact hR _ _ _ _ dX1_missing_11 (vp_nar_int _) ⟨rfl, Or.inl ⟨by first | exact Or.inl c1 | exact Or.inr (zz_gt5 c6), rfl⟩⟩
  · refine zz_iload_n1 (pc := 4) F dX1_missing_4 ?_
    refine zz_iconst_5 (pc := 5) F dX1_missing_5 ?_
    refine zz_icmp_leG (pc := 6) 12 F dX1_missing_6 (by decide) (fun c6 => ?_) (fun c6 => ?_)
    · obtain ⟨s, hs6, rfl⟩ := zz_slot c1 c6
      have hv6 := hv s hs6
      refine zz_aload_n0 (pc := 12) F dX1_missing_12 ?_
      refine zm_get_saved (pc := 13) F dX1_missing_13 ?_
      refine zz_iload_n1 (pc := 16) F dX1_missing_16 ?_
      refine zm_ald_saved (pc := 17) F dX1_missing_17 (by omega) ?_
      refine zz_if_eq (pc := 18) 25 F dX1_missing_18 (by decide) (by omega) (fun c18 => ?_) (fun c18 => ?_)
      · refine zz_bipush_m4 (pc := 25) F dX1_missing_25 ?_
        exact hR _ _ _ _ dX1_missing_27 (vp_nar_int _) ⟨rfl, Or.inr (by first | exact Or.inl ⟨s, hs6, rfl, c18, rfl⟩ | exact Or.inr ⟨s, hs6, rfl, c18, rfl⟩)⟩
      · refine zz_iconst_0 (pc := 21) F dX1_missing_21 ?_
        refine zz_goto (pc := 22) 27 F dX1_missing_22 (by decide) ?_
        exact hR _ _ _ _ dX1_missing_27 (vp_nar_int _) ⟨rfl, Or.inr (by first | exact Or.inl ⟨s, hs6, rfl, c18, rfl⟩ | exact Or.inr ⟨s, hs6, rfl, c18, rfl⟩)⟩
    · refine zz_bipush_m2 (pc := 9) F dX1_missing_9 ?_
      exact hR _ _ _ _ dX1_missing_11 (vp_nar_int _) ⟨rfl, Or.inl ⟨by first | exact Or.inl c1 | exact Or.inr (zz_gt5 c6), rfl⟩⟩
set_option maxHeartbeats 4000000 in
theorem n_begin (l : Launch) (D : va_G) (g : ZG) (msz : Nat) (mst msv mss mby : Nat → Nat)  : zz_Mv l D g (wM g) yX1_begin cX1_begin 1 0 0 (mst, msz, msv, mss, mby) [.ref (g.1 20)] (fun s => s = (mst, 0, msv, mss, mby)) := by
  refine zz_enter_v RX1 [some (.ref (g.1 20))] 0 (by decide) rfl (by intro v hv; simp only [List.mem_cons, List.not_mem_nil, or_false] at hv; rcases hv with rfl <;> rfl) (Nat.le_of_ble_eq_true rfl) rfl ?_
  intro k hkl hkD F hR
  subst hkl hkD
  refine zz_aload_n0 (pc := 0) F dX1_begin_0 ?_
  refine zz_iconst_0 (pc := 1) F dX1_begin_1 ?_
  refine zm_put_size (pc := 2) F dX1_begin_2 ?_
  exact hR _ _ _ dX1_begin_5 rfl
set_option maxHeartbeats 4000000 in
theorem n_feedRun (l : Launch) (D : va_G) (g : ZG) (msz : Nat) (mst msv mss mby : Nat → Nat) (a b n : Int32) (hz : msz ≤ 96) (hv : ∀ s, s < 6 → msv s ≤ 1) (hs : ∀ s, s < 6 → 0 < msv s → mss s ≤ 96) : zz_Mi l D g (wM g) yX1_feedRun cX1_feedRun 5 0 0 .int (mst, msz, msv, mss, mby) [.ref (g.1 20), .int a, .int b, .int n] (fun r s => SP_feedRun msz mst msv mss mby a b n r s) := by
  refine zz_enter_i RX1 [some (.ref (g.1 20)), some (.int a), some (.int b), some (.int n), none] 1 (by decide) rfl (by intro v hv; simp only [List.mem_cons, List.not_mem_nil, or_false] at hv; rcases hv with rfl | rfl | rfl | rfl <;> rfl) (Nat.le_of_ble_eq_true rfl) rfl ?_
  intro k hkl hkD F hR
  subst hkl hkD
  have loop : ∀ (c n2 i : Nat), n = nI c → c ≤ 96 - msz → i ≤ c → c < i + n2 → zz_W k (wM g (sd_run mst msz a b i, msz, msv, mss, mby)) 16 [some (.ref (g.1 20)), some (.int (a)), some (.int (b)), some (.int (nI (c))), some (.int (nI (i)))] [] := by
    intro c n2
    induction n2 with
    | zero => intro i hn hc h1 h2; exfalso; omega
    | succ n2 ih =>
      intro i hn hc hi hm
      refine zz_iload4 (pc := 16) F dX1_feedRun_16 ?_
      refine zz_iload_n3 (pc := 18) F dX1_feedRun_18 ?_
      refine zz_icmp_ge (pc := 19) 50 F dX1_feedRun_19 (by decide) (by omega) (by omega) (fun c19 => ?_) (fun c19 => ?_)
      · have e : i = c := by omega
        subst e
        refine zz_iload_n3 (pc := 50) F dX1_feedRun_50 ?_
        refine zz_if_le (pc := 51) 64 F dX1_feedRun_51 (by decide) (by omega) (fun c51 => ?_) (fun c51 => ?_)
        · subst c51
          refine zz_aload_n0 (pc := 64) F dX1_feedRun_64 ?_
          refine zm_get_size (pc := 65) F dX1_feedRun_65 ?_
          exact hR _ _ _ _ dX1_feedRun_68 (vp_nar_int _) (Or.inl ⟨_, hc, Or.inl hn, rfl, rfl⟩)
        · refine zz_aload_n0 (pc := 54) F dX1_feedRun_54 ?_
          refine zz_aload_n0 (pc := 55) F dX1_feedRun_55 ?_
          refine zm_get_size (pc := 56) F dX1_feedRun_56 ?_
          refine zz_iload_n3 (pc := 59) F dX1_feedRun_59 ?_
          refine zz_iadd (pc := 60) F dX1_feedRun_60 ?_
          refine zm_put_size (pc := 61) F dX1_feedRun_61 ?_
          refine zz_aload_n0 (pc := 64) F dX1_feedRun_64 ?_
          refine zm_get_size (pc := 65) F dX1_feedRun_65 ?_
          exact hR _ _ _ _ dX1_feedRun_68 (vp_nar_int _) (Or.inl ⟨_, hc, Or.inl hn, rfl, rfl⟩)
      · refine zz_aload_n0 (pc := 22) F dX1_feedRun_22 ?_
        refine zm_get_stage (pc := 23) F dX1_feedRun_23 ?_
        refine zz_aload_n0 (pc := 26) F dX1_feedRun_26 ?_
        refine zm_get_size (pc := 27) F dX1_feedRun_27 ?_
        refine zz_iload4 (pc := 30) F dX1_feedRun_30 ?_
        refine zz_iadd (pc := 32) F dX1_feedRun_32 ?_
        refine zz_iload_n1 (pc := 33) F dX1_feedRun_33 ?_
        refine zz_iload4 (pc := 34) F dX1_feedRun_34 ?_
        refine zz_iload_n2 (pc := 36) F dX1_feedRun_36 ?_
        refine zz_imulG (pc := 37) F dX1_feedRun_37 ?_
        refine zz_iaddG (pc := 38) F dX1_feedRun_38 ?_
        refine zz_sipush_255 (pc := 39) F dX1_feedRun_39 ?_
        refine zz_and255 (pc := 42) F dX1_feedRun_42 ?_
        refine zm_ast_stage (pc := 43) F dX1_feedRun_43 (by omega) ?_
        refine zz_iinc4 (pc := 44) F dX1_feedRun_44 (by decide) ?_
        refine zz_goto (pc := 47) 16 F dX1_feedRun_47 (by decide) ?_
        rw [run_step]
        exact ih (i + 1) hn hc (by omega) (by omega)
  refine zz_iload_n3 (pc := 0) F dX1_feedRun_0 ?_
  refine zz_bipush_96 (pc := 1) F dX1_feedRun_1 ?_
  refine zz_aload_n0 (pc := 3) F dX1_feedRun_3 ?_
  refine zm_get_size (pc := 4) F dX1_feedRun_4 ?_
  refine zz_isub (pc := 7) F dX1_feedRun_7 (by omega) ?_
  refine zz_icmp_leG (pc := 8) 13 F dX1_feedRun_8 (by decide) (fun c8 => ?_) (fun c8 => ?_)
  · refine zz_iconst_0 (pc := 13) F dX1_feedRun_13 ?_
    refine zz_istore4 (pc := 14) F dX1_feedRun_14 (by decide) ?_
    by_cases hn : n < 0
    · refine zz_iload4 (pc := 16) F dX1_feedRun_16 ?_
      refine zz_iload_n3 (pc := 18) F dX1_feedRun_18 ?_
      refine zz_icmp_geG (pc := 19) 50 F dX1_feedRun_19 (by decide) (fun c19 => ?_) (fun c19 => ?_)
      · refine zz_iload_n3 (pc := 50) F dX1_feedRun_50 ?_
        refine zz_if_leG (pc := 51) 64 F dX1_feedRun_51 (by decide) (fun c51 => ?_) (fun c51 => ?_)
        · refine zz_aload_n0 (pc := 64) F dX1_feedRun_64 ?_
          refine zm_get_size (pc := 65) F dX1_feedRun_65 ?_
          exact hR _ _ _ _ dX1_feedRun_68 (vp_nar_int _) (Or.inl ⟨0, by omega, Or.inr ⟨hn, rfl⟩, rfl, by rw [run_0]; rfl⟩)
        · exact absurd (Int32.le_of_lt hn) c51
      · exact absurd (show n ≤ nI 0 from Int32.le_of_lt hn) c19
    · obtain ⟨c, hc, e⟩ := zz_ixl (by omega) hn c8
      subst e
      have h := loop c (c + 1) 0 rfl hc (by omega) (by omega)
      rw [run_0] at h
      exact h
  · refine zz_iconst_m1 (pc := 11) F dX1_feedRun_11 ?_
    exact hR _ _ _ _ dX1_feedRun_12 (vp_nar_int _) (Or.inr ⟨c8, rfl, rfl⟩)
set_option maxHeartbeats 4000000 in
theorem n_feed (l : Launch) (D : va_G) (g : ZG) (msz : Nat) (mst msv mss mby : Nat → Nat) (b : Int32) (hz : msz ≤ 96) (hv : ∀ s, s < 6 → msv s ≤ 1) (hs : ∀ s, s < 6 → 0 < msv s → mss s ≤ 96) : zz_Mi l D g (wM g) yX1_feed cX1_feed 2 1 24 .int (mst, msz, msv, mss, mby) [.ref (g.1 20), .int b] (fun r s => SP_feedRun msz mst msv mss mby b (nI 0) (nI 1) r s) := by
  refine zz_enter_i RX1 [some (.ref (g.1 20)), some (.int b)] 0 (by decide) rfl (by intro v hv; simp only [List.mem_cons, List.not_mem_nil, or_false] at hv; rcases hv with rfl | rfl <;> rfl) (Nat.le_of_ble_eq_true rfl) rfl ?_
  intro k hkl hkD F hR
  subst hkl hkD
  refine zz_aload_n0 (pc := 0) F dX1_feed_0 ?_
  refine zz_iload_n1 (pc := 1) F dX1_feed_1 ?_
  refine zz_iconst_0 (pc := 2) F dX1_feed_2 ?_
  refine zz_iconst_1 (pc := 3) F dX1_feed_3 ?_
  refine zm_call_feedRun (pc := 4) F dX1_feed_4 (n_feedRun _ _ _ _ _ _ _ _ b _ _ hz hv hs) (by decide) (Nat.le_of_ble_eq_true rfl) (fun r4 s4 h4 => ?_)
  exact hR _ _ _ _ dX1_feed_7 (vp_nar_int _) h4
set_option maxHeartbeats 4000000 in
theorem n_feedFrom (l : Launch) (D : va_G) (g : ZG) (msz : Nat) (mst msv mss mby : Nat → Nat) (x f n : Int32) (hz : msz ≤ 96) (hv : ∀ s, s < 6 → msv s ≤ 1) (hs : ∀ s, s < 6 → 0 < msv s → mss s ≤ 96) : zz_Mi l D g (wM g) yX1_feedFrom cX1_feedFrom 6 1 21 .int (mst, msz, msv, mss, mby) [.ref (g.1 20), .int x, .int f, .int n] (fun r s => SP_feedFrom msz mst msv mss mby x f n r s) := by
  refine zz_enter_i RX1 [some (.ref (g.1 20)), some (.int x), some (.int f), some (.int n), none, none] 2 (by decide) rfl (by intro v hv; simp only [List.mem_cons, List.not_mem_nil, or_false] at hv; rcases hv with rfl | rfl | rfl | rfl <;> rfl) (Nat.le_of_ble_eq_true rfl) rfl ?_
  intro k hkl hkD F hR
  subst hkl hkD
  have loop : ∀ (n2 s j c i : Nat), s < 6 → 0 < msv s → j + c ≤ mss s → mss s ≤ 96 → c ≤ 96 - msz → x = nI s → f = nI j → n = nI c → i ≤ c → c < i + n2 → zz_W k (wM g (va_cpy mby mst (s * 96 + j) msz i, msz, msv, mss, mby)) 64 [some (.ref (g.1 20)), some (.int (nI (s))), some (.int (nI (j))), some (.int (nI (c))), some (.int (nI (0))), some (.int (nI (i)))] [] := by
    intro n2
    induction n2 with
    | zero => intro s j c i h1 h2 h3 h4 h5 h6 h7 h8 h9 h10; exfalso; omega
    | succ n2 ih =>
      intro s j c i hs6 h0 hjc hm96 hc ex ef en hi hm
      refine zz_iload5 (pc := 64) F dX1_feedFrom_64 ?_
      refine zz_iload_n3 (pc := 66) F dX1_feedFrom_66 ?_
      refine zz_icmp_ge (pc := 67) 102 F dX1_feedFrom_67 (by decide) (by omega) (by omega) (fun c67 => ?_) (fun c67 => ?_)
      · have e : i = c := by omega
        subst e
        refine zz_aload_n0 (pc := 102) F dX1_feedFrom_102 ?_
        refine zz_aload_n0 (pc := 103) F dX1_feedFrom_103 ?_
        refine zm_get_size (pc := 104) F dX1_feedFrom_104 ?_
        refine zz_iload_n3 (pc := 107) F dX1_feedFrom_107 ?_
        refine zz_iadd (pc := 108) F dX1_feedFrom_108 ?_
        refine zm_put_size (pc := 109) F dX1_feedFrom_109 ?_
        refine zz_aload_n0 (pc := 112) F dX1_feedFrom_112 ?_
        refine zm_get_size (pc := 113) F dX1_feedFrom_113 ?_
        exact hR _ _ _ _ dX1_feedFrom_116 (vp_nar_int _) (Or.inr ⟨s, j, i, hs6, ex, h0, hjc, ef, en, hc, rfl, rfl⟩)
      · refine zz_aload_n0 (pc := 70) F dX1_feedFrom_70 ?_
        refine zm_get_stage (pc := 71) F dX1_feedFrom_71 ?_
        refine zz_aload_n0 (pc := 74) F dX1_feedFrom_74 ?_
        refine zm_get_size (pc := 75) F dX1_feedFrom_75 ?_
        refine zz_iload5 (pc := 78) F dX1_feedFrom_78 ?_
        refine zz_iadd (pc := 80) F dX1_feedFrom_80 ?_
        refine zz_aload_n0 (pc := 81) F dX1_feedFrom_81 ?_
        refine zm_get_bytes (pc := 82) F dX1_feedFrom_82 ?_
        refine zz_iload_n1 (pc := 85) F dX1_feedFrom_85 ?_
        refine zz_bipush_96 (pc := 86) F dX1_feedFrom_86 ?_
        refine zz_imul (pc := 88) F dX1_feedFrom_88 ?_
        refine zz_iload_n2 (pc := 89) F dX1_feedFrom_89 ?_
        refine zz_iadd (pc := 90) F dX1_feedFrom_90 ?_
        refine zz_iload5 (pc := 91) F dX1_feedFrom_91 ?_
        refine zz_iadd (pc := 93) F dX1_feedFrom_93 ?_
        refine zm_ald_bytes (pc := 94) F dX1_feedFrom_94 (by omega) ?_
        refine zm_ast_stage (pc := 95) F dX1_feedFrom_95 (by omega) ?_
        refine zz_iinc5 (pc := 96) F dX1_feedFrom_96 (by decide) ?_
        refine zz_goto (pc := 99) 64 F dX1_feedFrom_99 (by decide) ?_
        rw [cpy_step]
        exact ih s j c (i + 1) hs6 h0 hjc hm96 hc ex ef en (by omega) (by omega)
  refine zz_aload_n0 (pc := 0) F dX1_feedFrom_0 ?_
  refine zz_iload_n1 (pc := 1) F dX1_feedFrom_1 ?_
  refine zm_call_missing (pc := 2) F dX1_feedFrom_2 (n_missing _ _ _ _ _ _ _ _ _ hz hv hs) (by decide) (Nat.le_of_ble_eq_true rfl) (fun r2 s2 h2 => ?_)
  obtain ⟨rfl, ⟨hb, rfl⟩ | ⟨s, hs6, rfl, h0, rfl⟩ | ⟨s, hs6, rfl, h0, rfl⟩⟩ := h2
  · refine zz_istore4 (pc := 5) F dX1_feedFrom_5 (by decide) ?_
    refine zz_iload4 (pc := 7) F dX1_feedFrom_7 ?_
    refine zz_if_eqG (pc := 9) 15 F dX1_feedFrom_9 (by decide) (fun c9 => ?_) (fun c9 => ?_)
    · exact absurd c9 (by decide)
    · refine zz_iload4 (pc := 12) F dX1_feedFrom_12 ?_
      exact hR _ _ _ _ dX1_feedFrom_14 (vp_nar_int _) (Or.inl ⟨rfl, Or.inl ⟨hb, rfl⟩⟩)
  · refine zz_istore4 (pc := 5) F dX1_feedFrom_5 (by decide) ?_
    refine zz_iload4 (pc := 7) F dX1_feedFrom_7 ?_
    refine zz_if_eqG (pc := 9) 15 F dX1_feedFrom_9 (by decide) (fun c9 => ?_) (fun c9 => ?_)
    · exact absurd c9 (by decide)
    · refine zz_iload4 (pc := 12) F dX1_feedFrom_12 ?_
      exact hR _ _ _ _ dX1_feedFrom_14 (vp_nar_int _) (Or.inl ⟨rfl, Or.inr (Or.inl ⟨s, hs6, rfl, h0, rfl⟩)⟩)
  · have hm96 := hs s hs6 h0
    refine zz_istore4 (pc := 5) F dX1_feedFrom_5 (by decide) ?_
    refine zz_iload4 (pc := 7) F dX1_feedFrom_7 ?_
    refine zz_if_eq (pc := 9) 15 F dX1_feedFrom_9 (by decide) (by decide) (fun c9 => ?_) (fun c9 => ?_)
    · refine zz_iload_n2 (pc := 15) F dX1_feedFrom_15 ?_
      refine zz_if_ltG (pc := 16) 45 F dX1_feedFrom_16 (by decide) (fun c16 => ?_) (fun c16 => ?_)
      · refine zz_bipush_m5 (pc := 45) F dX1_feedFrom_45 ?_
        exact hR _ _ _ _ dX1_feedFrom_47 (vp_nar_int _) (Or.inl ⟨rfl, Or.inr (Or.inr ⟨s, hs6, rfl, h0, Or.inl ⟨by first | exact fit_neg1 hm96 c16 | exact fit_neg2 hm96 c20 | exact fit_big1 hm96 c30 | exact fit_big2 hm96 hj c42, rfl⟩⟩)⟩)
      · refine zz_iload_n3 (pc := 19) F dX1_feedFrom_19 ?_
        refine zz_if_ltG (pc := 20) 45 F dX1_feedFrom_20 (by decide) (fun c20 => ?_) (fun c20 => ?_)
        · refine zz_bipush_m5 (pc := 45) F dX1_feedFrom_45 ?_
          exact hR _ _ _ _ dX1_feedFrom_47 (vp_nar_int _) (Or.inl ⟨rfl, Or.inr (Or.inr ⟨s, hs6, rfl, h0, Or.inl ⟨by first | exact fit_neg1 hm96 c16 | exact fit_neg2 hm96 c20 | exact fit_big1 hm96 c30 | exact fit_big2 hm96 hj c42, rfl⟩⟩)⟩)
        · refine zz_iload_n2 (pc := 23) F dX1_feedFrom_23 ?_
          refine zz_aload_n0 (pc := 24) F dX1_feedFrom_24 ?_
          refine zm_get_sizes (pc := 25) F dX1_feedFrom_25 ?_
          refine zz_iload_n1 (pc := 28) F dX1_feedFrom_28 ?_
          refine zm_ald_sizes (pc := 29) F dX1_feedFrom_29 (by omega) ?_
          refine zz_icmp_gtG (pc := 30) 45 F dX1_feedFrom_30 (by decide) (fun c30 => ?_) (fun c30 => ?_)
          · refine zz_bipush_m5 (pc := 45) F dX1_feedFrom_45 ?_
            exact hR _ _ _ _ dX1_feedFrom_47 (vp_nar_int _) (Or.inl ⟨rfl, Or.inr (Or.inr ⟨s, hs6, rfl, h0, Or.inl ⟨by first | exact fit_neg1 hm96 c16 | exact fit_neg2 hm96 c20 | exact fit_big1 hm96 c30 | exact fit_big2 hm96 hj c42, rfl⟩⟩)⟩)
          · obtain ⟨j, hj, rfl⟩ := zz_ixl (by omega) c16 (Int32.not_lt.mp c30)
            refine zz_iload_n3 (pc := 33) F dX1_feedFrom_33 ?_
            refine zz_aload_n0 (pc := 34) F dX1_feedFrom_34 ?_
            refine zm_get_sizes (pc := 35) F dX1_feedFrom_35 ?_
            refine zz_iload_n1 (pc := 38) F dX1_feedFrom_38 ?_
            refine zm_ald_sizes (pc := 39) F dX1_feedFrom_39 (by omega) ?_
            refine zz_iload_n2 (pc := 40) F dX1_feedFrom_40 ?_
            refine zz_isub (pc := 41) F dX1_feedFrom_41 (by omega) ?_
            refine zz_icmp_leG (pc := 42) 48 F dX1_feedFrom_42 (by decide) (fun c42 => ?_) (fun c42 => ?_)
            · obtain ⟨c, hc, rfl⟩ := zz_ixl (by omega) c20 c42
              refine zz_iload_n3 (pc := 48) F dX1_feedFrom_48 ?_
              refine zz_bipush_96 (pc := 49) F dX1_feedFrom_49 ?_
              refine zz_aload_n0 (pc := 51) F dX1_feedFrom_51 ?_
              refine zm_get_size (pc := 52) F dX1_feedFrom_52 ?_
              refine zz_isub (pc := 55) F dX1_feedFrom_55 (by omega) ?_
              refine zz_icmp_le (pc := 56) 61 F dX1_feedFrom_56 (by decide) (by omega) (by omega) (fun c56 => ?_) (fun c56 => ?_)
              · refine zz_iconst_0 (pc := 61) F dX1_feedFrom_61 ?_
                refine zz_istore5 (pc := 62) F dX1_feedFrom_62 (by decide) ?_
                have h := loop (c + 1) s j c 0 hs6 h0 (by omega) hm96 (by omega) rfl rfl rfl (by omega) (by omega)
                rw [cpy_0] at h
                exact h
              · refine zz_iconst_m1 (pc := 59) F dX1_feedFrom_59 ?_
                exact hR _ _ _ _ dX1_feedFrom_60 (vp_nar_int _) (Or.inl ⟨rfl, Or.inr (Or.inr ⟨s, hs6, rfl, h0, Or.inr ⟨j, c, by omega, rfl, rfl, c56, rfl⟩⟩)⟩)
            · refine zz_bipush_m5 (pc := 45) F dX1_feedFrom_45 ?_
              exact hR _ _ _ _ dX1_feedFrom_47 (vp_nar_int _) (Or.inl ⟨rfl, Or.inr (Or.inr ⟨s, hs6, rfl, h0, Or.inl ⟨by first | exact fit_neg1 hm96 c16 | exact fit_neg2 hm96 c20 | exact fit_big1 hm96 c30 | exact fit_big2 hm96 hj c42, rfl⟩⟩)⟩)
    · exact absurd c9 (by decide)
set_option maxHeartbeats 4000000 in
theorem n_poke (l : Launch) (D : va_G) (g : ZG) (msz : Nat) (mst msv mss mby : Nat → Nat) (x b : Int32) (hz : msz ≤ 96) (hv : ∀ s, s < 6 → msv s ≤ 1) (hs : ∀ s, s < 6 → 0 < msv s → mss s ≤ 96) : zz_Mi l D g (wM g) yX1_poke cX1_poke 4 0 0 .int (mst, msz, msv, mss, mby) [.ref (g.1 20), .int x, .int b] (fun r s => SP_poke msz mst msv mss mby x b r s) := by
  refine zz_enter_i RX1 [some (.ref (g.1 20)), some (.int x), some (.int b), none] 1 (by decide) rfl (by intro v hv; simp only [List.mem_cons, List.not_mem_nil, or_false] at hv; rcases hv with rfl | rfl | rfl <;> rfl) (Nat.le_of_ble_eq_true rfl) rfl ?_
  intro k hkl hkD F hR
  subst hkl hkD
  refine zz_iload_n1 (pc := 0) F dX1_poke_0 ?_
  refine zz_if_ltG (pc := 1) 12 F dX1_poke_1 (by decide) (fun c1 => ?_) (fun c1 => ?_)
  · refine zz_bipush_m5 (pc := 12) F dX1_poke_12 ?_
    exact hR _ _ _ _ dX1_poke_14 (vp_nar_int _) (Or.inr ⟨by first | exact Or.inl c1 | exact Or.inr (zz_nlt c9), rfl, rfl⟩)
  · refine zz_iload_n1 (pc := 4) F dX1_poke_4 ?_
    refine zz_aload_n0 (pc := 5) F dX1_poke_5 ?_
    refine zm_get_size (pc := 6) F dX1_poke_6 ?_
    refine zz_icmp_ltG (pc := 9) 15 F dX1_poke_9 (by decide) (fun c9 => ?_) (fun c9 => ?_)
    · obtain ⟨j, hj, rfl⟩ := zz_ix (by omega) c1 c9
      refine zz_aload_n0 (pc := 15) F dX1_poke_15 ?_
      refine zm_get_stage (pc := 16) F dX1_poke_16 ?_
      refine zz_iload_n1 (pc := 19) F dX1_poke_19 ?_
      refine zm_ald_stage (pc := 20) F dX1_poke_20 (by omega) ?_
      refine zz_istore_n3 (pc := 21) F dX1_poke_21 (by decide) ?_
      refine zz_aload_n0 (pc := 22) F dX1_poke_22 ?_
      refine zm_get_stage (pc := 23) F dX1_poke_23 ?_
      refine zz_iload_n1 (pc := 26) F dX1_poke_26 ?_
      refine zz_iload_n2 (pc := 27) F dX1_poke_27 ?_
      refine zz_sipush_255 (pc := 28) F dX1_poke_28 ?_
      refine zz_and255 (pc := 31) F dX1_poke_31 ?_
      refine zm_ast_stage (pc := 32) F dX1_poke_32 (by omega) ?_
      refine zz_iload_n3 (pc := 33) F dX1_poke_33 ?_
      exact hR _ _ _ _ dX1_poke_34 (vp_nar_int _) (Or.inl ⟨j, hj, rfl, rfl, rfl⟩)
    · refine zz_bipush_m5 (pc := 12) F dX1_poke_12 ?_
      exact hR _ _ _ _ dX1_poke_14 (vp_nar_int _) (Or.inr ⟨by first | exact Or.inl c1 | exact Or.inr (zz_nlt c9), rfl, rfl⟩)
set_option maxHeartbeats 4000000 in
theorem n_stageByte (l : Launch) (D : va_G) (g : ZG) (msz : Nat) (mst msv mss mby : Nat → Nat) (x : Int32) (hz : msz ≤ 96) (hv : ∀ s, s < 6 → msv s ≤ 1) (hs : ∀ s, s < 6 → 0 < msv s → mss s ≤ 96) : zz_Mi l D g (wM g) yX1_stageByte cX1_stageByte 2 0 0 .int (mst, msz, msv, mss, mby) [.ref (g.1 20), .int x] (fun r s => SP_stageByte msz mst msv mss mby x r s) := by
  refine zz_enter_i RX1 [some (.ref (g.1 20)), some (.int x)] 0 (by decide) rfl (by intro v hv; simp only [List.mem_cons, List.not_mem_nil, or_false] at hv; rcases hv with rfl | rfl <;> rfl) (Nat.le_of_ble_eq_true rfl) rfl ?_
  intro k hkl hkD F hR
  subst hkl hkD
  refine zz_iload_n1 (pc := 0) F dX1_stageByte_0 ?_
  refine zz_if_ltG (pc := 1) 12 F dX1_stageByte_1 (by decide) (fun c1 => ?_) (fun c1 => ?_)
  · refine zz_bipush_m5 (pc := 12) F dX1_stageByte_12 ?_
    exact hR _ _ _ _ dX1_stageByte_14 (vp_nar_int _) ⟨rfl, Or.inr ⟨by first | exact Or.inl c1 | exact Or.inr (zz_nlt c9), rfl⟩⟩
  · refine zz_iload_n1 (pc := 4) F dX1_stageByte_4 ?_
    refine zz_aload_n0 (pc := 5) F dX1_stageByte_5 ?_
    refine zm_get_size (pc := 6) F dX1_stageByte_6 ?_
    refine zz_icmp_ltG (pc := 9) 15 F dX1_stageByte_9 (by decide) (fun c9 => ?_) (fun c9 => ?_)
    · obtain ⟨j, hj, rfl⟩ := zz_ix (by omega) c1 c9
      refine zz_aload_n0 (pc := 15) F dX1_stageByte_15 ?_
      refine zm_get_stage (pc := 16) F dX1_stageByte_16 ?_
      refine zz_iload_n1 (pc := 19) F dX1_stageByte_19 ?_
      refine zm_ald_stage (pc := 20) F dX1_stageByte_20 (by omega) ?_
      exact hR _ _ _ _ dX1_stageByte_21 (vp_nar_int _) ⟨rfl, Or.inl ⟨j, hj, rfl, rfl⟩⟩
    · refine zz_bipush_m5 (pc := 12) F dX1_stageByte_12 ?_
      exact hR _ _ _ _ dX1_stageByte_14 (vp_nar_int _) ⟨rfl, Or.inr ⟨by first | exact Or.inl c1 | exact Or.inr (zz_nlt c9), rfl⟩⟩
set_option maxHeartbeats 4000000 in
theorem n_stageLength (l : Launch) (D : va_G) (g : ZG) (msz : Nat) (mst msv mss mby : Nat → Nat)  : zz_Mi l D g (wM g) yX1_stageLength cX1_stageLength 1 0 0 .int (mst, msz, msv, mss, mby) [.ref (g.1 20)] (fun r s => r = nI msz ∧ s = (mst, msz, msv, mss, mby)) := by
  refine zz_enter_i RX1 [some (.ref (g.1 20))] 0 (by decide) rfl (by intro v hv; simp only [List.mem_cons, List.not_mem_nil, or_false] at hv; rcases hv with rfl <;> rfl) (Nat.le_of_ble_eq_true rfl) rfl ?_
  intro k hkl hkD F hR
  subst hkl hkD
  refine zz_aload_n0 (pc := 0) F dX1_stageLength_0 ?_
  refine zm_get_size (pc := 1) F dX1_stageLength_1 ?_
  exact hR _ _ _ _ dX1_stageLength_4 (vp_nar_int _) ⟨rfl, rfl⟩
set_option maxHeartbeats 4000000 in
theorem n_insert (l : Launch) (D : va_G) (g : ZG) (msz : Nat) (mst msv mss mby : Nat → Nat) (x b : Int32) (hz : msz ≤ 96) (hv : ∀ s, s < 6 → msv s ≤ 1) (hs : ∀ s, s < 6 → 0 < msv s → mss s ≤ 96) : zz_Mi l D g (wM g) yX1_insert cX1_insert 4 0 0 .int (mst, msz, msv, mss, mby) [.ref (g.1 20), .int x, .int b] (fun r s => SP_insert msz mst msv mss mby x b r s) := by
  refine zz_enter_i RX1 [some (.ref (g.1 20)), some (.int x), some (.int b), none] 1 (by decide) rfl (by intro v hv; simp only [List.mem_cons, List.not_mem_nil, or_false] at hv; rcases hv with rfl | rfl | rfl <;> rfl) (Nat.le_of_ble_eq_true rfl) rfl ?_
  intro k hkl hkD F hR
  subst hkl hkD
  have loop : ∀ (j i : Nat), x = nI j → j ≤ msz → msz < 96 → j ≤ i → i ≤ msz → zz_W k (wM g (sd_sh mst msz i, msz, msv, mss, mby)) 31 [some (.ref (g.1 20)), some (.int (nI (j))), some (.int (b)), some (.int (nI (i)))] [] := by
    intro j i
    induction i with
    | zero =>
      intro ex hj h96 hji hi
      refine zz_iload_n3 (pc := 31) F dX1_insert_31 ?_
      refine zz_iload_n1 (pc := 32) F dX1_insert_32 ?_
      refine zz_icmp_le (pc := 33) 56 F dX1_insert_33 (by decide) (by omega) (by omega) (fun c33 => ?_) (fun c33 => ?_)
      · have e : j = 0 := by omega
        subst e
        refine zz_aload_n0 (pc := 56) F dX1_insert_56 ?_
        refine zm_get_stage (pc := 57) F dX1_insert_57 ?_
        refine zz_iload_n1 (pc := 60) F dX1_insert_60 ?_
        refine zz_iload_n2 (pc := 61) F dX1_insert_61 ?_
        refine zz_sipush_255 (pc := 62) F dX1_insert_62 ?_
        refine zz_and255 (pc := 65) F dX1_insert_65 ?_
        refine zm_ast_stage (pc := 66) F dX1_insert_66 (by omega) ?_
        refine zz_aload_n0 (pc := 67) F dX1_insert_67 ?_
        refine zz_aload_n0 (pc := 68) F dX1_insert_68 ?_
        refine zm_get_size (pc := 69) F dX1_insert_69 ?_
        refine zz_iconst_1 (pc := 72) F dX1_insert_72 ?_
        refine zz_iadd (pc := 73) F dX1_insert_73 ?_
        refine zm_put_size (pc := 74) F dX1_insert_74 ?_
        refine zz_aload_n0 (pc := 77) F dX1_insert_77 ?_
        refine zm_get_size (pc := 78) F dX1_insert_78 ?_
        exact hR _ _ _ _ dX1_insert_81 (vp_nar_int _) (Or.inl ⟨_, hj, ex, h96, rfl, by rw [sh_ins]⟩)
      · exfalso; omega
    | succ i ih =>
      intro ex hj h96 hji hi
      refine zz_iload_n3 (pc := 31) F dX1_insert_31 ?_
      refine zz_iload_n1 (pc := 32) F dX1_insert_32 ?_
      refine zz_icmp_le (pc := 33) 56 F dX1_insert_33 (by decide) (by omega) (by omega) (fun c33 => ?_) (fun c33 => ?_)
      · have e : j = i + 1 := by omega
        subst e
        refine zz_aload_n0 (pc := 56) F dX1_insert_56 ?_
        refine zm_get_stage (pc := 57) F dX1_insert_57 ?_
        refine zz_iload_n1 (pc := 60) F dX1_insert_60 ?_
        refine zz_iload_n2 (pc := 61) F dX1_insert_61 ?_
        refine zz_sipush_255 (pc := 62) F dX1_insert_62 ?_
        refine zz_and255 (pc := 65) F dX1_insert_65 ?_
        refine zm_ast_stage (pc := 66) F dX1_insert_66 (by omega) ?_
        refine zz_aload_n0 (pc := 67) F dX1_insert_67 ?_
        refine zz_aload_n0 (pc := 68) F dX1_insert_68 ?_
        refine zm_get_size (pc := 69) F dX1_insert_69 ?_
        refine zz_iconst_1 (pc := 72) F dX1_insert_72 ?_
        refine zz_iadd (pc := 73) F dX1_insert_73 ?_
        refine zm_put_size (pc := 74) F dX1_insert_74 ?_
        refine zz_aload_n0 (pc := 77) F dX1_insert_77 ?_
        refine zm_get_size (pc := 78) F dX1_insert_78 ?_
        exact hR _ _ _ _ dX1_insert_81 (vp_nar_int _) (Or.inl ⟨_, hj, ex, h96, rfl, by rw [sh_ins]⟩)
      · refine zz_aload_n0 (pc := 36) F dX1_insert_36 ?_
        refine zm_get_stage (pc := 37) F dX1_insert_37 ?_
        refine zz_iload_n3 (pc := 40) F dX1_insert_40 ?_
        refine zz_aload_n0 (pc := 41) F dX1_insert_41 ?_
        refine zm_get_stage (pc := 42) F dX1_insert_42 ?_
        refine zz_iload_n3 (pc := 45) F dX1_insert_45 ?_
        refine zz_iconst_1 (pc := 46) F dX1_insert_46 ?_
        refine zz_isub (pc := 47) F dX1_insert_47 (by omega) ?_
        rw [Nat.add_sub_cancel]
        refine zm_ald_stage (pc := 48) F dX1_insert_48 (by omega) ?_
        refine zm_ast_stage (pc := 49) F dX1_insert_49 (by omega) ?_
        refine zz_idec3 (pc := 50) F dX1_insert_50 (by decide) ?_
        refine zz_goto (pc := 53) 31 F dX1_insert_53 (by decide) ?_
        rw [sh_step (by omega)]
        exact ih ex hj h96 (by omega) (by omega)
  refine zz_iload_n1 (pc := 0) F dX1_insert_0 ?_
  refine zz_if_ltG (pc := 1) 12 F dX1_insert_1 (by decide) (fun c1 => ?_) (fun c1 => ?_)
  · refine zz_bipush_m5 (pc := 12) F dX1_insert_12 ?_
    exact hR _ _ _ _ dX1_insert_14 (vp_nar_int _) (Or.inr ⟨rfl, Or.inr ⟨by first | exact Or.inl c1 | exact Or.inr (zz_nle (by omega) c9), rfl⟩⟩)
  · refine zz_iload_n1 (pc := 4) F dX1_insert_4 ?_
    refine zz_aload_n0 (pc := 5) F dX1_insert_5 ?_
    refine zm_get_size (pc := 6) F dX1_insert_6 ?_
    refine zz_icmp_leG (pc := 9) 15 F dX1_insert_9 (by decide) (fun c9 => ?_) (fun c9 => ?_)
    · obtain ⟨j, hj, rfl⟩ := zz_ixl (by omega) c1 c9
      refine zz_aload_n0 (pc := 15) F dX1_insert_15 ?_
      refine zm_get_size (pc := 16) F dX1_insert_16 ?_
      refine zz_bipush_96 (pc := 19) F dX1_insert_19 ?_
      refine zz_icmp_lt (pc := 21) 26 F dX1_insert_21 (by decide) (by omega) (by omega) (fun c21 => ?_) (fun c21 => ?_)
      · refine zz_aload_n0 (pc := 26) F dX1_insert_26 ?_
        refine zm_get_size (pc := 27) F dX1_insert_27 ?_
        refine zz_istore_n3 (pc := 30) F dX1_insert_30 (by decide) ?_
        have h := loop j msz rfl hj c21 hj (by omega)
        rw [sh_0] at h
        exact h
      · refine zz_iconst_m1 (pc := 24) F dX1_insert_24 ?_
        exact hR _ _ _ _ dX1_insert_25 (vp_nar_int _) (Or.inr ⟨rfl, Or.inl ⟨j, hj, rfl, c21, rfl⟩⟩)
    · refine zz_bipush_m5 (pc := 12) F dX1_insert_12 ?_
      exact hR _ _ _ _ dX1_insert_14 (vp_nar_int _) (Or.inr ⟨rfl, Or.inr ⟨by first | exact Or.inl c1 | exact Or.inr (zz_nle (by omega) c9), rfl⟩⟩)
set_option maxHeartbeats 4000000 in
theorem n_cut (l : Launch) (D : va_G) (g : ZG) (msz : Nat) (mst msv mss mby : Nat → Nat) (x n : Int32) (hz : msz ≤ 96) (hv : ∀ s, s < 6 → msv s ≤ 1) (hs : ∀ s, s < 6 → 0 < msv s → mss s ≤ 96) : zz_Mi l D g (wM g) yX1_cut cX1_cut 4 0 0 .int (mst, msz, msv, mss, mby) [.ref (g.1 20), .int x, .int n] (fun r s => SP_cut msz mst msv mss mby x n r s) := by
  refine zz_enter_i RX1 [some (.ref (g.1 20)), some (.int x), some (.int n), none] 1 (by decide) rfl (by intro v hv; simp only [List.mem_cons, List.not_mem_nil, or_false] at hv; rcases hv with rfl | rfl | rfl <;> rfl) (Nat.le_of_ble_eq_true rfl) rfl ?_
  intro k hkl hkD F hR
  subst hkl hkD
  have loop : ∀ (n2 j c i : Nat), x = nI j → n = nI c → j + c ≤ msz → j + i + c ≤ msz → msz < j + i + c + n2 → zz_W k (wM g (va_cpy mst mst (j + c) j i, msz, msv, mss, mby)) 31 [some (.ref (g.1 20)), some (.int (nI (j))), some (.int (nI (c))), some (.int (nI (j + i)))] [] := by
    intro n2
    induction n2 with
    | zero => intro j c i h1 h2 h3 h4 h5; exfalso; omega
    | succ n2 ih =>
      intro j c i ex en hjc hi hm
      refine zz_iload_n3 (pc := 31) F dX1_cut_31 ?_
      refine zz_iload_n2 (pc := 32) F dX1_cut_32 ?_
      refine zz_iadd (pc := 33) F dX1_cut_33 ?_
      refine zz_aload_n0 (pc := 34) F dX1_cut_34 ?_
      refine zm_get_size (pc := 35) F dX1_cut_35 ?_
      refine zz_icmp_ge (pc := 38) 61 F dX1_cut_38 (by decide) (by omega) (by omega) (fun c38 => ?_) (fun c38 => ?_)
      · refine zz_aload_n0 (pc := 61) F dX1_cut_61 ?_
        refine zz_aload_n0 (pc := 62) F dX1_cut_62 ?_
        refine zm_get_size (pc := 63) F dX1_cut_63 ?_
        refine zz_iload_n2 (pc := 66) F dX1_cut_66 ?_
        refine zz_isub (pc := 67) F dX1_cut_67 (by omega) ?_
        refine zm_put_size (pc := 68) F dX1_cut_68 ?_
        refine zz_aload_n0 (pc := 71) F dX1_cut_71 ?_
        refine zm_get_size (pc := 72) F dX1_cut_72 ?_
        exact hR _ _ _ _ dX1_cut_75 (vp_nar_int _) (Or.inl ⟨j, c, hjc, ex, en, rfl, by rw [show i = msz - c - j by omega]⟩)
      · refine zz_aload_n0 (pc := 41) F dX1_cut_41 ?_
        refine zm_get_stage (pc := 42) F dX1_cut_42 ?_
        refine zz_iload_n3 (pc := 45) F dX1_cut_45 ?_
        refine zz_aload_n0 (pc := 46) F dX1_cut_46 ?_
        refine zm_get_stage (pc := 47) F dX1_cut_47 ?_
        refine zz_iload_n3 (pc := 50) F dX1_cut_50 ?_
        refine zz_iload_n2 (pc := 51) F dX1_cut_51 ?_
        refine zz_iadd (pc := 52) F dX1_cut_52 ?_
        refine zm_ald_stage (pc := 53) F dX1_cut_53 (by omega) ?_
        rw [cpy_out (show j + i + c < j ∨ j + i ≤ j + i + c from Or.inr (by omega)), show j + i + c = j + c + i by omega]
        refine zm_ast_stage (pc := 54) F dX1_cut_54 (by omega) ?_
        refine zz_iinc3 (pc := 55) F dX1_cut_55 (by decide) ?_
        refine zz_goto (pc := 58) 31 F dX1_cut_58 (by decide) ?_
        rw [cpy_step]
        exact ih j c (i + 1) ex en hjc (by omega) (by omega)
  refine zz_iload_n1 (pc := 0) F dX1_cut_0 ?_
  refine zz_if_ltG (pc := 1) 26 F dX1_cut_1 (by decide) (fun c1 => ?_) (fun c1 => ?_)
  · refine zz_bipush_m5 (pc := 26) F dX1_cut_26 ?_
    exact hR _ _ _ _ dX1_cut_28 (vp_nar_int _) (Or.inr ⟨by first | exact fit_neg1 hz c1 | exact fit_neg2 hz c5 | exact fit_big1 hz c13 | exact fit_big2 hz hj c23, rfl, rfl⟩)
  · refine zz_iload_n2 (pc := 4) F dX1_cut_4 ?_
    refine zz_if_ltG (pc := 5) 26 F dX1_cut_5 (by decide) (fun c5 => ?_) (fun c5 => ?_)
    · refine zz_bipush_m5 (pc := 26) F dX1_cut_26 ?_
      exact hR _ _ _ _ dX1_cut_28 (vp_nar_int _) (Or.inr ⟨by first | exact fit_neg1 hz c1 | exact fit_neg2 hz c5 | exact fit_big1 hz c13 | exact fit_big2 hz hj c23, rfl, rfl⟩)
    · refine zz_iload_n1 (pc := 8) F dX1_cut_8 ?_
      refine zz_aload_n0 (pc := 9) F dX1_cut_9 ?_
      refine zm_get_size (pc := 10) F dX1_cut_10 ?_
      refine zz_icmp_gtG (pc := 13) 26 F dX1_cut_13 (by decide) (fun c13 => ?_) (fun c13 => ?_)
      · refine zz_bipush_m5 (pc := 26) F dX1_cut_26 ?_
        exact hR _ _ _ _ dX1_cut_28 (vp_nar_int _) (Or.inr ⟨by first | exact fit_neg1 hz c1 | exact fit_neg2 hz c5 | exact fit_big1 hz c13 | exact fit_big2 hz hj c23, rfl, rfl⟩)
      · obtain ⟨j, hj, rfl⟩ := zz_ixl (by omega) c1 (Int32.not_lt.mp c13)
        refine zz_iload_n2 (pc := 16) F dX1_cut_16 ?_
        refine zz_aload_n0 (pc := 17) F dX1_cut_17 ?_
        refine zm_get_size (pc := 18) F dX1_cut_18 ?_
        refine zz_iload_n1 (pc := 21) F dX1_cut_21 ?_
        refine zz_isub (pc := 22) F dX1_cut_22 (by omega) ?_
        refine zz_icmp_leG (pc := 23) 29 F dX1_cut_23 (by decide) (fun c23 => ?_) (fun c23 => ?_)
        · obtain ⟨c, hc, rfl⟩ := zz_ixl (by omega) c5 c23
          refine zz_iload_n1 (pc := 29) F dX1_cut_29 ?_
          refine zz_istore_n3 (pc := 30) F dX1_cut_30 (by decide) ?_
          have h := loop (msz + 1) j c 0 rfl rfl (by omega) (by omega) (by omega)
          rw [cpy_0] at h
          exact h
        · refine zz_bipush_m5 (pc := 26) F dX1_cut_26 ?_
          exact hR _ _ _ _ dX1_cut_28 (vp_nar_int _) (Or.inr ⟨by first | exact fit_neg1 hz c1 | exact fit_neg2 hz c5 | exact fit_big1 hz c13 | exact fit_big2 hz hj c23, rfl, rfl⟩)
set_option maxHeartbeats 4000000 in
theorem n_save (l : Launch) (D : va_G) (g : ZG) (msz : Nat) (mst msv mss mby : Nat → Nat) (x : Int32) (hz : msz ≤ 96) (hv : ∀ s, s < 6 → msv s ≤ 1) (hs : ∀ s, s < 6 → 0 < msv s → mss s ≤ 96) : zz_Mi l D g (wM g) yX1_save cX1_save 4 1 21 .int (mst, msz, msv, mss, mby) [.ref (g.1 20), .int x] (fun r s => SP_save msz mst msv mss mby x r s) := by
  refine zz_enter_i RX1 [some (.ref (g.1 20)), some (.int x), none, none] 2 (by decide) rfl (by intro v hv; simp only [List.mem_cons, List.not_mem_nil, or_false] at hv; rcases hv with rfl | rfl <;> rfl) (Nat.le_of_ble_eq_true rfl) rfl ?_
  intro k hkl hkD F hR
  subst hkl hkD
  have loop : ∀ (n2 s i : Nat), x = nI s → s < 6 → msv s = 0 → i ≤ msz → msz < i + n2 → zz_W k (wM g (mst, msz, msv, mss, va_cpy mst mby 0 (s * 96) i)) 24 [some (.ref (g.1 20)), some (.int (nI (s))), some (.int (-4)), some (.int (nI (i)))] [] := by
    intro n2
    induction n2 with
    | zero => intro s i h1 h2 h3 h4 h5; exfalso; omega
    | succ n2 ih =>
      intro s i ex hs6 h0 hi hm
      refine zz_iload_n3 (pc := 24) F dX1_save_24 ?_
      refine zz_aload_n0 (pc := 25) F dX1_save_25 ?_
      refine zm_get_size (pc := 26) F dX1_save_26 ?_
      refine zz_icmp_ge (pc := 29) 55 F dX1_save_29 (by decide) (by omega) (by omega) (fun c29 => ?_) (fun c29 => ?_)
      · have e : i = msz := by omega
        subst e
        refine zz_aload_n0 (pc := 55) F dX1_save_55 ?_
        refine zm_get_sizes (pc := 56) F dX1_save_56 ?_
        refine zz_iload_n1 (pc := 59) F dX1_save_59 ?_
        refine zz_aload_n0 (pc := 60) F dX1_save_60 ?_
        refine zm_get_size (pc := 61) F dX1_save_61 ?_
        refine zm_ast_sizes (pc := 64) F dX1_save_64 (by omega) ?_
        refine zz_aload_n0 (pc := 65) F dX1_save_65 ?_
        refine zm_get_saved (pc := 66) F dX1_save_66 ?_
        refine zz_iload_n1 (pc := 69) F dX1_save_69 ?_
        refine zz_iconst_1 (pc := 70) F dX1_save_70 ?_
        refine zm_ast_saved (pc := 71) F dX1_save_71 (by omega) (by decide) ?_
        refine zz_aload_n0 (pc := 72) F dX1_save_72 ?_
        refine zm_get_size (pc := 73) F dX1_save_73 ?_
        exact hR _ _ _ _ dX1_save_76 (vp_nar_int _) (Or.inr ⟨s, hs6, ex, h0, rfl, rfl⟩)
      · refine zz_aload_n0 (pc := 32) F dX1_save_32 ?_
        refine zm_get_bytes (pc := 33) F dX1_save_33 ?_
        refine zz_iload_n1 (pc := 36) F dX1_save_36 ?_
        refine zz_bipush_96 (pc := 37) F dX1_save_37 ?_
        refine zz_imul (pc := 39) F dX1_save_39 ?_
        refine zz_iload_n3 (pc := 40) F dX1_save_40 ?_
        refine zz_iadd (pc := 41) F dX1_save_41 ?_
        refine zz_aload_n0 (pc := 42) F dX1_save_42 ?_
        refine zm_get_stage (pc := 43) F dX1_save_43 ?_
        refine zz_iload_n3 (pc := 46) F dX1_save_46 ?_
        refine zm_ald_stage (pc := 47) F dX1_save_47 (by omega) ?_
        refine zm_ast_bytes (pc := 48) F dX1_save_48 (by omega) ?_
        refine zz_iinc3 (pc := 49) F dX1_save_49 (by decide) ?_
        refine zz_goto (pc := 52) 24 F dX1_save_52 (by decide) ?_
        rw [cpy_stepA]
        exact ih s (i + 1) ex hs6 h0 (by omega) (by omega)
  refine zz_aload_n0 (pc := 0) F dX1_save_0 ?_
  refine zz_iload_n1 (pc := 1) F dX1_save_1 ?_
  refine zm_call_missing (pc := 2) F dX1_save_2 (n_missing _ _ _ _ _ _ _ _ _ hz hv hs) (by decide) (Nat.le_of_ble_eq_true rfl) (fun r2 s2 h2 => ?_)
  obtain ⟨rfl, ⟨hb, rfl⟩ | ⟨s, hs6, rfl, h0, rfl⟩ | ⟨s, hs6, rfl, h0, rfl⟩⟩ := h2
  · refine zz_istore_n2 (pc := 5) F dX1_save_5 (by decide) ?_
    refine zz_iload_n2 (pc := 6) F dX1_save_6 ?_
    refine zz_bipush_m2 (pc := 7) F dX1_save_7 ?_
    refine zz_icmp_neG (pc := 9) 15 F dX1_save_9 (by decide) (fun c9 => ?_) (fun c9 => ?_)
    · exact absurd rfl c9
    · refine zz_bipush_m2 (pc := 12) F dX1_save_12 ?_
      exact hR _ _ _ _ dX1_save_14 (vp_nar_int _) (Or.inl ⟨rfl, Or.inl ⟨hb, rfl⟩⟩)
  · refine zz_istore_n2 (pc := 5) F dX1_save_5 (by decide) ?_
    refine zz_iload_n2 (pc := 6) F dX1_save_6 ?_
    refine zz_bipush_m2 (pc := 7) F dX1_save_7 ?_
    refine zz_icmp_neG (pc := 9) 15 F dX1_save_9 (by decide) (fun c9 => ?_) (fun c9 => ?_)
    · refine zz_iload_n2 (pc := 15) F dX1_save_15 ?_
      refine zz_if_neG (pc := 16) 22 F dX1_save_16 (by decide) (fun c16 => ?_) (fun c16 => ?_)
      · refine zz_iconst_0 (pc := 22) F dX1_save_22 ?_
        refine zz_istore_n3 (pc := 23) F dX1_save_23 (by decide) ?_
        have h := loop (msz + 1) s 0 rfl hs6 h0 (by omega) (by omega)
        rw [cpy_0] at h
        exact h
      · exact absurd c16 (by decide)
    · exact absurd c9 (by decide)
  · refine zz_istore_n2 (pc := 5) F dX1_save_5 (by decide) ?_
    refine zz_iload_n2 (pc := 6) F dX1_save_6 ?_
    refine zz_bipush_m2 (pc := 7) F dX1_save_7 ?_
    refine zz_icmp_neG (pc := 9) 15 F dX1_save_9 (by decide) (fun c9 => ?_) (fun c9 => ?_)
    · refine zz_iload_n2 (pc := 15) F dX1_save_15 ?_
      refine zz_if_ne (pc := 16) 22 F dX1_save_16 (by decide) (by decide) (fun c16 => ?_) (fun c16 => ?_)
      · exact absurd c16 (by decide)
      · refine zz_bipush_m3 (pc := 19) F dX1_save_19 ?_
        exact hR _ _ _ _ dX1_save_21 (vp_nar_int _) (Or.inl ⟨rfl, Or.inr ⟨s, hs6, rfl, h0, rfl⟩⟩)
    · exact absurd c9 (by decide)
set_option maxHeartbeats 4000000 in
theorem n_drop (l : Launch) (D : va_G) (g : ZG) (msz : Nat) (mst msv mss mby : Nat → Nat) (x : Int32) (hz : msz ≤ 96) (hv : ∀ s, s < 6 → msv s ≤ 1) (hs : ∀ s, s < 6 → 0 < msv s → mss s ≤ 96) : zz_Mi l D g (wM g) yX1_drop cX1_drop 3 1 21 .int (mst, msz, msv, mss, mby) [.ref (g.1 20), .int x] (fun r s => SP_drop msz mst msv mss mby x r s) := by
  refine zz_enter_i RX1 [some (.ref (g.1 20)), some (.int x), none] 1 (by decide) rfl (by intro v hv; simp only [List.mem_cons, List.not_mem_nil, or_false] at hv; rcases hv with rfl | rfl <;> rfl) (Nat.le_of_ble_eq_true rfl) rfl ?_
  intro k hkl hkD F hR
  subst hkl hkD
  refine zz_aload_n0 (pc := 0) F dX1_drop_0 ?_
  refine zz_iload_n1 (pc := 1) F dX1_drop_1 ?_
  refine zm_call_missing (pc := 2) F dX1_drop_2 (n_missing _ _ _ _ _ _ _ _ _ hz hv hs) (by decide) (Nat.le_of_ble_eq_true rfl) (fun r2 s2 h2 => ?_)
  obtain ⟨rfl, ⟨hb, rfl⟩ | ⟨s, hs6, rfl, h0, rfl⟩ | ⟨s, hs6, rfl, h0, rfl⟩⟩ := h2
  · refine zz_istore_n2 (pc := 5) F dX1_drop_5 (by decide) ?_
    refine zz_iload_n2 (pc := 6) F dX1_drop_6 ?_
    refine zz_if_eqG (pc := 7) 12 F dX1_drop_7 (by decide) (fun c7 => ?_) (fun c7 => ?_)
    · exact absurd c7 (by decide)
    · refine zz_iload_n2 (pc := 10) F dX1_drop_10 ?_
      exact hR _ _ _ _ dX1_drop_11 (vp_nar_int _) (Or.inl ⟨rfl, Or.inl ⟨hb, rfl⟩⟩)
  · refine zz_istore_n2 (pc := 5) F dX1_drop_5 (by decide) ?_
    refine zz_iload_n2 (pc := 6) F dX1_drop_6 ?_
    refine zz_if_eqG (pc := 7) 12 F dX1_drop_7 (by decide) (fun c7 => ?_) (fun c7 => ?_)
    · exact absurd c7 (by decide)
    · refine zz_iload_n2 (pc := 10) F dX1_drop_10 ?_
      exact hR _ _ _ _ dX1_drop_11 (vp_nar_int _) (Or.inl ⟨rfl, Or.inr ⟨s, hs6, rfl, h0, rfl⟩⟩)
  · have hm96 := hs s hs6 h0
    refine zz_istore_n2 (pc := 5) F dX1_drop_5 (by decide) ?_
    refine zz_iload_n2 (pc := 6) F dX1_drop_6 ?_
    refine zz_if_eq (pc := 7) 12 F dX1_drop_7 (by decide) (by decide) (fun c7 => ?_) (fun c7 => ?_)
    · refine zz_aload_n0 (pc := 12) F dX1_drop_12 ?_
      refine zm_get_saved (pc := 13) F dX1_drop_13 ?_
      refine zz_iload_n1 (pc := 16) F dX1_drop_16 ?_
      refine zz_iconst_0 (pc := 17) F dX1_drop_17 ?_
      refine zm_ast_saved (pc := 18) F dX1_drop_18 (by omega) (by decide) ?_
      refine zz_aload_n0 (pc := 19) F dX1_drop_19 ?_
      refine zm_get_sizes (pc := 20) F dX1_drop_20 ?_
      refine zz_iload_n1 (pc := 23) F dX1_drop_23 ?_
      refine zm_ald_sizes (pc := 24) F dX1_drop_24 (by omega) ?_
      exact hR _ _ _ _ dX1_drop_25 (vp_nar_int _) (Or.inr ⟨s, hs6, rfl, h0, rfl, rfl⟩)
    · exact absurd c7 (by decide)
set_option maxHeartbeats 4000000 in
theorem n_length (l : Launch) (D : va_G) (g : ZG) (msz : Nat) (mst msv mss mby : Nat → Nat) (x : Int32) (hz : msz ≤ 96) (hv : ∀ s, s < 6 → msv s ≤ 1) (hs : ∀ s, s < 6 → 0 < msv s → mss s ≤ 96) : zz_Mi l D g (wM g) yX1_length cX1_length 3 1 21 .int (mst, msz, msv, mss, mby) [.ref (g.1 20), .int x] (fun r s => SP_length msz mst msv mss mby x r s) := by
  refine zz_enter_i RX1 [some (.ref (g.1 20)), some (.int x), none] 1 (by decide) rfl (by intro v hv; simp only [List.mem_cons, List.not_mem_nil, or_false] at hv; rcases hv with rfl | rfl <;> rfl) (Nat.le_of_ble_eq_true rfl) rfl ?_
  intro k hkl hkD F hR
  subst hkl hkD
  refine zz_aload_n0 (pc := 0) F dX1_length_0 ?_
  refine zz_iload_n1 (pc := 1) F dX1_length_1 ?_
  refine zm_call_missing (pc := 2) F dX1_length_2 (n_missing _ _ _ _ _ _ _ _ _ hz hv hs) (by decide) (Nat.le_of_ble_eq_true rfl) (fun r2 s2 h2 => ?_)
  obtain ⟨rfl, ⟨hb, rfl⟩ | ⟨s, hs6, rfl, h0, rfl⟩ | ⟨s, hs6, rfl, h0, rfl⟩⟩ := h2
  · refine zz_istore_n2 (pc := 5) F dX1_length_5 (by decide) ?_
    refine zz_iload_n2 (pc := 6) F dX1_length_6 ?_
    refine zz_if_eqG (pc := 7) 12 F dX1_length_7 (by decide) (fun c7 => ?_) (fun c7 => ?_)
    · exact absurd c7 (by decide)
    · refine zz_iload_n2 (pc := 10) F dX1_length_10 ?_
      exact hR _ _ _ _ dX1_length_11 (vp_nar_int _) ⟨rfl, Or.inl ⟨hb, rfl⟩⟩
  · refine zz_istore_n2 (pc := 5) F dX1_length_5 (by decide) ?_
    refine zz_iload_n2 (pc := 6) F dX1_length_6 ?_
    refine zz_if_eqG (pc := 7) 12 F dX1_length_7 (by decide) (fun c7 => ?_) (fun c7 => ?_)
    · exact absurd c7 (by decide)
    · refine zz_iload_n2 (pc := 10) F dX1_length_10 ?_
      exact hR _ _ _ _ dX1_length_11 (vp_nar_int _) ⟨rfl, Or.inr (Or.inl ⟨s, hs6, rfl, h0, rfl⟩)⟩
  · have hm96 := hs s hs6 h0
    refine zz_istore_n2 (pc := 5) F dX1_length_5 (by decide) ?_
    refine zz_iload_n2 (pc := 6) F dX1_length_6 ?_
    refine zz_if_eq (pc := 7) 12 F dX1_length_7 (by decide) (by decide) (fun c7 => ?_) (fun c7 => ?_)
    · refine zz_aload_n0 (pc := 12) F dX1_length_12 ?_
      refine zm_get_sizes (pc := 13) F dX1_length_13 ?_
      refine zz_iload_n1 (pc := 16) F dX1_length_16 ?_
      refine zm_ald_sizes (pc := 17) F dX1_length_17 (by omega) ?_
      exact hR _ _ _ _ dX1_length_18 (vp_nar_int _) ⟨rfl, Or.inr (Or.inr ⟨s, hs6, rfl, h0, rfl⟩)⟩
    · exact absurd c7 (by decide)
set_option maxHeartbeats 4000000 in
theorem n_byteAt (l : Launch) (D : va_G) (g : ZG) (msz : Nat) (mst msv mss mby : Nat → Nat) (x y : Int32) (hz : msz ≤ 96) (hv : ∀ s, s < 6 → msv s ≤ 1) (hs : ∀ s, s < 6 → 0 < msv s → mss s ≤ 96) : zz_Mi l D g (wM g) yX1_byteAt cX1_byteAt 4 1 21 .int (mst, msz, msv, mss, mby) [.ref (g.1 20), .int x, .int y] (fun r s => SP_byteAt msz mst msv mss mby x y r s) := by
  refine zz_enter_i RX1 [some (.ref (g.1 20)), some (.int x), some (.int y), none] 1 (by decide) rfl (by intro v hv; simp only [List.mem_cons, List.not_mem_nil, or_false] at hv; rcases hv with rfl | rfl | rfl <;> rfl) (Nat.le_of_ble_eq_true rfl) rfl ?_
  intro k hkl hkD F hR
  subst hkl hkD
  refine zz_aload_n0 (pc := 0) F dX1_byteAt_0 ?_
  refine zz_iload_n1 (pc := 1) F dX1_byteAt_1 ?_
  refine zm_call_missing (pc := 2) F dX1_byteAt_2 (n_missing _ _ _ _ _ _ _ _ _ hz hv hs) (by decide) (Nat.le_of_ble_eq_true rfl) (fun r2 s2 h2 => ?_)
  obtain ⟨rfl, ⟨hb, rfl⟩ | ⟨s, hs6, rfl, h0, rfl⟩ | ⟨s, hs6, rfl, h0, rfl⟩⟩ := h2
  · refine zz_istore_n3 (pc := 5) F dX1_byteAt_5 (by decide) ?_
    refine zz_iload_n3 (pc := 6) F dX1_byteAt_6 ?_
    refine zz_if_eqG (pc := 7) 12 F dX1_byteAt_7 (by decide) (fun c7 => ?_) (fun c7 => ?_)
    · exact absurd c7 (by decide)
    · refine zz_iload_n3 (pc := 10) F dX1_byteAt_10 ?_
      exact hR _ _ _ _ dX1_byteAt_11 (vp_nar_int _) ⟨rfl, Or.inl ⟨hb, rfl⟩⟩
  · refine zz_istore_n3 (pc := 5) F dX1_byteAt_5 (by decide) ?_
    refine zz_iload_n3 (pc := 6) F dX1_byteAt_6 ?_
    refine zz_if_eqG (pc := 7) 12 F dX1_byteAt_7 (by decide) (fun c7 => ?_) (fun c7 => ?_)
    · exact absurd c7 (by decide)
    · refine zz_iload_n3 (pc := 10) F dX1_byteAt_10 ?_
      exact hR _ _ _ _ dX1_byteAt_11 (vp_nar_int _) ⟨rfl, Or.inr (Or.inl ⟨s, hs6, rfl, h0, rfl⟩)⟩
  · have hm96 := hs s hs6 h0
    refine zz_istore_n3 (pc := 5) F dX1_byteAt_5 (by decide) ?_
    refine zz_iload_n3 (pc := 6) F dX1_byteAt_6 ?_
    refine zz_if_eq (pc := 7) 12 F dX1_byteAt_7 (by decide) (by decide) (fun c7 => ?_) (fun c7 => ?_)
    · refine zz_iload_n2 (pc := 12) F dX1_byteAt_12 ?_
      refine zz_if_ltG (pc := 13) 26 F dX1_byteAt_13 (by decide) (fun c13 => ?_) (fun c13 => ?_)
      · refine zz_bipush_m5 (pc := 26) F dX1_byteAt_26 ?_
        exact hR _ _ _ _ dX1_byteAt_28 (vp_nar_int _) ⟨rfl, Or.inr (Or.inr ⟨s, hs6, rfl, h0, Or.inl ⟨by first | exact Or.inl c13 | exact Or.inr (zz_nlt c23), rfl⟩⟩)⟩
      · refine zz_iload_n2 (pc := 16) F dX1_byteAt_16 ?_
        refine zz_aload_n0 (pc := 17) F dX1_byteAt_17 ?_
        refine zm_get_sizes (pc := 18) F dX1_byteAt_18 ?_
        refine zz_iload_n1 (pc := 21) F dX1_byteAt_21 ?_
        refine zm_ald_sizes (pc := 22) F dX1_byteAt_22 (by omega) ?_
        refine zz_icmp_ltG (pc := 23) 29 F dX1_byteAt_23 (by decide) (fun c23 => ?_) (fun c23 => ?_)
        · obtain ⟨j, hj, rfl⟩ := zz_ix (by omega) c13 c23
          refine zz_aload_n0 (pc := 29) F dX1_byteAt_29 ?_
          refine zm_get_bytes (pc := 30) F dX1_byteAt_30 ?_
          refine zz_iload_n1 (pc := 33) F dX1_byteAt_33 ?_
          refine zz_bipush_96 (pc := 34) F dX1_byteAt_34 ?_
          refine zz_imul (pc := 36) F dX1_byteAt_36 ?_
          refine zz_iload_n2 (pc := 37) F dX1_byteAt_37 ?_
          refine zz_iadd (pc := 38) F dX1_byteAt_38 ?_
          refine zm_ald_bytes (pc := 39) F dX1_byteAt_39 (by omega) ?_
          exact hR _ _ _ _ dX1_byteAt_40 (vp_nar_int _) ⟨rfl, Or.inr (Or.inr ⟨s, hs6, rfl, h0, Or.inr ⟨j, hj, rfl, rfl⟩⟩)⟩
        · refine zz_bipush_m5 (pc := 26) F dX1_byteAt_26 ?_
          exact hR _ _ _ _ dX1_byteAt_28 (vp_nar_int _) ⟨rfl, Or.inr (Or.inr ⟨s, hs6, rfl, h0, Or.inl ⟨by first | exact Or.inl c13 | exact Or.inr (zz_nlt c23), rfl⟩⟩)⟩
    · exact absurd c7 (by decide)
set_option maxHeartbeats 4000000 in
theorem n_sum (l : Launch) (D : va_G) (g : ZG) (msz : Nat) (mst msv mss mby : Nat → Nat) (x : Int32) (hz : msz ≤ 96) (hv : ∀ s, s < 6 → msv s ≤ 1) (hs : ∀ s, s < 6 → 0 < msv s → mss s ≤ 96) : zz_Mi l D g (wM g) yX1_sum cX1_sum 4 1 21 .int (mst, msz, msv, mss, mby) [.ref (g.1 20), .int x] (fun r s => SP_sum msz mst msv mss mby x r s) := by
  refine zz_enter_i RX1 [some (.ref (g.1 20)), some (.int x), none, none] 2 (by decide) rfl (by intro v hv; simp only [List.mem_cons, List.not_mem_nil, or_false] at hv; rcases hv with rfl | rfl <;> rfl) (Nat.le_of_ble_eq_true rfl) rfl ?_
  intro k hkl hkD F hR
  subst hkl hkD
  refine zz_aload_n0 (pc := 0) F dX1_sum_0 ?_
  refine zz_iload_n1 (pc := 1) F dX1_sum_1 ?_
  refine zm_call_missing (pc := 2) F dX1_sum_2 (n_missing _ _ _ _ _ _ _ _ _ hz hv hs) (by decide) (Nat.le_of_ble_eq_true rfl) (fun r2 s2 h2 => ?_)
  obtain ⟨rfl, ⟨hb, rfl⟩ | ⟨s, hs6, rfl, h0, rfl⟩ | ⟨s, hs6, rfl, h0, rfl⟩⟩ := h2
  · refine zz_if_eqG (pc := 5) 10 F dX1_sum_5 (by decide) (fun c5 => ?_) (fun c5 => ?_)
    · exact absurd c5 (by decide)
    · refine zz_iconst_0 (pc := 8) F dX1_sum_8 ?_
      exact hR _ _ _ _ dX1_sum_9 (vp_nar_int _) ⟨rfl, Or.inl ⟨hb, rfl⟩⟩
  · refine zz_if_eqG (pc := 5) 10 F dX1_sum_5 (by decide) (fun c5 => ?_) (fun c5 => ?_)
    · exact absurd c5 (by decide)
    · refine zz_iconst_0 (pc := 8) F dX1_sum_8 ?_
      exact hR _ _ _ _ dX1_sum_9 (vp_nar_int _) ⟨rfl, Or.inr (Or.inl ⟨s, hs6, rfl, h0, rfl⟩)⟩
  · have hm96 := hs s hs6 h0
    refine zz_if_eq (pc := 5) 10 F dX1_sum_5 (by decide) (by decide) (fun c5 => ?_) (fun c5 => ?_)
    · have loop : ∀ (n2 i : Nat), i ≤ mss s → mss s < i + n2 → zz_W k (wM g (mst, msz, msv, mss, mby)) 15 [some (.ref (g.1 20)), some (.int (nI (s))), some (.int (sd_sum mby (s * 96) i)), some (.int (nI (i)))] [] := by
        intro n2
        induction n2 with
        | zero => intro i h1 h2; exfalso; omega
        | succ n2 ih =>
          intro i hi hm
          refine zz_iload_n3 (pc := 15) F dX1_sum_15 ?_
          refine zz_aload_n0 (pc := 16) F dX1_sum_16 ?_
          refine zm_get_sizes (pc := 17) F dX1_sum_17 ?_
          refine zz_iload_n1 (pc := 20) F dX1_sum_20 ?_
          refine zm_ald_sizes (pc := 21) F dX1_sum_21 (by omega) ?_
          refine zz_icmp_ge (pc := 22) 49 F dX1_sum_22 (by decide) (by omega) (by omega) (fun c22 => ?_) (fun c22 => ?_)
          · have e : i = mss s := by omega
            refine zz_iload_n2 (pc := 49) F dX1_sum_49 ?_
            exact hR _ _ _ _ dX1_sum_50 (vp_nar_int _) ⟨rfl, Or.inr (Or.inr ⟨s, hs6, rfl, h0, by rw [← e]⟩)⟩
          · refine zz_iload_n2 (pc := 25) F dX1_sum_25 ?_
            refine zz_sipush_131 (pc := 26) F dX1_sum_26 ?_
            refine zz_imulG (pc := 29) F dX1_sum_29 ?_
            refine zz_aload_n0 (pc := 30) F dX1_sum_30 ?_
            refine zm_get_bytes (pc := 31) F dX1_sum_31 ?_
            refine zz_iload_n1 (pc := 34) F dX1_sum_34 ?_
            refine zz_bipush_96 (pc := 35) F dX1_sum_35 ?_
            refine zz_imul (pc := 37) F dX1_sum_37 ?_
            refine zz_iload_n3 (pc := 38) F dX1_sum_38 ?_
            refine zz_iadd (pc := 39) F dX1_sum_39 ?_
            refine zm_ald_bytes (pc := 40) F dX1_sum_40 (by omega) ?_
            refine zz_iaddG (pc := 41) F dX1_sum_41 ?_
            refine zz_istore_n2 (pc := 42) F dX1_sum_42 (by decide) ?_
            refine zz_iinc3 (pc := 43) F dX1_sum_43 (by decide) ?_
            refine zz_goto (pc := 46) 15 F dX1_sum_46 (by decide) ?_
            exact ih (i + 1) (by omega) (by omega)
      refine zz_bipush_7 (pc := 10) F dX1_sum_10 ?_
      refine zz_istore_n2 (pc := 12) F dX1_sum_12 (by decide) ?_
      refine zz_iconst_0 (pc := 13) F dX1_sum_13 ?_
      refine zz_istore_n3 (pc := 14) F dX1_sum_14 (by decide) ?_
      exact loop (mss s + 1) 0 (by omega) (by omega)
    · exact absurd c5 (by decide)
set_option maxHeartbeats 4000000 in
theorem n_commonStart (l : Launch) (D : va_G) (g : ZG) (msz : Nat) (mst msv mss mby : Nat → Nat) (x y : Int32) (hz : msz ≤ 96) (hv : ∀ s, s < 6 → msv s ≤ 1) (hs : ∀ s, s < 6 → 0 < msv s → mss s ≤ 96) (hby : ∀ s, s < 6 → 0 < msv s → ∀ q, q < mss s → mby (s * 96 + q) < 256) : zz_Mi l D g (wM g) yX1_commonStart cX1_commonStart 7 1 21 .int (mst, msz, msv, mss, mby) [.ref (g.1 20), .int x, .int y] (fun r s => SP_common msz mst msv mss mby x y r s) := by
  refine zz_enter_i RX1 [some (.ref (g.1 20)), some (.int x), some (.int y), none, none, none, none] 4 (by decide) rfl (by intro v hv; simp only [List.mem_cons, List.not_mem_nil, or_false] at hv; rcases hv with rfl | rfl | rfl <;> rfl) (Nat.le_of_ble_eq_true rfl) rfl ?_
  intro k hkl hkD F hR
  subst hkl hkD
  have loop : ∀ (n2 s t i c : Nat), x = nI s → y = nI t → s < 6 → t < 6 → 0 < msv s → 0 < msv t → mss s ≤ 96 → mss t ≤ 96 → (∀ q, q < mss s → mby (s * 96 + q) < 256) → (∀ q, q < mss t → mby (t * 96 + q) < 256) → i ≤ 96 → 96 < i + n2 → c ≤ i → c ≤ mss s → c ≤ mss t → (∀ q, q < c → mby (s * 96 + q) = mby (t * 96 + q)) → (c < i → c = mss s ∨ c = mss t ∨ mby (s * 96 + c) ≠ mby (t * 96 + c)) → zz_W k (wM g (mst, msz, msv, mss, mby)) 47 [some (.ref (g.1 20)), some (.int (nI (s))), some (.int (nI (t))), some (.int (nI (0))), some (.int (nI (0))), some (.int (nI (c))), some (.int (nI (i)))] [] := by
    intro n2
    induction n2 with
    | zero => intro s t i c h1 h2 h3 h4 h5 h6 h7 h8 h9 h10 h11 h12; exfalso; omega
    | succ n2 ih =>
      intro s t i c ex ey hs6 ht6 hs0 ht0 hsm htm hsb htb hi hm hci hcs hct heq hend
      refine zz_iload6 (pc := 47) F dX1_commonStart_47 ?_
      refine zz_bipush_96 (pc := 49) F dX1_commonStart_49 ?_
      refine zz_icmp_ge (pc := 51) 119 F dX1_commonStart_51 (by decide) (by omega) (by omega) (fun c51 => ?_) (fun c51 => ?_)
      · have hend2 : c = mss s ∨ c = mss t ∨ mby (s * 96 + c) ≠ mby (t * 96 + c) := by
          rcases Nat.lt_or_ge c i with q | q
          · exact hend q
          · omega
        refine zz_iload5 (pc := 119) F dX1_commonStart_119 ?_
        exact hR _ _ _ _ dX1_commonStart_121 (vp_nar_int _) ⟨rfl, Or.inr (Or.inr ⟨s, t, c, hs6, ht6, ex, ey, hs0, ht0, rfl, hcs, hct, heq, hend2⟩)⟩
      · refine zz_iload5 (pc := 54) F dX1_commonStart_54 ?_
        refine zz_iload6 (pc := 56) F dX1_commonStart_56 ?_
        refine zz_icmp_ne (pc := 58) 113 F dX1_commonStart_58 (by decide) (by omega) (by omega) (fun c58 => ?_) (fun c58 => ?_)
        · have hstop := hend (by omega)
          refine zz_iinc6 (pc := 113) F dX1_commonStart_113 (by decide) ?_
          refine zz_goto (pc := 116) 47 F dX1_commonStart_116 (by decide) ?_
          first
            | exact ih s t _ (c + 1) ex ey hs6 ht6 hs0 ht0 hsm htm hsb htb (by omega) (by omega) (by omega) (by omega) (by omega) (lt_s heq heqc) (fun q => absurd q (by omega))
            | exact ih s t _ c ex ey hs6 ht6 hs0 ht0 hsm htm hsb htb (by omega) (by omega) (by omega) hcs hct heq (fun _ => hstop)
        · subst c58
          refine zz_iload6 (pc := 61) F dX1_commonStart_61 ?_
          refine zz_aload_n0 (pc := 63) F dX1_commonStart_63 ?_
          refine zm_get_sizes (pc := 64) F dX1_commonStart_64 ?_
          refine zz_iload_n1 (pc := 67) F dX1_commonStart_67 ?_
          refine zm_ald_sizes (pc := 68) F dX1_commonStart_68 (by omega) ?_
          refine zz_icmp_ge (pc := 69) 113 F dX1_commonStart_69 (by decide) (by omega) (by omega) (fun c69 => ?_) (fun c69 => ?_)
          · have hstop : c = mss s ∨ c = mss t ∨ mby (s * 96 + c) ≠ mby (t * 96 + c) := Or.inl (by omega)
            refine zz_iinc6 (pc := 113) F dX1_commonStart_113 (by decide) ?_
            refine zz_goto (pc := 116) 47 F dX1_commonStart_116 (by decide) ?_
            first
              | exact ih s t _ (c + 1) ex ey hs6 ht6 hs0 ht0 hsm htm hsb htb (by omega) (by omega) (by omega) (by omega) (by omega) (lt_s heq heqc) (fun q => absurd q (by omega))
              | exact ih s t _ c ex ey hs6 ht6 hs0 ht0 hsm htm hsb htb (by omega) (by omega) (by omega) hcs hct heq (fun _ => hstop)
          · refine zz_iload6 (pc := 72) F dX1_commonStart_72 ?_
            refine zz_aload_n0 (pc := 74) F dX1_commonStart_74 ?_
            refine zm_get_sizes (pc := 75) F dX1_commonStart_75 ?_
            refine zz_iload_n2 (pc := 78) F dX1_commonStart_78 ?_
            refine zm_ald_sizes (pc := 79) F dX1_commonStart_79 (by omega) ?_
            refine zz_icmp_ge (pc := 80) 113 F dX1_commonStart_80 (by decide) (by omega) (by omega) (fun c80 => ?_) (fun c80 => ?_)
            · have hstop : c = mss s ∨ c = mss t ∨ mby (s * 96 + c) ≠ mby (t * 96 + c) := Or.inr (Or.inl (by omega))
              refine zz_iinc6 (pc := 113) F dX1_commonStart_113 (by decide) ?_
              refine zz_goto (pc := 116) 47 F dX1_commonStart_116 (by decide) ?_
              first
                | exact ih s t _ (c + 1) ex ey hs6 ht6 hs0 ht0 hsm htm hsb htb (by omega) (by omega) (by omega) (by omega) (by omega) (lt_s heq heqc) (fun q => absurd q (by omega))
                | exact ih s t _ c ex ey hs6 ht6 hs0 ht0 hsm htm hsb htb (by omega) (by omega) (by omega) hcs hct heq (fun _ => hstop)
            · refine zz_aload_n0 (pc := 83) F dX1_commonStart_83 ?_
              refine zm_get_bytes (pc := 84) F dX1_commonStart_84 ?_
              refine zz_iload_n1 (pc := 87) F dX1_commonStart_87 ?_
              refine zz_bipush_96 (pc := 88) F dX1_commonStart_88 ?_
              refine zz_imul (pc := 90) F dX1_commonStart_90 ?_
              refine zz_iload6 (pc := 91) F dX1_commonStart_91 ?_
              refine zz_iadd (pc := 93) F dX1_commonStart_93 ?_
              refine zm_ald_bytes (pc := 94) F dX1_commonStart_94 (by omega) ?_
              refine zz_aload_n0 (pc := 95) F dX1_commonStart_95 ?_
              refine zm_get_bytes (pc := 96) F dX1_commonStart_96 ?_
              refine zz_iload_n2 (pc := 99) F dX1_commonStart_99 ?_
              refine zz_bipush_96 (pc := 100) F dX1_commonStart_100 ?_
              refine zz_imul (pc := 102) F dX1_commonStart_102 ?_
              refine zz_iload6 (pc := 103) F dX1_commonStart_103 ?_
              refine zz_iadd (pc := 105) F dX1_commonStart_105 ?_
              refine zm_ald_bytes (pc := 106) F dX1_commonStart_106 (by omega) ?_
              refine zz_icmp_ne (pc := 107) 113 F dX1_commonStart_107 (by decide) (Nat.lt_trans (hsb c (by omega)) (by decide)) (Nat.lt_trans (htb c (by omega)) (by decide)) (fun c107 => ?_) (fun c107 => ?_)
              · have hstop : c = mss s ∨ c = mss t ∨ mby (s * 96 + c) ≠ mby (t * 96 + c) := Or.inr (Or.inr c107)
                refine zz_iinc6 (pc := 113) F dX1_commonStart_113 (by decide) ?_
                refine zz_goto (pc := 116) 47 F dX1_commonStart_116 (by decide) ?_
                first
                  | exact ih s t _ (c + 1) ex ey hs6 ht6 hs0 ht0 hsm htm hsb htb (by omega) (by omega) (by omega) (by omega) (by omega) (lt_s heq heqc) (fun q => absurd q (by omega))
                  | exact ih s t _ c ex ey hs6 ht6 hs0 ht0 hsm htm hsb htb (by omega) (by omega) (by omega) hcs hct heq (fun _ => hstop)
              · have heqc : mby (s * 96 + c) = mby (t * 96 + c) := c107
                refine zz_iinc5 (pc := 110) F dX1_commonStart_110 (by decide) ?_
                refine zz_iinc6 (pc := 113) F dX1_commonStart_113 (by decide) ?_
                refine zz_goto (pc := 116) 47 F dX1_commonStart_116 (by decide) ?_
                first
                  | exact ih s t _ (c + 1) ex ey hs6 ht6 hs0 ht0 hsm htm hsb htb (by omega) (by omega) (by omega) (by omega) (by omega) (lt_s heq heqc) (fun q => absurd q (by omega))
                  | exact ih s t _ c ex ey hs6 ht6 hs0 ht0 hsm htm hsb htb (by omega) (by omega) (by omega) hcs hct heq (fun _ => hstop)
  refine zz_aload_n0 (pc := 0) F dX1_commonStart_0 ?_
  refine zz_iload_n1 (pc := 1) F dX1_commonStart_1 ?_
  refine zm_call_missing (pc := 2) F dX1_commonStart_2 (n_missing _ _ _ _ _ _ _ _ _ hz hv hs) (by decide) (Nat.le_of_ble_eq_true rfl) (fun r2 s2 h2 => ?_)
  obtain ⟨rfl, ⟨hb, rfl⟩ | ⟨s, hs6, rfl, h0, rfl⟩ | ⟨s, hs6, rfl, h0, rfl⟩⟩ := h2
  · refine zz_istore_n3 (pc := 5) F dX1_commonStart_5 (by decide) ?_
    refine zz_aload_n0 (pc := 6) F dX1_commonStart_6 ?_
    refine zz_iload_n2 (pc := 7) F dX1_commonStart_7 ?_
    refine zm_call_missing (pc := 8) F dX1_commonStart_8 (n_missing _ _ _ _ _ _ _ _ _ hz hv hs) (by decide) (Nat.le_of_ble_eq_true rfl) (fun r8 s8 h8 => ?_)
    obtain ⟨rfl, ⟨hb2, rfl⟩ | ⟨t, ht6, rfl, h2z, rfl⟩ | ⟨t, ht6, rfl, h2z, rfl⟩⟩ := h8
    · refine zz_istore4 (pc := 11) F dX1_commonStart_11 (by decide) ?_
      refine zz_iload_n3 (pc := 13) F dX1_commonStart_13 ?_
      refine zz_bipush_m2 (pc := 14) F dX1_commonStart_14 ?_
      refine zz_icmp_eqG (pc := 16) 26 F dX1_commonStart_16 (by decide) (fun c16 => ?_) (fun c16 => ?_)
      · refine zz_bipush_m2 (pc := 26) F dX1_commonStart_26 ?_
        exact hR _ _ _ _ dX1_commonStart_28 (vp_nar_int _) ⟨rfl, Or.inl ⟨Or.inl hb, rfl⟩⟩
      · exact absurd rfl c16
    · refine zz_istore4 (pc := 11) F dX1_commonStart_11 (by decide) ?_
      refine zz_iload_n3 (pc := 13) F dX1_commonStart_13 ?_
      refine zz_bipush_m2 (pc := 14) F dX1_commonStart_14 ?_
      refine zz_icmp_eqG (pc := 16) 26 F dX1_commonStart_16 (by decide) (fun c16 => ?_) (fun c16 => ?_)
      · refine zz_bipush_m2 (pc := 26) F dX1_commonStart_26 ?_
        exact hR _ _ _ _ dX1_commonStart_28 (vp_nar_int _) ⟨rfl, Or.inl ⟨Or.inl hb, rfl⟩⟩
      · exact absurd rfl c16
    · refine zz_istore4 (pc := 11) F dX1_commonStart_11 (by decide) ?_
      refine zz_iload_n3 (pc := 13) F dX1_commonStart_13 ?_
      refine zz_bipush_m2 (pc := 14) F dX1_commonStart_14 ?_
      refine zz_icmp_eqG (pc := 16) 26 F dX1_commonStart_16 (by decide) (fun c16 => ?_) (fun c16 => ?_)
      · refine zz_bipush_m2 (pc := 26) F dX1_commonStart_26 ?_
        exact hR _ _ _ _ dX1_commonStart_28 (vp_nar_int _) ⟨rfl, Or.inl ⟨Or.inl hb, rfl⟩⟩
      · exact absurd rfl c16
  · refine zz_istore_n3 (pc := 5) F dX1_commonStart_5 (by decide) ?_
    refine zz_aload_n0 (pc := 6) F dX1_commonStart_6 ?_
    refine zz_iload_n2 (pc := 7) F dX1_commonStart_7 ?_
    refine zm_call_missing (pc := 8) F dX1_commonStart_8 (n_missing _ _ _ _ _ _ _ _ _ hz hv hs) (by decide) (Nat.le_of_ble_eq_true rfl) (fun r8 s8 h8 => ?_)
    obtain ⟨rfl, ⟨hb2, rfl⟩ | ⟨t, ht6, rfl, h2z, rfl⟩ | ⟨t, ht6, rfl, h2z, rfl⟩⟩ := h8
    · refine zz_istore4 (pc := 11) F dX1_commonStart_11 (by decide) ?_
      refine zz_iload_n3 (pc := 13) F dX1_commonStart_13 ?_
      refine zz_bipush_m2 (pc := 14) F dX1_commonStart_14 ?_
      refine zz_icmp_eqG (pc := 16) 26 F dX1_commonStart_16 (by decide) (fun c16 => ?_) (fun c16 => ?_)
      · exact absurd c16 (by decide)
      · refine zz_iload4 (pc := 19) F dX1_commonStart_19 ?_
        refine zz_bipush_m2 (pc := 21) F dX1_commonStart_21 ?_
        refine zz_icmp_neG (pc := 23) 29 F dX1_commonStart_23 (by decide) (fun c23 => ?_) (fun c23 => ?_)
        · exact absurd rfl c23
        · refine zz_bipush_m2 (pc := 26) F dX1_commonStart_26 ?_
          exact hR _ _ _ _ dX1_commonStart_28 (vp_nar_int _) ⟨rfl, Or.inl ⟨Or.inr hb2, rfl⟩⟩
    · refine zz_istore4 (pc := 11) F dX1_commonStart_11 (by decide) ?_
      refine zz_iload_n3 (pc := 13) F dX1_commonStart_13 ?_
      refine zz_bipush_m2 (pc := 14) F dX1_commonStart_14 ?_
      refine zz_icmp_eqG (pc := 16) 26 F dX1_commonStart_16 (by decide) (fun c16 => ?_) (fun c16 => ?_)
      · exact absurd c16 (by decide)
      · refine zz_iload4 (pc := 19) F dX1_commonStart_19 ?_
        refine zz_bipush_m2 (pc := 21) F dX1_commonStart_21 ?_
        refine zz_icmp_neG (pc := 23) 29 F dX1_commonStart_23 (by decide) (fun c23 => ?_) (fun c23 => ?_)
        · refine zz_iload_n3 (pc := 29) F dX1_commonStart_29 ?_
          refine zz_if_neG (pc := 30) 38 F dX1_commonStart_30 (by decide) (fun c30 => ?_) (fun c30 => ?_)
          · refine zz_bipush_m4 (pc := 38) F dX1_commonStart_38 ?_
            exact hR _ _ _ _ dX1_commonStart_40 (vp_nar_int _) ⟨rfl, Or.inr (Or.inl ⟨s, t, hs6, ht6, rfl, rfl, Or.inl h0, rfl⟩)⟩
          · exact absurd c30 (by decide)
        · exact absurd c23 (by decide)
    · refine zz_istore4 (pc := 11) F dX1_commonStart_11 (by decide) ?_
      refine zz_iload_n3 (pc := 13) F dX1_commonStart_13 ?_
      refine zz_bipush_m2 (pc := 14) F dX1_commonStart_14 ?_
      refine zz_icmp_eqG (pc := 16) 26 F dX1_commonStart_16 (by decide) (fun c16 => ?_) (fun c16 => ?_)
      · exact absurd c16 (by decide)
      · refine zz_iload4 (pc := 19) F dX1_commonStart_19 ?_
        refine zz_bipush_m2 (pc := 21) F dX1_commonStart_21 ?_
        refine zz_icmp_neG (pc := 23) 29 F dX1_commonStart_23 (by decide) (fun c23 => ?_) (fun c23 => ?_)
        · refine zz_iload_n3 (pc := 29) F dX1_commonStart_29 ?_
          refine zz_if_neG (pc := 30) 38 F dX1_commonStart_30 (by decide) (fun c30 => ?_) (fun c30 => ?_)
          · refine zz_bipush_m4 (pc := 38) F dX1_commonStart_38 ?_
            exact hR _ _ _ _ dX1_commonStart_40 (vp_nar_int _) ⟨rfl, Or.inr (Or.inl ⟨s, t, hs6, ht6, rfl, rfl, Or.inl h0, rfl⟩)⟩
          · exact absurd c30 (by decide)
        · exact absurd c23 (by decide)
  · refine zz_istore_n3 (pc := 5) F dX1_commonStart_5 (by decide) ?_
    refine zz_aload_n0 (pc := 6) F dX1_commonStart_6 ?_
    refine zz_iload_n2 (pc := 7) F dX1_commonStart_7 ?_
    refine zm_call_missing (pc := 8) F dX1_commonStart_8 (n_missing _ _ _ _ _ _ _ _ _ hz hv hs) (by decide) (Nat.le_of_ble_eq_true rfl) (fun r8 s8 h8 => ?_)
    obtain ⟨rfl, ⟨hb2, rfl⟩ | ⟨t, ht6, rfl, h2z, rfl⟩ | ⟨t, ht6, rfl, h2z, rfl⟩⟩ := h8
    · refine zz_istore4 (pc := 11) F dX1_commonStart_11 (by decide) ?_
      refine zz_iload_n3 (pc := 13) F dX1_commonStart_13 ?_
      refine zz_bipush_m2 (pc := 14) F dX1_commonStart_14 ?_
      refine zz_icmp_eqG (pc := 16) 26 F dX1_commonStart_16 (by decide) (fun c16 => ?_) (fun c16 => ?_)
      · exact absurd c16 (by decide)
      · refine zz_iload4 (pc := 19) F dX1_commonStart_19 ?_
        refine zz_bipush_m2 (pc := 21) F dX1_commonStart_21 ?_
        refine zz_icmp_neG (pc := 23) 29 F dX1_commonStart_23 (by decide) (fun c23 => ?_) (fun c23 => ?_)
        · exact absurd rfl c23
        · refine zz_bipush_m2 (pc := 26) F dX1_commonStart_26 ?_
          exact hR _ _ _ _ dX1_commonStart_28 (vp_nar_int _) ⟨rfl, Or.inl ⟨Or.inr hb2, rfl⟩⟩
    · refine zz_istore4 (pc := 11) F dX1_commonStart_11 (by decide) ?_
      refine zz_iload_n3 (pc := 13) F dX1_commonStart_13 ?_
      refine zz_bipush_m2 (pc := 14) F dX1_commonStart_14 ?_
      refine zz_icmp_eqG (pc := 16) 26 F dX1_commonStart_16 (by decide) (fun c16 => ?_) (fun c16 => ?_)
      · exact absurd c16 (by decide)
      · refine zz_iload4 (pc := 19) F dX1_commonStart_19 ?_
        refine zz_bipush_m2 (pc := 21) F dX1_commonStart_21 ?_
        refine zz_icmp_neG (pc := 23) 29 F dX1_commonStart_23 (by decide) (fun c23 => ?_) (fun c23 => ?_)
        · refine zz_iload_n3 (pc := 29) F dX1_commonStart_29 ?_
          refine zz_if_ne (pc := 30) 38 F dX1_commonStart_30 (by decide) (by decide) (fun c30 => ?_) (fun c30 => ?_)
          · exact absurd c30 (by decide)
          · refine zz_iload4 (pc := 33) F dX1_commonStart_33 ?_
            refine zz_if_eqG (pc := 35) 41 F dX1_commonStart_35 (by decide) (fun c35 => ?_) (fun c35 => ?_)
            · exact absurd c35 (by decide)
            · refine zz_bipush_m4 (pc := 38) F dX1_commonStart_38 ?_
              exact hR _ _ _ _ dX1_commonStart_40 (vp_nar_int _) ⟨rfl, Or.inr (Or.inl ⟨s, t, hs6, ht6, rfl, rfl, Or.inr h2z, rfl⟩)⟩
        · exact absurd c23 (by decide)
    · refine zz_istore4 (pc := 11) F dX1_commonStart_11 (by decide) ?_
      refine zz_iload_n3 (pc := 13) F dX1_commonStart_13 ?_
      refine zz_bipush_m2 (pc := 14) F dX1_commonStart_14 ?_
      refine zz_icmp_eqG (pc := 16) 26 F dX1_commonStart_16 (by decide) (fun c16 => ?_) (fun c16 => ?_)
      · exact absurd c16 (by decide)
      · refine zz_iload4 (pc := 19) F dX1_commonStart_19 ?_
        refine zz_bipush_m2 (pc := 21) F dX1_commonStart_21 ?_
        refine zz_icmp_neG (pc := 23) 29 F dX1_commonStart_23 (by decide) (fun c23 => ?_) (fun c23 => ?_)
        · refine zz_iload_n3 (pc := 29) F dX1_commonStart_29 ?_
          refine zz_if_ne (pc := 30) 38 F dX1_commonStart_30 (by decide) (by decide) (fun c30 => ?_) (fun c30 => ?_)
          · exact absurd c30 (by decide)
          · refine zz_iload4 (pc := 33) F dX1_commonStart_33 ?_
            refine zz_if_eq (pc := 35) 41 F dX1_commonStart_35 (by decide) (by decide) (fun c35 => ?_) (fun c35 => ?_)
            · refine zz_iconst_0 (pc := 41) F dX1_commonStart_41 ?_
              refine zz_istore5 (pc := 42) F dX1_commonStart_42 (by decide) ?_
              refine zz_iconst_0 (pc := 44) F dX1_commonStart_44 ?_
              refine zz_istore6 (pc := 45) F dX1_commonStart_45 (by decide) ?_
              exact loop 97 s t 0 0 rfl rfl hs6 ht6 h0 h2z (hs s hs6 h0) (hs t ht6 h2z) (hby s hs6 h0) (hby t ht6 h2z) (by decide) (by decide) (by decide) (by omega) (by omega) (fun q hq => absurd hq (Nat.not_lt_zero q)) (fun hq => absurd hq (Nat.lt_irrefl 0))
            · exact absurd c35 (by decide)
        · exact absurd c23 (by decide)
end
section
/-! plain lemmas: counts, offsets, the invariant's steps -/
theorem ct_le (w : Nat → Nat) (x : Nat) : ∀ n, sd_ct w x n ≤ n
  | 0 => Nat.le_refl 0
  | n + 1 => by
    have := ct_le w x n
    unfold sd_ct
    split <;> omega
theorem ct_congr {w w2 : Nat → Nat} {x : Nat} : ∀ n, (∀ q, q < n → w2 q = w q) → sd_ct w2 x n = sd_ct w x n
  | 0, _ => rfl
  | n + 1, h => by
    unfold sd_ct
    rw [ct_congr n (fun q hq => h q (by omega)), h n (by omega)]
theorem ct_put {w w2 : Nat → Nat} {x y q : Nat} (h1 : ∀ p, p ≠ q → w2 p = w p) (h2 : w q = 0) (h3 : w2 q = y + 1) : ∀ n, q < n → sd_ct w2 x n = sd_ct w x n + (if x = y then 1 else 0)
  | 0, h => absurd h (Nat.not_lt_zero q)
  | n + 1, h => by
    unfold sd_ct
    by_cases e : q = n
    · subst e
      rw [ct_congr q (fun p hp => h1 p (by omega)), h2, h3]
      by_cases e2 : x = y
      · rw [if_pos e2, if_pos (by omega), if_neg (by omega)]
      · rw [if_neg e2, if_neg (by omega), if_neg (by omega)]
    · rw [ct_put h1 h2 h3 n (by omega), h1 n (fun z => e z.symm)]
      omega
theorem ct_pos {w : Nat → Nat} {x q : Nat} (h : w q = x + 1) : ∀ n, q < n → 0 < sd_ct w x n
  | 0, hq => absurd hq (Nat.not_lt_zero q)
  | n + 1, hq => by
    unfold sd_ct
    by_cases e : q = n
    · subst e
      rw [if_pos h]
      omega
    · have := ct_pos h n (by omega)
      omega
def sd_sm (w : Nat → Nat) (n : Nat) : Nat → Nat
  | 0 => 0
  | m + 1 => sd_sm w n m + sd_ct w m n
def sd_nz (w : Nat → Nat) (m : Nat) : Nat → Nat
  | 0 => 0
  | n + 1 => sd_nz w m n + (if 0 < w n ∧ w n ≤ m then 1 else 0)
theorem sm_0 (w : Nat → Nat) : ∀ m, sd_sm w 0 m = 0
  | 0 => rfl
  | m + 1 => by
    unfold sd_sm
    rw [sm_0 w m]
    rfl
theorem sm_step (w : Nat → Nat) (n : Nat) : ∀ m, sd_sm w (n + 1) m = sd_sm w n m + (if 0 < w n ∧ w n ≤ m then 1 else 0)
  | 0 => by
    unfold sd_sm
    rw [if_neg (by omega)]
  | m + 1 => by
    have e : sd_ct w m (n + 1) = sd_ct w m n + (if w n = m + 1 then 1 else 0) := rfl
    unfold sd_sm
    rw [sm_step w n m, e]
    by_cases h1 : 0 < w n ∧ w n ≤ m
    · rw [if_pos h1, if_neg (by omega), if_pos (by omega)]
      omega
    · by_cases h2 : w n = m + 1
      · rw [if_neg h1, if_pos h2, if_pos (by omega)]
        omega
      · rw [if_neg h1, if_neg h2, if_neg (by omega)]
        omega
theorem sm_nz (w : Nat → Nat) (m : Nat) : ∀ n, sd_sm w n m = sd_nz w m n
  | 0 => sm_0 w m
  | n + 1 => by
    rw [sm_step, sm_nz w m n]
    rfl
theorem nz_le (w : Nat → Nat) (m : Nat) : ∀ n, sd_nz w m n ≤ n
  | 0 => Nat.le_refl 0
  | n + 1 => by
    have := nz_le w m n
    unfold sd_nz
    split <;> omega
theorem nz_lt (w : Nat → Nat) (m : Nat) {q : Nat} (h : w q = 0) : ∀ n, q < n → sd_nz w m n < n
  | 0, hq => absurd hq (Nat.not_lt_zero q)
  | n + 1, hq => by
    unfold sd_nz
    by_cases e : q = n
    · subst e
      have := nz_le w m q
      rw [if_neg (by omega)]
      omega
    · have := nz_lt w m h n (by omega)
      split <;> omega
theorem sm_ge (w : Nat → Nat) (n : Nat) : ∀ m, (∀ y, y < m → 0 < sd_ct w y n) → m ≤ sd_sm w n m
  | 0, _ => Nat.zero_le _
  | m + 1, h => by
    have h1 := sm_ge w n m (fun y hy => h y (by omega))
    have h2 := h m (by omega)
    unfold sd_sm
    omega
/-- a free place leaves a free chunk -/
theorem ct_free {w : Nat → Nat} {q : Nat} (hq : q < 96) (h : w q = 0) : ∃ y, y < 96 ∧ sd_ct w y 96 = 0 := by
  by_cases hx : ∃ y, y < 96 ∧ sd_ct w y 96 = 0
  · exact hx
  · exfalso
    have h1 := sm_ge w 96 96 (fun y hy => Nat.pos_of_ne_zero (fun e => hx ⟨y, hy, e⟩))
    rw [sm_nz] at h1
    have h2 := nz_lt w 96 h 96 hq
    omega
theorem off_congr {siz siz2 par par2 : Nat → Nat} {s : Nat} : ∀ n, (∀ k, k < n → siz2 (par2 (s * 16 + k)) = siz (par (s * 16 + k))) → sd_off siz2 par2 s n = sd_off siz par s n
  | 0, _ => rfl
  | n + 1, h => by
    unfold sd_off
    rw [off_congr n (fun k hk => h k (by omega)), h n (by omega)]
theorem off_mono {siz par : Nat → Nat} {s k : Nat} : ∀ n, k ≤ n → sd_off siz par s k ≤ sd_off siz par s n
  | 0, h => by
    rw [show k = 0 by omega]
    exact Nat.le_refl _
  | n + 1, h => by
    by_cases e : k = n + 1
    · rw [e]
      exact Nat.le_refl _
    · have := off_mono (siz := siz) (par := par) (s := s) n (show k ≤ n by omega)
      have e2 : sd_off siz par s (n + 1) = sd_off siz par s n + siz (par (s * 16 + n)) := rfl
      rw [e2]
      omega
theorem off_find {siz par : Nat → Nat} {s : Nat} : ∀ n q, q < sd_off siz par s n → ∃ k i, k < n ∧ i < siz (par (s * 16 + k)) ∧ q = sd_off siz par s k + i
  | 0, q, h => absurd h (Nat.not_lt_zero q)
  | n + 1, q, h => by
    by_cases e : q < sd_off siz par s n
    · obtain ⟨k, i, h1, h2, h3⟩ := off_find n q e
      exact ⟨k, i, by omega, h2, h3⟩
    · have e2 : sd_off siz par s (n + 1) = sd_off siz par s n + siz (par (s * 16 + n)) := rfl
      exact ⟨n, q - sd_off siz par s n, by omega, by omega, by omega⟩
section
variable {sav pas par rfs siz bas cel pay msv mss mby : Nat → Nat} {C : Nat → Nat → Nat}
theorem J_rfs (hJ : sd_J sav pas par rfs siz bas cel pay msv mss mby C) : ∀ y, y < 96 → rfs y ≤ 96 := fun y hy => by
  rw [hJ.2.2.1 y hy]
  exact ct_le _ _ _
theorem w_at {s k : Nat} (hk : k < 16) (h0 : 0 < sav s) (hkp : k < pas s) : sd_w sav pas par (s * 16 + k) = par (s * 16 + k) + 1 := by
  unfold sd_w
  rw [show (s * 16 + k) / 16 = s by omega, show (s * 16 + k) % 16 = k by omega, if_pos ⟨h0, hkp⟩]
theorem J_live (hJ : sd_J sav pas par rfs siz bas cel pay msv mss mby C) {s k : Nat} (hs : s < 6) (h0 : 0 < sav s) (hk : k < pas s) : par (s * 16 + k) < 96 ∧ 0 < rfs (par (s * 16 + k)) := by
  have hS := hJ.2.2.2 s hs h0
  have h1 := hS.2.1 k hk
  have h2 := hS.1
  refine ⟨h1, ?_⟩
  rw [hJ.2.2.1 _ h1]
  exact ct_pos (w_at (by omega) h0 hk) 96 (by omega)
theorem J_siz (hJ : sd_J sav pas par rfs siz bas cel pay msv mss mby C) {s k : Nat} (hs : s < 6) (h0 : 0 < sav s) (hk : k < pas s) : 1 ≤ siz (par (s * 16 + k)) ∧ siz (par (s * 16 + k)) ≤ 16 := by
  have := hJ.2.1 _ (J_live hJ hs h0 hk)
  exact ⟨this.2.1, this.2.2.1⟩
theorem J_byte (hJ : sd_J sav pas par rfs siz bas cel pay msv mss mby C) {s : Nat} (hs : s < 6) (h0 : 0 < sav s) {q : Nat} (hq : q < mss s) : mby (s * 96 + q) < 256 := by
  have hS := hJ.2.2.2 s hs h0
  rw [hS.2.2.1] at hq
  obtain ⟨k, i, h1, h2, rfl⟩ := off_find _ _ hq
  rw [hS.2.2.2.2 k h1 i h2]
  exact (hJ.2.1 _ (J_live hJ hs h0 h1)).2.2.2.1 i h2
/-- a slot is begun -/
theorem J_start (hJ : sd_J sav pas par rfs siz bas cel pay msv mss mby C) {s : Nat} (hs : s < 6) (h0 : sav s = 0) : sd_J (va_up sav s 1) (va_up pas s 0) par rfs siz bas cel pay (va_up msv s 1) (va_up mss s 0) mby C := by
  obtain ⟨j1, j2, j3, j4⟩ := hJ
  refine ⟨fun t ht => ?_, j2, fun x hx => ?_, fun t ht h1 => ?_⟩
  · by_cases e : t = s
    · rw [e, va_up_self, va_up_self]
      exact ⟨rfl, Nat.le_refl _⟩
    · rw [va_up_ne _ _ e, va_up_ne _ _ e]
      exact j1 t ht
  · rw [j3 x hx]
    refine ct_congr 96 (fun q hq => ?_)
    unfold sd_w
    by_cases e : q / 16 = s
    · rw [e, va_up_self, va_up_self, h0, if_neg (by omega), if_neg (by omega)]
    · rw [va_up_ne _ _ e, va_up_ne _ _ e]
  · by_cases e : t = s
    · subst e
      unfold sd_SL
      rw [va_up_self, va_up_self]
      exact ⟨by omega, fun k hk => absurd hk (Nat.not_lt_zero k), rfl, by omega, fun k hk => absurd hk (Nat.not_lt_zero k)⟩
    · rw [va_up_ne _ _ e] at h1
      have := j4 t ht h1
      unfold sd_SL at this ⊢
      rw [va_up_ne _ _ e, va_up_ne _ _ e]
      exact this
/-- one more chunk of the slot -/
theorem J_add {sta : Nat → Nat} {rfs2 siz2 bas2 cel2 pay2 : Nat → Nat} {C2 : Nat → Nat → Nat} {s c a n y : Nat} (hJ : sd_J sav (va_up pas s c) par rfs siz bas cel pay msv (va_up mss s a) (va_cpy sta mby 0 (s * 96) a) C) (hs : s < 6) (h0 : 0 < sav s) (hc : c < 16) (hn : a + n ≤ 96) (hy : y < 96)
    (k1 : rfs2 = va_up rfs y (rfs y + 1)) (k2 : sd_CC siz2 bas2 cel2 pay2 (fun x => x < 96 ∧ 0 < rfs2 x) C2) (k3 : siz2 y = n) (k4 : ∀ i, i < n → C2 y i = sta (a + i)) (k5 : ∀ x, x < 96 → 0 < rfs x → siz2 x = siz x ∧ ∀ i, i < siz x → C2 x i = C x i) :
    sd_J sav (va_up pas s (c + 1)) (va_up par (s * 16 + c) y) rfs2 siz2 bas2 cel2 pay2 msv (va_up mss s (a + n)) (va_cpy sta mby 0 (s * 96) (a + n)) C2 := by
  have hl := fun (t k : Nat) (ht : t < 6) (h1 : 0 < sav t) (hk : k < va_up pas s c t) => J_live hJ ht h1 hk
  obtain ⟨j1, j2, j3, j4⟩ := hJ
  have hSs := j4 s hs h0
  unfold sd_SL at hSs
  rw [va_up_self, va_up_self] at hSs
  obtain ⟨s1, s2, s3, s4, s5⟩ := hSs
  refine ⟨j1, k2, fun x hx => ?_, fun t ht h1 => ?_⟩
  · have hw : ∀ p, p ≠ s * 16 + c → sd_w sav (va_up pas s (c + 1)) (va_up par (s * 16 + c) y) p = sd_w sav (va_up pas s c) par p := by
      intro p hp
      unfold sd_w
      rw [va_up_ne par _ hp]
      by_cases e : p / 16 = s
      · rw [e, va_up_self, va_up_self]
        by_cases e2 : p % 16 < c
        · rw [if_pos ⟨h0, by omega⟩, if_pos ⟨h0, e2⟩]
        · rw [if_neg (by omega), if_neg (by omega)]
      · rw [va_up_ne _ _ e, va_up_ne _ _ e]
    have hq0 : sd_w sav (va_up pas s c) par (s * 16 + c) = 0 := by
      unfold sd_w
      rw [show (s * 16 + c) / 16 = s by omega, show (s * 16 + c) % 16 = c by omega, va_up_self, if_neg (by omega)]
    have hq1 : sd_w sav (va_up pas s (c + 1)) (va_up par (s * 16 + c) y) (s * 16 + c) = y + 1 := by
      rw [w_at hc h0 (by rw [va_up_self]; omega), va_up_self]
    rw [ct_put hw hq0 hq1 96 (by omega), ← j3 x hx, k1, up_at]
    by_cases e : x = y
    · rw [if_pos e, if_pos e, e]
    · rw [if_neg e, if_neg e]
      rfl
  · have hpar : ∀ k, k < va_up pas s c t → va_up par (s * 16 + c) y (t * 16 + k) = par (t * 16 + k) := by
      intro k hk
      refine va_up_ne _ _ ?_
      by_cases e : t = s
      · subst e
        rw [va_up_self] at hk
        omega
      · have hk2 : k < 16 := by
          have := (j4 t ht h1).1
          omega
        omega
    have hsz : ∀ k, k < va_up pas s c t → siz2 (va_up par (s * 16 + c) y (t * 16 + k)) = siz (par (t * 16 + k)) := by
      intro k hk
      rw [hpar k hk]
      have := hl t k ht h1 hk
      exact (k5 _ this.1 this.2).1
    by_cases e : t = s
    · subst e
      rw [va_up_self] at hpar hsz
      have hof := fun k (hk : k ≤ c) => off_congr (siz := siz) (siz2 := siz2) (par := par) (par2 := va_up par (t * 16 + c) y) (s := t) k (fun q hq => hsz q (by omega))
      have hoc : sd_off siz2 (va_up par (t * 16 + c) y) t c = a := by
        rw [hof c (Nat.le_refl _)]
        exact s3.symm
      unfold sd_SL
      rw [va_up_self, va_up_self]
      refine ⟨by omega, fun k hk => ?_, ?_, hn, fun k hk i hi => ?_⟩
      · by_cases e2 : k = c
        · rw [e2, va_up_self]
          exact hy
        · rw [hpar k (by omega)]
          exact s2 k (by omega)
      · show _ = sd_off siz2 (va_up par (t * 16 + c) y) t c + siz2 (va_up par (t * 16 + c) y (t * 16 + c))
        rw [hoc, va_up_self, k3]
      · by_cases e2 : k = c
        · subst e2
          rw [va_up_self] at hi ⊢
          rw [hoc, cpy_in (by omega), Nat.zero_add, k4 i (by omega)]
        · have hk2 : k < c := by omega
          rw [hsz k hk2] at hi
          rw [hof k (by omega), hpar k hk2]
          have hl2 := hl t k ht h1 (by rw [va_up_self]; exact hk2)
          rw [(k5 _ hl2.1 hl2.2).2 i hi, ← s5 k hk2 i hi]
          have hlt : sd_off siz par t k + i < a := by
            rw [s3]
            have := off_mono (siz := siz) (par := par) (s := t) c (show k + 1 ≤ c by omega)
            have e3 : sd_off siz par t (k + 1) = sd_off siz par t k + siz (par (t * 16 + k)) := rfl
            omega
          rw [cpy_in (by omega), cpy_in hlt]
    · have hS := j4 t ht h1
      unfold sd_SL at hS ⊢
      rw [va_up_ne _ _ e] at hpar hsz
      rw [va_up_ne _ _ e, va_up_ne _ _ e] at hS
      rw [va_up_ne _ _ e, va_up_ne _ _ e]
      obtain ⟨q1, q2, q3, q4, q5⟩ := hS
      have hof := fun k (hk : k ≤ pas t) => off_congr (siz := siz) (siz2 := siz2) (par := par) (par2 := va_up par (s * 16 + c) y) (s := t) k (fun q hq => hsz q (by omega))
      refine ⟨q1, fun k hk => by rw [hpar k hk]; exact q2 k hk, by rw [hof _ (Nat.le_refl _)]; exact q3, q4, fun k hk i hi => ?_⟩
      rw [hsz k hk] at hi
      rw [hof k (by omega), hpar k hk]
      have hl2 := hl t k ht h1 (by rw [va_up_ne _ _ e]; exact hk)
      rw [(k5 _ hl2.1 hl2.2).2 i hi, ← q5 k hk i hi]
      have hlt : sd_off siz par t k + i < mss t := by
        rw [q3]
        have := off_mono (siz := siz) (par := par) (s := t) (pas t) (show k + 1 ≤ pas t by omega)
        have e3 : sd_off siz par t (k + 1) = sd_off siz par t k + siz (par (t * 16 + k)) := rfl
        omega
      rw [cpy_out (by omega), cpy_out (by omega)]
/-- the places of a slot that is being dropped -/
def sd_wk (w : Nat → Nat) (s k : Nat) (q : Nat) : Nat := if q / 16 = s ∧ q % 16 < k then 0 else w q
theorem wk_0 {w : Nat → Nat} {s : Nat} : sd_wk w s 0 = w := by
  funext q
  unfold sd_wk
  rw [if_neg (by omega)]
theorem J_end {rfs2 bas2 cel2 pay2 : Nat → Nat} {s : Nat} (hJ : sd_J sav pas par rfs siz bas cel pay msv mss mby C) (hs : s < 6) (h2 : sd_CC siz bas2 cel2 pay2 (fun y => y < 96 ∧ 0 < rfs2 y) C) (h3 : ∀ x, x < 96 → rfs2 x = sd_ct (sd_wk (sd_w sav pas par) s (pas s)) x 96) : sd_J (va_up sav s 0) (va_up pas s 0) par rfs2 siz bas2 cel2 pay2 (va_up msv s 0) mss mby C := by
  obtain ⟨j1, j2, j3, j4⟩ := hJ
  refine ⟨fun t ht => ?_, h2, fun x hx => ?_, fun t ht h1 => ?_⟩
  · by_cases e : t = s
    · rw [e, va_up_self, va_up_self]
      exact ⟨rfl, by omega⟩
    · rw [va_up_ne _ _ e, va_up_ne _ _ e]
      exact j1 t ht
  · rw [h3 x hx]
    refine ct_congr 96 (fun q hq => ?_)
    unfold sd_wk sd_w
    by_cases e : q / 16 = s
    · rw [e, va_up_self, va_up_self]
      by_cases e2 : q % 16 < pas s
      · rw [if_pos ⟨rfl, e2⟩, if_neg (by omega)]
      · rw [if_neg (by omega), if_neg (by omega), if_neg (by omega)]
    · rw [va_up_ne _ _ e, va_up_ne _ _ e, if_neg (by omega)]
  · have e : t ≠ s := fun e => by
      rw [e, va_up_self] at h1
      exact absurd h1 (Nat.lt_irrefl 0)
    rw [va_up_ne _ _ e] at h1
    have := j4 t ht h1
    unfold sd_SL at this ⊢
    rw [va_up_ne _ _ e]
    exact this
theorem wk_step {rfs2 : Nat → Nat} {s k x : Nat} (hw : sd_w sav pas par (s * 16 + k) = x + 1) (hk : k < 16) (hs : s < 6) (hx : x < 96) (h3 : ∀ y, y < 96 → rfs2 y = sd_ct (sd_wk (sd_w sav pas par) s k) y 96) : 0 < rfs2 x ∧ ∀ y, y < 96 → va_up rfs2 x (rfs2 x - 1) y = sd_ct (sd_wk (sd_w sav pas par) s (k + 1)) y 96 := by
  have e1 : sd_wk (sd_w sav pas par) s k (s * 16 + k) = x + 1 := by
    unfold sd_wk
    rw [if_neg (by omega)]
    exact hw
  have e2 : sd_wk (sd_w sav pas par) s (k + 1) (s * 16 + k) = 0 := by
    unfold sd_wk
    rw [if_pos (by omega)]
  have e3 : ∀ p, p ≠ s * 16 + k → sd_wk (sd_w sav pas par) s k p = sd_wk (sd_w sav pas par) s (k + 1) p := by
    intro p hp
    unfold sd_wk
    by_cases e : p / 16 = s ∧ p % 16 < k
    · rw [if_pos e, if_pos (by omega)]
    · rw [if_neg e, if_neg (by omega)]
  refine ⟨by rw [h3 x hx]; exact ct_pos e1 96 (by omega), fun y hy => ?_⟩
  have h := ct_put (x := y) e3 e2 e1 96 (by omega)
  rw [up_at]
  by_cases e : y = x
  · rw [if_pos e, ← e, h3 y hy, h, if_pos e]
    omega
  · rw [if_neg e, h3 y hy, h, if_neg e, Nat.add_zero]
end
end
section
set_option maxRecDepth 100000
set_option maxHeartbeats 4000000 in
theorem m_length (l : Launch) (D : va_G) (g : ZG) (sd pl : Nat) (sta sav pas par rfs siz bas cel pay pri fa fb fre ou un pro ch : Nat → Nat) (x : Int32) (msv mss mby : Nat → Nat) (C : Nat → Nat → Nat) (hJ : sd_J sav pas par rfs siz bas cel pay msv mss mby C) : zz_Mi l D g (wX g) yX0_length cX0_length 4 1 20 .int (sd, sta, sav, pas, par, rfs, siz, bas, cel, pay, pri, fa, fb, fre, ou, un, pro, pl, ch) [.ref (g.1 0), .int x] (fun r s => s = (sd, sta, sav, pas, par, rfs, siz, bas, cel, pay, pri, fa, fb, fre, ou, un, pro, pl, ch) ∧ (sd_Bad x ∧ r = -2 ∨ (∃ s : Nat, s < 6 ∧ x = nI s ∧ msv s = 0 ∧ r = -4) ∨ (∃ s : Nat, s < 6 ∧ x = nI s ∧ 0 < msv s ∧ r = nI (mss s)))) := by
  refine zz_enter_i RX0 [some (.ref (g.1 0)), some (.int x), none, none] 2 (by decide) rfl (by intro v hv; simp only [List.mem_cons, List.not_mem_nil, or_false] at hv; rcases hv with rfl | rfl <;> rfl) (Nat.le_of_ble_eq_true rfl) rfl ?_
  intro k hkl hkD F hR
  subst hkl hkD
  refine zz_iload_n1 (pc := 0) F dX0_length_0 ?_
  refine zx_call_badSlot (pc := 1) F dX0_length_1 (m_badSlot _ _ _ _ _ _ _ _ _ _ _ _ _ _ _ _ _ _ _ _ _ _ _) (by decide) (Nat.le_of_ble_eq_true rfl) (fun r1 s1 h1 => ?_)
  obtain ⟨rfl, ⟨hb, rfl⟩ | ⟨⟨s, hs6, rfl⟩, rfl⟩⟩ := h1
  · refine zz_if_eq (pc := 4) 10 F dX0_length_4 (by decide) (by decide) (fun c4 => ?_) (fun c4 => ?_)
    · exact absurd c4 (by decide)
    · refine zz_bipush_m2 (pc := 7) F dX0_length_7 ?_
      exact hR _ _ _ _ dX0_length_9 (vp_nar_int _) ⟨rfl, Or.inl ⟨hb, rfl⟩⟩
  · have hv1 := (hJ.1 s hs6).1
    have hv2 := (hJ.1 s hs6).2
    refine zz_if_eq (pc := 4) 10 F dX0_length_4 (by decide) (by decide) (fun c4 => ?_) (fun c4 => ?_)
    · refine zz_aload_n0 (pc := 10) F dX0_length_10 ?_
      refine zx_get_saved (pc := 11) F dX0_length_11 ?_
      refine zz_iload_n1 (pc := 14) F dX0_length_14 ?_
      refine zx_ald_saved (pc := 15) F dX0_length_15 (by omega) ?_
      refine zz_if_ne (pc := 16) 22 F dX0_length_16 (by decide) (by omega) (fun c16 => ?_) (fun c16 => ?_)
      · have hS := hJ.2.2.2 s hs6 c16
        have hS1 := hS.1
        have loop : ∀ n2 i : Nat, i ≤ pas s → pas s < i + n2 → zz_W k (wX g (sd, sta, sav, pas, par, rfs, siz, bas, cel, pay, pri, fa, fb, fre, ou, un, pro, pl, ch)) 26 [some (.ref (g.1 0)), some (.int (nI (s))), some (.int (nI (sd_off siz par s i))), some (.int (nI (i)))] [] := by
          intro n2
          induction n2 with
          | zero => intro i h1 h2; exfalso; omega
          | succ n2 ih =>
            intro i hi hm
            refine zz_iload_n3 (pc := 26) F dX0_length_26 ?_
            refine zz_aload_n0 (pc := 27) F dX0_length_27 ?_
            refine zx_get_parts (pc := 28) F dX0_length_28 ?_
            refine zz_iload_n1 (pc := 31) F dX0_length_31 ?_
            refine zx_ald_parts (pc := 32) F dX0_length_32 (by omega) ?_
            refine zz_icmp_ge (pc := 33) 61 F dX0_length_33 (by decide) (by omega) (by omega) (fun c33 => ?_) (fun c33 => ?_)
            · have e : i = pas s := by omega
              refine zz_iload_n2 (pc := 61) F dX0_length_61 ?_
              exact hR _ _ _ _ dX0_length_62 (vp_nar_int _) ⟨rfl, Or.inr (Or.inr ⟨s, hs6, rfl, by rw [← hv1]; exact c16, by rw [hS.2.2.1, ← e]⟩)⟩
            · have hp1 := hS.2.1 i c33
              refine zz_iload_n2 (pc := 36) F dX0_length_36 ?_
              refine zz_aload_n0 (pc := 37) F dX0_length_37 ?_
              refine zx_get_size (pc := 38) F dX0_length_38 ?_
              refine zz_aload_n0 (pc := 41) F dX0_length_41 ?_
              refine zx_get_part (pc := 42) F dX0_length_42 ?_
              refine zz_iload_n1 (pc := 45) F dX0_length_45 ?_
              refine zz_bipush_16 (pc := 46) F dX0_length_46 ?_
              refine zz_imul (pc := 48) F dX0_length_48 ?_
              refine zz_iload_n3 (pc := 49) F dX0_length_49 ?_
              refine zz_iadd (pc := 50) F dX0_length_50 ?_
              refine zx_ald_part (pc := 51) F dX0_length_51 (by omega) ?_
              refine zx_ald_size (pc := 52) F dX0_length_52 (by omega) ?_
              refine zz_iadd (pc := 53) F dX0_length_53 ?_
              refine zz_istore_n2 (pc := 54) F dX0_length_54 (by decide) ?_
              refine zz_iinc3 (pc := 55) F dX0_length_55 (by decide) ?_
              refine zz_goto (pc := 58) 26 F dX0_length_58 (by decide) ?_
              exact ih (i + 1) (by omega) (by omega)
        refine zz_iconst_0 (pc := 22) F dX0_length_22 ?_
        refine zz_istore_n2 (pc := 23) F dX0_length_23 (by decide) ?_
        refine zz_iconst_0 (pc := 24) F dX0_length_24 ?_
        refine zz_istore_n3 (pc := 25) F dX0_length_25 (by decide) ?_
        exact loop (pas s + 1) 0 (by omega) (by omega)
      · refine zz_bipush_m4 (pc := 19) F dX0_length_19 ?_
        exact hR _ _ _ _ dX0_length_21 (vp_nar_int _) ⟨rfl, Or.inr (Or.inl ⟨s, hs6, rfl, by rw [← hv1]; exact c16, rfl⟩)⟩
    · exact absurd c4 (by decide)
theorem len_S {msv mss : Nat → Nat} {s : Nat} {r : Int32} (hs : s < 6) (h0 : 0 < msv s) (h : sd_Bad (nI s) ∧ r = -2 ∨ (∃ t : Nat, t < 6 ∧ nI s = nI t ∧ msv t = 0 ∧ r = -4) ∨ (∃ t : Nat, t < 6 ∧ nI s = nI t ∧ 0 < msv t ∧ r = nI (mss t))) : r = nI (mss s) := by
  rcases h with ⟨h | h, -⟩ | ⟨t, ht, e, h1, -⟩ | ⟨t, ht, e, h1, h2⟩
  · exact absurd h (nI_pos (by omega))
  · exact absurd h (nI_ge (by omega) (by decide))
  · have := (nI_eq (by omega) (by omega)).mp e
    subst this
    omega
  · have := (nI_eq (by omega) (by omega)).mp e
    subst this
    exact h2
set_option maxHeartbeats 4000000 in
theorem m_restored (l : Launch) (D : va_G) (g : ZG) (sd pl : Nat) (sta sav pas par rfs siz bas cel pay pri fa fb fre ou un pro ch : Nat → Nat) (s a : Nat) (msv mss mby : Nat → Nat) (C : Nat → Nat → Nat) (hJ : sd_J sav pas par rfs siz bas cel pay msv mss mby C) (hs6 : s < 6) (h0 : 0 < sav s) (ha : a < mss s) : zz_Mi l D g (wX g) yX0_restored cX0_restored 6 3 73 .int (sd, sta, sav, pas, par, rfs, siz, bas, cel, pay, pri, fa, fb, fre, ou, un, pro, pl, ch) [.ref (g.1 0), .int (nI s), .int (nI a)] (fun r s2 => ∃ ou2 un2 ch2 : Nat → Nat, s2 = (sd, sta, sav, pas, par, rfs, siz, bas, cel, pay, pri, fa, fb, fre, ou2, un2, pro, pl, ch2) ∧ r = nI (mby (s * 96 + a))) := by
  refine zz_enter_i RX0 [some (.ref (g.1 0)), some (.int (nI s)), some (.int (nI a)), none, none, none] 3 (by decide) rfl (by intro v hv; simp only [List.mem_cons, List.not_mem_nil, or_false] at hv; rcases hv with rfl | rfl | rfl <;> rfl) (Nat.le_of_ble_eq_true rfl) rfl ?_
  intro k hkl hkD F hR
  subst hkl hkD
  have hS := hJ.2.2.2 s hs6 h0
  have hS1 := hS.1
  have loop : ∀ (n2 i : Nat) (y5 : Option Value), i ≤ pas s → pas s < i + n2 → sd_off siz par s i ≤ a → zz_W k (wX g (sd, sta, sav, pas, par, rfs, siz, bas, cel, pay, pri, fa, fb, fre, ou, un, pro, pl, ch)) 5 [some (.ref (g.1 0)), some (.int (nI (s))), some (.int (nI (a))), some (.int (nI (a - sd_off siz par s i))), some (.int (nI (i))), y5] [] := by
    intro n2
    induction n2 with
    | zero => intro i y5 h1 h2; exfalso; omega
    | succ n2 ih =>
      intro i y5 hi hm ho
      refine zz_iload4 (pc := 5) F dX0_restored_5 ?_
      refine zz_aload_n0 (pc := 7) F dX0_restored_7 ?_
      refine zx_get_parts (pc := 8) F dX0_restored_8 ?_
      refine zz_iload_n1 (pc := 11) F dX0_restored_11 ?_
      refine zx_ald_parts (pc := 12) F dX0_restored_12 (by omega) ?_
      refine zz_icmp_ge (pc := 13) 70 F dX0_restored_13 (by decide) (by omega) (by omega) (fun c13 => ?_) (fun c13 => ?_)
      · have e : i = pas s := by omega
        subst e
        rw [hS.2.2.1] at ha
        exfalso; omega
      · have hl := J_live hJ hs6 h0 c13
        have hl1 := hl.1
        have hz := J_siz hJ hs6 h0 c13
        have ha96 := hS.2.2.2.1
        refine zz_aload_n0 (pc := 16) F dX0_restored_16 ?_
        refine zx_get_part (pc := 17) F dX0_restored_17 ?_
        refine zz_iload_n1 (pc := 20) F dX0_restored_20 ?_
        refine zz_bipush_16 (pc := 21) F dX0_restored_21 ?_
        refine zz_imul (pc := 23) F dX0_restored_23 ?_
        refine zz_iload4 (pc := 24) F dX0_restored_24 ?_
        refine zz_iadd (pc := 26) F dX0_restored_26 ?_
        refine zx_ald_part (pc := 27) F dX0_restored_27 (by omega) ?_
        refine zz_istore5 (pc := 28) F dX0_restored_28 (by decide) ?_
        refine zz_iload_n3 (pc := 30) F dX0_restored_30 ?_
        refine zz_aload_n0 (pc := 31) F dX0_restored_31 ?_
        refine zx_get_size (pc := 32) F dX0_restored_32 ?_
        refine zz_iload5 (pc := 35) F dX0_restored_35 ?_
        refine zx_ald_size (pc := 37) F dX0_restored_37 (by omega) ?_
        refine zz_icmp_ge (pc := 38) 54 F dX0_restored_38 (by decide) (by omega) (by omega) (fun c38 => ?_) (fun c38 => ?_)
        · refine zz_iload_n3 (pc := 54) F dX0_restored_54 ?_
          refine zz_aload_n0 (pc := 55) F dX0_restored_55 ?_
          refine zx_get_size (pc := 56) F dX0_restored_56 ?_
          refine zz_iload5 (pc := 59) F dX0_restored_59 ?_
          refine zx_ald_size (pc := 61) F dX0_restored_61 (by omega) ?_
          refine zz_isub (pc := 62) F dX0_restored_62 (by omega) ?_
          refine zz_istore_n3 (pc := 63) F dX0_restored_63 (by decide) ?_
          refine zz_iinc4 (pc := 64) F dX0_restored_64 (by decide) ?_
          refine zz_goto (pc := 67) 5 F dX0_restored_67 (by decide) ?_
          rw [Nat.sub_sub]
          exact ih (i + 1) _ (by omega) (by omega) (by show sd_off siz par s i + siz (par (s * 16 + i)) ≤ a; omega)
        · refine zz_aload_n0 (pc := 41) F dX0_restored_41 ?_
          refine zz_iload5 (pc := 42) F dX0_restored_42 ?_
          refine zx_call_writeOut (pc := 44) F dX0_restored_44 (m_writeOut _ _ _ _ _ _ _ _ _ _ _ _ _ _ _ _ _ _ _ _ _ _ _ _ C hJ.2.1 hl) (by decide) (Nat.le_of_ble_eq_true rfl) (fun s44 h44 => ?_)
          obtain ⟨ou2, un2, ch2, rfl, hou⟩ := h44
          refine zz_aload_n0 (pc := 47) F dX0_restored_47 ?_
          refine zx_get_out (pc := 48) F dX0_restored_48 ?_
          refine zz_iload_n3 (pc := 51) F dX0_restored_51 ?_
          refine zx_ald_out (pc := 52) F dX0_restored_52 (by omega) ?_
          exact hR _ _ _ _ dX0_restored_53 (vp_nar_int _) ⟨ou2, un2, ch2, rfl, by rw [hou _ c38, ← hS.2.2.2.2 i c13 _ c38, show sd_off siz par s i + (a - sd_off siz par s i) = a by omega]⟩
  refine zz_iload_n2 (pc := 0) F dX0_restored_0 ?_
  refine zz_istore_n3 (pc := 1) F dX0_restored_1 (by decide) ?_
  refine zz_iconst_0 (pc := 2) F dX0_restored_2 ?_
  refine zz_istore4 (pc := 3) F dX0_restored_3 (by decide) ?_
  exact loop (pas s + 1) 0 none (by omega) (by omega) (Nat.zero_le _)
set_option maxHeartbeats 4000000 in
theorem m_byteAt (l : Launch) (D : va_G) (g : ZG) (sd pl : Nat) (sta sav pas par rfs siz bas cel pay pri fa fb fre ou un pro ch : Nat → Nat) (x y : Int32) (msz : Nat) (mst msv mss mby : Nat → Nat) (C : Nat → Nat → Nat) (hI : sd_I sd sta sav pas par rfs siz bas cel pay msz mst msv mss mby C) : zz_Mi l D g (wX g) yX0_byteAt cX0_byteAt 4 4 98 .int (sd, sta, sav, pas, par, rfs, siz, bas, cel, pay, pri, fa, fb, fre, ou, un, pro, pl, ch) [.ref (g.1 0), .int x, .int y] (fun r s => ∃ m : MT, SP_byteAt msz mst msv mss mby x y r m ∧ LX s m) := by
  refine zz_enter_i RX0 [some (.ref (g.1 0)), some (.int x), some (.int y), none] 1 (by decide) rfl (by intro v hv; simp only [List.mem_cons, List.not_mem_nil, or_false] at hv; rcases hv with rfl | rfl | rfl <;> rfl) (Nat.le_of_ble_eq_true rfl) rfl ?_
  intro k hkl hkD F hR
  subst hkl hkD
  obtain ⟨hI1, hJ⟩ := hI
  have hsd := hI1.1
  subst hsd
  have h96 := hI1.2.1
  have hst := hI1.2.2
  refine zz_aload_n0 (pc := 0) F dX0_byteAt_0 ?_
  refine zz_iload_n1 (pc := 1) F dX0_byteAt_1 ?_
  refine zx_call_length (pc := 2) F dX0_byteAt_2 (m_length _ _ _ _ _ _ _ _ _ _ _ _ _ _ _ _ _ _ _ _ _ _ _ _ _ _ C hJ) (by decide) (Nat.le_of_ble_eq_true rfl) (fun r2 s2 h2 => ?_)
  obtain ⟨rfl, ⟨hb, rfl⟩ | ⟨s, hs6, rfl, h0, rfl⟩ | ⟨s, hs6, rfl, h0, rfl⟩⟩ := h2
  · refine zz_istore_n3 (pc := 5) F dX0_byteAt_5 (by decide) ?_
    refine zz_iload_n3 (pc := 6) F dX0_byteAt_6 ?_
    refine zz_if_geG (pc := 7) 12 F dX0_byteAt_7 (by decide) (fun c7 => ?_) (fun c7 => ?_)
    · exact absurd c7 (by decide)
    · refine zz_iload_n3 (pc := 10) F dX0_byteAt_10 ?_
      exact hR _ _ _ _ dX0_byteAt_11 (vp_nar_int _) ⟨_, ⟨rfl, Or.inl ⟨hb, rfl⟩⟩, LX_of ⟨hI1, hJ⟩⟩
  · refine zz_istore_n3 (pc := 5) F dX0_byteAt_5 (by decide) ?_
    refine zz_iload_n3 (pc := 6) F dX0_byteAt_6 ?_
    refine zz_if_geG (pc := 7) 12 F dX0_byteAt_7 (by decide) (fun c7 => ?_) (fun c7 => ?_)
    · exact absurd c7 (by decide)
    · refine zz_iload_n3 (pc := 10) F dX0_byteAt_10 ?_
      exact hR _ _ _ _ dX0_byteAt_11 (vp_nar_int _) ⟨_, ⟨rfl, Or.inr (Or.inl ⟨s, hs6, rfl, h0, rfl⟩)⟩, LX_of ⟨hI1, hJ⟩⟩
  · have hv1 := (hJ.1 s hs6).1
    have hs0 : 0 < sav s := by rw [hv1]; exact h0
    have hm96 := (hJ.2.2.2 s hs6 hs0).2.2.2.1
    refine zz_istore_n3 (pc := 5) F dX0_byteAt_5 (by decide) ?_
    refine zz_iload_n3 (pc := 6) F dX0_byteAt_6 ?_
    refine zz_if_ge (pc := 7) 12 F dX0_byteAt_7 (by decide) (by omega) ?_
    refine zz_iload_n2 (pc := 12) F dX0_byteAt_12 ?_
    refine zz_if_ltG (pc := 13) 21 F dX0_byteAt_13 (by decide) (fun c13 => ?_) (fun c13 => ?_)
    · refine zz_bipush_m5 (pc := 21) F dX0_byteAt_21 ?_
      exact hR _ _ _ _ dX0_byteAt_23 (vp_nar_int _) ⟨_, ⟨rfl, Or.inr (Or.inr ⟨s, hs6, rfl, h0, Or.inl ⟨by first | exact Or.inl c13 | exact Or.inr (zz_nlt c18), rfl⟩⟩)⟩, LX_of ⟨hI1, hJ⟩⟩
    · refine zz_iload_n2 (pc := 16) F dX0_byteAt_16 ?_
      refine zz_iload_n3 (pc := 17) F dX0_byteAt_17 ?_
      refine zz_icmp_ltG (pc := 18) 24 F dX0_byteAt_18 (by decide) (fun c18 => ?_) (fun c18 => ?_)
      · obtain ⟨j, hj, rfl⟩ := zz_ix (by omega) c13 c18
        refine zz_aload_n0 (pc := 24) F dX0_byteAt_24 ?_
        refine zz_iload_n1 (pc := 25) F dX0_byteAt_25 ?_
        refine zz_iload_n2 (pc := 26) F dX0_byteAt_26 ?_
        refine zx_call_restored (pc := 27) F dX0_byteAt_27 (m_restored _ _ _ _ _ _ _ _ _ _ _ _ _ _ _ _ _ _ _ _ _ _ s j _ _ _ C hJ hs6 hs0 hj) (by decide) (Nat.le_of_ble_eq_true rfl) (fun r27 s27 h27 => ?_)
        obtain ⟨ou2, un2, ch2, rfl, rfl⟩ := h27
        exact hR _ _ _ _ dX0_byteAt_30 (vp_nar_int _) ⟨_, ⟨rfl, Or.inr (Or.inr ⟨s, hs6, rfl, h0, Or.inr ⟨j, hj, rfl, rfl⟩⟩)⟩, LX_of ⟨hI1, hJ⟩⟩
      · refine zz_bipush_m5 (pc := 21) F dX0_byteAt_21 ?_
        exact hR _ _ _ _ dX0_byteAt_23 (vp_nar_int _) ⟨_, ⟨rfl, Or.inr (Or.inr ⟨s, hs6, rfl, h0, Or.inl ⟨by first | exact Or.inl c13 | exact Or.inr (zz_nlt c18), rfl⟩⟩)⟩, LX_of ⟨hI1, hJ⟩⟩
set_option maxHeartbeats 4000000 in
theorem m_lengthI (l : Launch) (D : va_G) (g : ZG) (sd pl : Nat) (sta sav pas par rfs siz bas cel pay pri fa fb fre ou un pro ch : Nat → Nat) (x : Int32) (msz : Nat) (mst msv mss mby : Nat → Nat) (C : Nat → Nat → Nat) (hI : sd_I sd sta sav pas par rfs siz bas cel pay msz mst msv mss mby C) : zz_Mi l D g (wX g) yX0_length cX0_length 4 1 20 .int (sd, sta, sav, pas, par, rfs, siz, bas, cel, pay, pri, fa, fb, fre, ou, un, pro, pl, ch) [.ref (g.1 0), .int x] (fun r s => ∃ m : MT, SP_length msz mst msv mss mby x r m ∧ LX s m) := by
  refine zz_enter_i RX0 [some (.ref (g.1 0)), some (.int x), none, none] 2 (by decide) rfl (by intro v hv; simp only [List.mem_cons, List.not_mem_nil, or_false] at hv; rcases hv with rfl | rfl <;> rfl) (Nat.le_of_ble_eq_true rfl) rfl ?_
  intro k hkl hkD F hR
  subst hkl hkD
  obtain ⟨hI1, hJ⟩ := hI
  have hsd := hI1.1
  subst hsd
  have h96 := hI1.2.1
  have hst := hI1.2.2
  refine zz_iload_n1 (pc := 0) F dX0_length_0 ?_
  refine zx_call_badSlot (pc := 1) F dX0_length_1 (m_badSlot _ _ _ _ _ _ _ _ _ _ _ _ _ _ _ _ _ _ _ _ _ _ _) (by decide) (Nat.le_of_ble_eq_true rfl) (fun r1 s1 h1 => ?_)
  obtain ⟨rfl, ⟨hb, rfl⟩ | ⟨⟨s, hs6, rfl⟩, rfl⟩⟩ := h1
  · refine zz_if_eq (pc := 4) 10 F dX0_length_4 (by decide) (by decide) (fun c4 => ?_) (fun c4 => ?_)
    · exact absurd c4 (by decide)
    · refine zz_bipush_m2 (pc := 7) F dX0_length_7 ?_
      exact hR _ _ _ _ dX0_length_9 (vp_nar_int _) ⟨_, ⟨rfl, Or.inl ⟨hb, rfl⟩⟩, LX_of ⟨hI1, hJ⟩⟩
  · have hv1 := (hJ.1 s hs6).1
    have hv2 := (hJ.1 s hs6).2
    refine zz_if_eq (pc := 4) 10 F dX0_length_4 (by decide) (by decide) (fun c4 => ?_) (fun c4 => ?_)
    · refine zz_aload_n0 (pc := 10) F dX0_length_10 ?_
      refine zx_get_saved (pc := 11) F dX0_length_11 ?_
      refine zz_iload_n1 (pc := 14) F dX0_length_14 ?_
      refine zx_ald_saved (pc := 15) F dX0_length_15 (by omega) ?_
      refine zz_if_ne (pc := 16) 22 F dX0_length_16 (by decide) (by omega) (fun c16 => ?_) (fun c16 => ?_)
      · have hS := hJ.2.2.2 s hs6 c16
        have hS1 := hS.1
        have loop : ∀ n2 i : Nat, i ≤ pas s → pas s < i + n2 → zz_W k (wX g (sd, sta, sav, pas, par, rfs, siz, bas, cel, pay, pri, fa, fb, fre, ou, un, pro, pl, ch)) 26 [some (.ref (g.1 0)), some (.int (nI (s))), some (.int (nI (sd_off siz par s i))), some (.int (nI (i)))] [] := by
          intro n2
          induction n2 with
          | zero => intro i h1 h2; exfalso; omega
          | succ n2 ih =>
            intro i hi hm
            refine zz_iload_n3 (pc := 26) F dX0_length_26 ?_
            refine zz_aload_n0 (pc := 27) F dX0_length_27 ?_
            refine zx_get_parts (pc := 28) F dX0_length_28 ?_
            refine zz_iload_n1 (pc := 31) F dX0_length_31 ?_
            refine zx_ald_parts (pc := 32) F dX0_length_32 (by omega) ?_
            refine zz_icmp_ge (pc := 33) 61 F dX0_length_33 (by decide) (by omega) (by omega) (fun c33 => ?_) (fun c33 => ?_)
            · have e : i = pas s := by omega
              refine zz_iload_n2 (pc := 61) F dX0_length_61 ?_
              exact hR _ _ _ _ dX0_length_62 (vp_nar_int _) ⟨_, ⟨rfl, Or.inr (Or.inr ⟨s, hs6, rfl, by rw [← hv1]; exact c16, by rw [hS.2.2.1, ← e]⟩)⟩, LX_of ⟨hI1, hJ⟩⟩
            · have hp1 := hS.2.1 i c33
              refine zz_iload_n2 (pc := 36) F dX0_length_36 ?_
              refine zz_aload_n0 (pc := 37) F dX0_length_37 ?_
              refine zx_get_size (pc := 38) F dX0_length_38 ?_
              refine zz_aload_n0 (pc := 41) F dX0_length_41 ?_
              refine zx_get_part (pc := 42) F dX0_length_42 ?_
              refine zz_iload_n1 (pc := 45) F dX0_length_45 ?_
              refine zz_bipush_16 (pc := 46) F dX0_length_46 ?_
              refine zz_imul (pc := 48) F dX0_length_48 ?_
              refine zz_iload_n3 (pc := 49) F dX0_length_49 ?_
              refine zz_iadd (pc := 50) F dX0_length_50 ?_
              refine zx_ald_part (pc := 51) F dX0_length_51 (by omega) ?_
              refine zx_ald_size (pc := 52) F dX0_length_52 (by omega) ?_
              refine zz_iadd (pc := 53) F dX0_length_53 ?_
              refine zz_istore_n2 (pc := 54) F dX0_length_54 (by decide) ?_
              refine zz_iinc3 (pc := 55) F dX0_length_55 (by decide) ?_
              refine zz_goto (pc := 58) 26 F dX0_length_58 (by decide) ?_
              exact ih (i + 1) (by omega) (by omega)
        refine zz_iconst_0 (pc := 22) F dX0_length_22 ?_
        refine zz_istore_n2 (pc := 23) F dX0_length_23 (by decide) ?_
        refine zz_iconst_0 (pc := 24) F dX0_length_24 ?_
        refine zz_istore_n3 (pc := 25) F dX0_length_25 (by decide) ?_
        exact loop (pas s + 1) 0 (by omega) (by omega)
      · refine zz_bipush_m4 (pc := 19) F dX0_length_19 ?_
        exact hR _ _ _ _ dX0_length_21 (vp_nar_int _) ⟨_, ⟨rfl, Or.inr (Or.inl ⟨s, hs6, rfl, by rw [← hv1]; exact c16, rfl⟩)⟩, LX_of ⟨hI1, hJ⟩⟩
    · exact absurd c4 (by decide)
set_option maxHeartbeats 4000000 in
theorem m_sum (l : Launch) (D : va_G) (g : ZG) (sd pl : Nat) (sta sav pas par rfs siz bas cel pay pri fa fb fre ou un pro ch : Nat → Nat) (x : Int32) (msz : Nat) (mst msv mss mby : Nat → Nat) (C : Nat → Nat → Nat) (hI : sd_I sd sta sav pas par rfs siz bas cel pay msz mst msv mss mby C) : zz_Mi l D g (wX g) yX0_sum cX0_sum 6 3 73 .int (sd, sta, sav, pas, par, rfs, siz, bas, cel, pay, pri, fa, fb, fre, ou, un, pro, pl, ch) [.ref (g.1 0), .int x] (fun r s => ∃ m : MT, SP_sum msz mst msv mss mby x r m ∧ LX s m) := by
  refine zz_enter_i RX0 [some (.ref (g.1 0)), some (.int x), none, none, none, none] 4 (by decide) rfl (by intro v hv; simp only [List.mem_cons, List.not_mem_nil, or_false] at hv; rcases hv with rfl | rfl <;> rfl) (Nat.le_of_ble_eq_true rfl) rfl ?_
  intro k hkl hkD F hR
  subst hkl hkD
  obtain ⟨hI1, hJ⟩ := hI
  have hsd := hI1.1
  subst hsd
  have h96 := hI1.2.1
  have hst := hI1.2.2
  refine zz_iload_n1 (pc := 0) F dX0_sum_0 ?_
  refine zx_call_badSlot (pc := 1) F dX0_sum_1 (m_badSlot _ _ _ _ _ _ _ _ _ _ _ _ _ _ _ _ _ _ _ _ _ _ _) (by decide) (Nat.le_of_ble_eq_true rfl) (fun r1 s1 h1 => ?_)
  obtain ⟨rfl, ⟨hb, rfl⟩ | ⟨⟨s, hs6, rfl⟩, rfl⟩⟩ := h1
  · refine zz_if_ne (pc := 4) 16 F dX0_sum_4 (by decide) (by decide) (fun c4 => ?_) (fun c4 => ?_)
    · refine zz_iconst_0 (pc := 16) F dX0_sum_16 ?_
      exact hR _ _ _ _ dX0_sum_17 (vp_nar_int _) ⟨_, ⟨rfl, Or.inl ⟨hb, rfl⟩⟩, LX_of ⟨hI1, hJ⟩⟩
    · exact absurd c4 (by decide)
  · have hv1 := (hJ.1 s hs6).1
    have hv2 := (hJ.1 s hs6).2
    refine zz_if_ne (pc := 4) 16 F dX0_sum_4 (by decide) (by decide) (fun c4 => ?_) (fun c4 => ?_)
    · exact absurd c4 (by decide)
    · refine zz_aload_n0 (pc := 7) F dX0_sum_7 ?_
      refine zx_get_saved (pc := 8) F dX0_sum_8 ?_
      refine zz_iload_n1 (pc := 11) F dX0_sum_11 ?_
      refine zx_ald_saved (pc := 12) F dX0_sum_12 (by omega) ?_
      refine zz_if_ne (pc := 13) 18 F dX0_sum_13 (by decide) (by omega) (fun c13 => ?_) (fun c13 => ?_)
      · have hs0 : 0 < sav s := c13
        have h0 : 0 < msv s := by rw [← hv1]; exact c13
        have hS := hJ.2.2.2 s hs6 hs0
        have hS1 := hS.1
        have loop : ∀ (n2 : Nat) (ou2 un2 ch2 : Nat → Nat) (k1 : Nat) (y4 y5 : Option Value), k1 ≤ pas s → pas s < k1 + n2 → zz_W k (wX g (sd, sta, sav, pas, par, rfs, siz, bas, cel, pay, pri, fa, fb, fre, ou2, un2, pro, pl, ch2)) 23 [some (.ref (g.1 0)), some (.int (nI (s))), some (.int (sd_sum mby (s * 96) (sd_off siz par s k1))), some (.int (nI (k1))), y4, y5] [] := by
          intro n2
          induction n2 with
          | zero => intro ou2 un2 ch2 k1 y4 y5 h1 h2; exfalso; omega
          | succ n2 ih =>
            intro ou2 un2 ch2 k1 y4 y5 hi hm
            refine zz_iload_n3 (pc := 23) F dX0_sum_23 ?_
            refine zz_aload_n0 (pc := 24) F dX0_sum_24 ?_
            refine zx_get_parts (pc := 25) F dX0_sum_25 ?_
            refine zz_iload_n1 (pc := 28) F dX0_sum_28 ?_
            refine zx_ald_parts (pc := 29) F dX0_sum_29 (by omega) ?_
            refine zz_icmp_ge (pc := 30) 93 F dX0_sum_30 (by decide) (by omega) (by omega) (fun c30 => ?_) (fun c30 => ?_)
            · have e : k1 = pas s := by omega
              refine zz_iload_n2 (pc := 93) F dX0_sum_93 ?_
              exact hR _ _ _ _ dX0_sum_94 (vp_nar_int _) ⟨_, ⟨rfl, Or.inr (Or.inr ⟨s, hs6, rfl, h0, by rw [hS.2.2.1, ← e]⟩)⟩, LX_of ⟨hI1, hJ⟩⟩
            · have hl := J_live hJ hs6 hs0 c30
              have hl1 := hl.1
              have hz := J_siz hJ hs6 hs0 c30
              refine zz_aload_n0 (pc := 33) F dX0_sum_33 ?_
              refine zx_get_part (pc := 34) F dX0_sum_34 ?_
              refine zz_iload_n1 (pc := 37) F dX0_sum_37 ?_
              refine zz_bipush_16 (pc := 38) F dX0_sum_38 ?_
              refine zz_imul (pc := 40) F dX0_sum_40 ?_
              refine zz_iload_n3 (pc := 41) F dX0_sum_41 ?_
              refine zz_iadd (pc := 42) F dX0_sum_42 ?_
              refine zx_ald_part (pc := 43) F dX0_sum_43 (by omega) ?_
              refine zz_istore4 (pc := 44) F dX0_sum_44 (by decide) ?_
              refine zz_aload_n0 (pc := 46) F dX0_sum_46 ?_
              refine zz_iload4 (pc := 47) F dX0_sum_47 ?_
              refine zx_call_writeOut (pc := 49) F dX0_sum_49 (m_writeOut _ _ _ _ _ _ _ _ _ _ _ _ _ _ _ _ _ _ _ _ _ _ _ _ C hJ.2.1 hl) (by decide) (Nat.le_of_ble_eq_true rfl) (fun s49 h49 => ?_)
              obtain ⟨ou3, un3, ch3, rfl, hou⟩ := h49
              have inner : ∀ n4 i : Nat, i ≤ siz (par (s * 16 + k1)) → siz (par (s * 16 + k1)) < i + n4 → zz_W k (wX g (sd, sta, sav, pas, par, rfs, siz, bas, cel, pay, pri, fa, fb, fre, ou3, un3, pro, pl, ch3)) 55 [some (.ref (g.1 0)), some (.int (nI (s))), some (.int (sd_sum mby (s * 96) (sd_off siz par s k1 + i))), some (.int (nI (k1))), some (.int (nI (par (s * 16 + k1)))), some (.int (nI (i)))] [] := by
                intro n4
                induction n4 with
                | zero => intro i h1 h2; exfalso; omega
                | succ n4 ih4 =>
                  intro i hi hm4
                  refine zz_iload5 (pc := 55) F dX0_sum_55 ?_
                  refine zz_aload_n0 (pc := 57) F dX0_sum_57 ?_
                  refine zx_get_size (pc := 58) F dX0_sum_58 ?_
                  refine zz_iload4 (pc := 61) F dX0_sum_61 ?_
                  refine zx_ald_size (pc := 63) F dX0_sum_63 (by omega) ?_
                  refine zz_icmp_ge (pc := 64) 87 F dX0_sum_64 (by decide) (by omega) (by omega) (fun c64 => ?_) (fun c64 => ?_)
                  · have e : i = siz (par (s * 16 + k1)) := by omega
                    subst e
                    refine zz_iinc3 (pc := 87) F dX0_sum_87 (by decide) ?_
                    refine zz_goto (pc := 90) 23 F dX0_sum_90 (by decide) ?_
                    exact ih _ _ _ (k1 + 1) _ _ (by omega) (by omega)
                  · have hSm : sd_sum mby (s * 96) (sd_off siz par s k1 + i) * nI 131 + nI (ou3 i) = sd_sum mby (s * 96) (sd_off siz par s k1 + (i + 1)) := by
                      rw [hou i c64, ← hS.2.2.2.2 k1 c30 i c64]
                      rfl
                    refine zz_iload_n2 (pc := 67) F dX0_sum_67 ?_
                    refine zz_sipush_131 (pc := 68) F dX0_sum_68 ?_
                    refine zz_imulG (pc := 71) F dX0_sum_71 ?_
                    refine zz_aload_n0 (pc := 72) F dX0_sum_72 ?_
                    refine zx_get_out (pc := 73) F dX0_sum_73 ?_
                    refine zz_iload5 (pc := 76) F dX0_sum_76 ?_
                    refine zx_ald_out (pc := 78) F dX0_sum_78 (by omega) ?_
                    refine zz_iaddG (pc := 79) F dX0_sum_79 ?_
                    refine zz_istore_n2 (pc := 80) F dX0_sum_80 (by decide) ?_
                    refine zz_iinc5 (pc := 81) F dX0_sum_81 (by decide) ?_
                    refine zz_goto (pc := 84) 55 F dX0_sum_84 (by decide) ?_
                    have h := ih4 (i + 1) (by omega) (by omega)
                    rw [← hSm] at h
                    exact h
              refine zz_iconst_0 (pc := 52) F dX0_sum_52 ?_
              refine zz_istore5 (pc := 53) F dX0_sum_53 (by decide) ?_
              exact inner (siz (par (s * 16 + k1)) + 1) 0 (by omega) (by omega)
        refine zz_bipush_7 (pc := 18) F dX0_sum_18 ?_
        refine zz_istore_n2 (pc := 20) F dX0_sum_20 (by decide) ?_
        refine zz_iconst_0 (pc := 21) F dX0_sum_21 ?_
        refine zz_istore_n3 (pc := 22) F dX0_sum_22 (by decide) ?_
        exact loop (pas s + 1) _ _ _ 0 _ _ (by omega) (by omega)
      · refine zz_iconst_0 (pc := 16) F dX0_sum_16 ?_
        exact hR _ _ _ _ dX0_sum_17 (vp_nar_int _) ⟨_, ⟨rfl, Or.inr (Or.inl ⟨s, hs6, rfl, by rw [← hv1]; exact c13, rfl⟩)⟩, LX_of ⟨hI1, hJ⟩⟩
set_option maxHeartbeats 4000000 in
theorem m_begin (l : Launch) (D : va_G) (g : ZG) (sd pl : Nat) (sta sav pas par rfs siz bas cel pay pri fa fb fre ou un pro ch : Nat → Nat) (msz : Nat) (mst msv mss mby : Nat → Nat) (C : Nat → Nat → Nat) (hI : sd_I sd sta sav pas par rfs siz bas cel pay msz mst msv mss mby C) : zz_Mv l D g (wX g) yX0_begin cX0_begin 1 0 0 (sd, sta, sav, pas, par, rfs, siz, bas, cel, pay, pri, fa, fb, fre, ou, un, pro, pl, ch) [.ref (g.1 0)] (fun s => LX s (mst, 0, msv, mss, mby)) := by
  refine zz_enter_v RX0 [some (.ref (g.1 0))] 0 (by decide) rfl (by intro v hv; simp only [List.mem_cons, List.not_mem_nil, or_false] at hv; rcases hv with rfl <;> rfl) (Nat.le_of_ble_eq_true rfl) rfl ?_
  intro k hkl hkD F hR
  subst hkl hkD
  obtain ⟨hI1, hJ⟩ := hI
  have hsd := hI1.1
  subst hsd
  have h96 := hI1.2.1
  have hst := hI1.2.2
  refine zz_aload_n0 (pc := 0) F dX0_begin_0 ?_
  refine zz_iconst_0 (pc := 1) F dX0_begin_1 ?_
  refine zx_put_staged (pc := 2) F dX0_begin_2 ?_
  exact hR _ _ _ dX0_begin_5 (LX_of ⟨⟨rfl, by omega, fun j hj => absurd hj (Nat.not_lt_zero j)⟩, hJ⟩)
set_option maxHeartbeats 4000000 in
theorem m_feed (l : Launch) (D : va_G) (g : ZG) (sd pl : Nat) (sta sav pas par rfs siz bas cel pay pri fa fb fre ou un pro ch : Nat → Nat) (b : Int32) (h96 : sd ≤ 96) : zz_Mi l D g (wX g) yX0_feed cX0_feed 2 0 0 .int (sd, sta, sav, pas, par, rfs, siz, bas, cel, pay, pri, fa, fb, fre, ou, un, pro, pl, ch) [.ref (g.1 0), .int b] (fun r s => (sd < 96 ∧ r = nI (sd + 1) ∧ s = (sd + 1, va_up sta sd (by8 b), sav, pas, par, rfs, siz, bas, cel, pay, pri, fa, fb, fre, ou, un, pro, pl, ch)) ∨ (96 ≤ sd ∧ r = -1 ∧ s = (sd, sta, sav, pas, par, rfs, siz, bas, cel, pay, pri, fa, fb, fre, ou, un, pro, pl, ch))) := by
  refine zz_enter_i RX0 [some (.ref (g.1 0)), some (.int b)] 0 (by decide) rfl (by intro v hv; simp only [List.mem_cons, List.not_mem_nil, or_false] at hv; rcases hv with rfl | rfl <;> rfl) (Nat.le_of_ble_eq_true rfl) rfl ?_
  intro k hkl hkD F hR
  subst hkl hkD
  refine zz_aload_n0 (pc := 0) F dX0_feed_0 ?_
  refine zx_get_staged (pc := 1) F dX0_feed_1 ?_
  refine zz_bipush_96 (pc := 4) F dX0_feed_4 ?_
  refine zz_icmp_lt (pc := 6) 11 F dX0_feed_6 (by decide) (by omega) (by omega) (fun c6 => ?_) (fun c6 => ?_)
  · refine zz_aload_n0 (pc := 11) F dX0_feed_11 ?_
    refine zx_get_stage (pc := 12) F dX0_feed_12 ?_
    refine zz_aload_n0 (pc := 15) F dX0_feed_15 ?_
    refine zx_get_staged (pc := 16) F dX0_feed_16 ?_
    refine zz_iload_n1 (pc := 19) F dX0_feed_19 ?_
    refine zz_sipush_255 (pc := 20) F dX0_feed_20 ?_
    refine zz_and255 (pc := 23) F dX0_feed_23 ?_
    refine zx_ast_stage (pc := 24) F dX0_feed_24 (by omega) ?_
    refine zz_aload_n0 (pc := 25) F dX0_feed_25 ?_
    refine zz_dup (pc := 26) F dX0_feed_26 rfl ?_
    refine zx_get_staged (pc := 27) F dX0_feed_27 ?_
    refine zz_iconst_1 (pc := 30) F dX0_feed_30 ?_
    refine zz_iadd (pc := 31) F dX0_feed_31 ?_
    refine zx_put_staged (pc := 32) F dX0_feed_32 ?_
    refine zz_aload_n0 (pc := 35) F dX0_feed_35 ?_
    refine zx_get_staged (pc := 36) F dX0_feed_36 ?_
    exact hR _ _ _ _ dX0_feed_39 (vp_nar_int _) (Or.inl ⟨c6, rfl, rfl⟩)
  · refine zz_iconst_m1 (pc := 9) F dX0_feed_9 ?_
    exact hR _ _ _ _ dX0_feed_10 (vp_nar_int _) (Or.inr ⟨c6, rfl, rfl⟩)
theorem run_one {f : Nat → Nat} {z : Nat} {b : Int32} : sd_run f z b (nI 0) 1 = va_up f z (by8 b) := by
  have h := run_step (f := f) (z := z) (n := 0) (a := b) (b := nI 0)
  rw [run_0, Nat.add_zero, show nI 0 * nI 0 = 0 from rfl, Int32.add_zero] at h
  exact h.symm
theorem st_run {sta mst : Nat → Nat} {z c : Nat} {a b : Int32} (h : ∀ j, j < z → sta j = mst j ∧ sta j < 256) : ∀ j, j < z + c → sd_run sta z a b c j = sd_run mst z a b c j ∧ sd_run sta z a b c j < 256 := by
  intro j hj
  unfold sd_run
  by_cases e : z ≤ j ∧ j < z + c
  · rw [if_pos e, if_pos e]
    exact ⟨rfl, by8_lt _⟩
  · rw [if_neg e, if_neg e]
    exact h j (by omega)
theorem st_cpy {sta mst f : Nat → Nat} {z c p : Nat} (h : ∀ j, j < z → sta j = mst j ∧ sta j < 256) (hf : ∀ q, q < c → f (p + q) < 256) : ∀ j, j < z + c → va_cpy f sta p z c j = va_cpy f mst p z c j ∧ va_cpy f sta p z c j < 256 := by
  intro j hj
  by_cases e : j < z
  · rw [cpy_out (Or.inl e), cpy_out (Or.inl e)]
    exact h j e
  · obtain ⟨q, rfl⟩ : ∃ q, j = z + q := ⟨j - z, by omega⟩
    rw [cpy_in (by omega), cpy_in (by omega)]
    exact ⟨rfl, hf q (by omega)⟩
theorem st_up {sta mst : Nat → Nat} {z p v : Nat} (h : ∀ j, j < z → sta j = mst j ∧ sta j < 256) (hv : v < 256) : ∀ j, j < z → va_up sta p v j = va_up mst p v j ∧ va_up sta p v j < 256 := by
  intro j hj
  rw [up_at, up_at]
  by_cases e : j = p
  · rw [if_pos e, if_pos e]
    exact ⟨rfl, hv⟩
  · rw [if_neg e, if_neg e]
    exact h j hj
theorem st_ins {sta mst : Nat → Nat} {z p v : Nat} (h : ∀ j, j < z → sta j = mst j ∧ sta j < 256) (hv : v < 256) (hp : p ≤ z) : ∀ j, j < z + 1 → sd_ins sta z p v j = sd_ins mst z p v j ∧ sd_ins sta z p v j < 256 := by
  intro j hj
  unfold sd_ins
  by_cases e : j = p
  · rw [if_pos e, if_pos e]
    exact ⟨rfl, hv⟩
  · rw [if_neg e, if_neg e]
    by_cases e2 : p < j ∧ j ≤ z
    · rw [if_pos e2, if_pos e2]
      exact h _ (by omega)
    · rw [if_neg e2, if_neg e2]
      exact h j (by omega)
theorem st_cut {sta mst : Nat → Nat} {z p c m : Nat} (h : ∀ j, j < z → sta j = mst j ∧ sta j < 256) (hc : p + c + m = z) : ∀ j, j < z - c → va_cpy sta sta (p + c) p m j = va_cpy mst mst (p + c) p m j ∧ va_cpy sta sta (p + c) p m j < 256 := by
  intro j hj
  by_cases e : j < p
  · rw [cpy_out (Or.inl e), cpy_out (Or.inl e)]
    exact h j (by omega)
  · obtain ⟨q, rfl⟩ : ∃ q, j = p + q := ⟨j - p, by omega⟩
    rw [cpy_in (by omega), cpy_in (by omega)]
    exact h _ (by omega)
set_option maxHeartbeats 4000000 in
theorem m_feedI (l : Launch) (D : va_G) (g : ZG) (sd pl : Nat) (sta sav pas par rfs siz bas cel pay pri fa fb fre ou un pro ch : Nat → Nat) (b : Int32) (msz : Nat) (mst msv mss mby : Nat → Nat) (C : Nat → Nat → Nat) (hI : sd_I sd sta sav pas par rfs siz bas cel pay msz mst msv mss mby C) : zz_Mi l D g (wX g) yX0_feed cX0_feed 2 0 0 .int (sd, sta, sav, pas, par, rfs, siz, bas, cel, pay, pri, fa, fb, fre, ou, un, pro, pl, ch) [.ref (g.1 0), .int b] (fun r s => ∃ m : MT, SP_feedRun msz mst msv mss mby b (nI 0) (nI 1) r m ∧ LX s m) := by
  refine zz_enter_i RX0 [some (.ref (g.1 0)), some (.int b)] 0 (by decide) rfl (by intro v hv; simp only [List.mem_cons, List.not_mem_nil, or_false] at hv; rcases hv with rfl | rfl <;> rfl) (Nat.le_of_ble_eq_true rfl) rfl ?_
  intro k hkl hkD F hR
  subst hkl hkD
  obtain ⟨hI1, hJ⟩ := hI
  have hsd := hI1.1
  subst hsd
  have h96 := hI1.2.1
  have hst := hI1.2.2
  refine zz_aload_n0 (pc := 0) F dX0_feed_0 ?_
  refine zx_get_staged (pc := 1) F dX0_feed_1 ?_
  refine zz_bipush_96 (pc := 4) F dX0_feed_4 ?_
  refine zz_icmp_lt (pc := 6) 11 F dX0_feed_6 (by decide) (by omega) (by omega) (fun c6 => ?_) (fun c6 => ?_)
  · refine zz_aload_n0 (pc := 11) F dX0_feed_11 ?_
    refine zx_get_stage (pc := 12) F dX0_feed_12 ?_
    refine zz_aload_n0 (pc := 15) F dX0_feed_15 ?_
    refine zx_get_staged (pc := 16) F dX0_feed_16 ?_
    refine zz_iload_n1 (pc := 19) F dX0_feed_19 ?_
    refine zz_sipush_255 (pc := 20) F dX0_feed_20 ?_
    refine zz_and255 (pc := 23) F dX0_feed_23 ?_
    refine zx_ast_stage (pc := 24) F dX0_feed_24 (by omega) ?_
    refine zz_aload_n0 (pc := 25) F dX0_feed_25 ?_
    refine zz_dup (pc := 26) F dX0_feed_26 rfl ?_
    refine zx_get_staged (pc := 27) F dX0_feed_27 ?_
    refine zz_iconst_1 (pc := 30) F dX0_feed_30 ?_
    refine zz_iadd (pc := 31) F dX0_feed_31 ?_
    refine zx_put_staged (pc := 32) F dX0_feed_32 ?_
    refine zz_aload_n0 (pc := 35) F dX0_feed_35 ?_
    refine zx_get_staged (pc := 36) F dX0_feed_36 ?_
    exact hR _ _ _ _ dX0_feed_39 (vp_nar_int _) ⟨_, Or.inl ⟨1, by omega, Or.inl rfl, rfl, rfl⟩, LX_of ⟨⟨rfl, by omega, by rw [← run_one]; exact st_run hst⟩, hJ⟩⟩
  · refine zz_iconst_m1 (pc := 9) F dX0_feed_9 ?_
    exact hR _ _ _ _ dX0_feed_10 (vp_nar_int _) ⟨_, Or.inr ⟨fun q => absurd ((nI_leI (a := 1) (by decide) (by omega)).mp q) (by omega), rfl, rfl⟩, LX_of ⟨hI1, hJ⟩⟩
set_option maxHeartbeats 4000000 in
theorem m_feedRun (l : Launch) (D : va_G) (g : ZG) (sd pl : Nat) (sta sav pas par rfs siz bas cel pay pri fa fb fre ou un pro ch : Nat → Nat) (a b n : Int32) (msz : Nat) (mst msv mss mby : Nat → Nat) (C : Nat → Nat → Nat) (hI : sd_I sd sta sav pas par rfs siz bas cel pay msz mst msv mss mby C) : zz_Mi l D g (wX g) yX0_feedRun cX0_feedRun 7 1 21 .int (sd, sta, sav, pas, par, rfs, siz, bas, cel, pay, pri, fa, fb, fre, ou, un, pro, pl, ch) [.ref (g.1 0), .int a, .int b, .int n] (fun r s => ∃ m : MT, SP_feedRun msz mst msv mss mby a b n r m ∧ LX s m) := by
  refine zz_enter_i RX0 [some (.ref (g.1 0)), some (.int a), some (.int b), some (.int n), none, none, none] 3 (by decide) rfl (by intro v hv; simp only [List.mem_cons, List.not_mem_nil, or_false] at hv; rcases hv with rfl | rfl | rfl | rfl <;> rfl) (Nat.le_of_ble_eq_true rfl) rfl ?_
  intro k hkl hkD F hR
  subst hkl hkD
  obtain ⟨hI1, hJ⟩ := hI
  have hsd := hI1.1
  subst hsd
  have h96 := hI1.2.1
  have hst := hI1.2.2
  have main : ∀ c : Nat, c < 2 ^ 31 → (n = nI c ∨ n < 0 ∧ c = 0) → zz_W k (wX g (sd, sta, sav, pas, par, rfs, siz, bas, cel, pay, pri, fa, fb, fre, ou, un, pro, pl, ch)) 9 [some (.ref (g.1 0)), some (.int (a)), some (.int (b)), some (.int (n)), none, none, none] [.int (nI c)] := by
    intro c hc31 hn
    refine zz_istore4 (pc := 9) F dX0_feedRun_9 (by decide) ?_
    refine zz_iload4 (pc := 11) F dX0_feedRun_11 ?_
    refine zz_bipush_96 (pc := 13) F dX0_feedRun_13 ?_
    refine zz_aload_n0 (pc := 15) F dX0_feedRun_15 ?_
    refine zx_get_staged (pc := 16) F dX0_feedRun_16 ?_
    refine zz_isub (pc := 19) F dX0_feedRun_19 (by omega) ?_
    refine zz_icmp_le (pc := 20) 25 F dX0_feedRun_20 (by decide) (by omega) (by omega) (fun c20 => ?_) (fun c20 => ?_)
    · have hc96 := c20
      have loop : ∀ n2 i : Nat, i ≤ c → c < i + n2 → zz_W k (wX g (sd + i, sd_run sta sd a b i, sav, pas, par, rfs, siz, bas, cel, pay, pri, fa, fb, fre, ou, un, pro, pl, ch)) 31 [some (.ref (g.1 0)), some (.int (a)), some (.int (b)), some (.int (n)), some (.int (nI (c))), some (.int (a + nI i * b)), some (.int (nI (i)))] [] := by
        intro n2
        induction n2 with
        | zero => intro i h1 h2; exfalso; omega
        | succ n2 ih =>
          intro i hi hm
          refine zz_iload6 (pc := 31) F dX0_feedRun_31 ?_
          refine zz_iload4 (pc := 33) F dX0_feedRun_33 ?_
          refine zz_icmp_ge (pc := 35) 57 F dX0_feedRun_35 (by decide) (by omega) (by omega) (fun c35 => ?_) (fun c35 => ?_)
          · have e : i = c := by omega
            subst e
            refine zz_aload_n0 (pc := 57) F dX0_feedRun_57 ?_
            refine zx_get_staged (pc := 58) F dX0_feedRun_58 ?_
            exact hR _ _ _ _ dX0_feedRun_61 (vp_nar_int _) ⟨_, Or.inl ⟨i, hc96, hn, rfl, rfl⟩, LX_of ⟨⟨rfl, by omega, st_run hst⟩, hJ⟩⟩
          · refine zz_aload_n0 (pc := 38) F dX0_feedRun_38 ?_
            refine zz_iload5 (pc := 39) F dX0_feedRun_39 ?_
            refine zx_call_feed (pc := 41) F dX0_feedRun_41 (m_feed _ _ _ _ _ _ _ _ _ _ _ _ _ _ _ _ _ _ _ _ _ _ _ (by omega)) (by decide) (Nat.le_of_ble_eq_true rfl) (fun r41 s41 h41 => ?_)
            obtain ⟨q1, rfl, rfl⟩ | ⟨q1, -, -⟩ := h41
            rotate_left
            · exfalso; omega
            refine zz_pop (pc := 44) F dX0_feedRun_44 rfl ?_
            refine zz_iload5 (pc := 45) F dX0_feedRun_45 ?_
            refine zz_iload_n2 (pc := 47) F dX0_feedRun_47 ?_
            refine zz_iaddG (pc := 48) F dX0_feedRun_48 ?_
            refine zz_istore5 (pc := 49) F dX0_feedRun_49 (by decide) ?_
            refine zz_iinc6 (pc := 51) F dX0_feedRun_51 (by decide) ?_
            refine zz_goto (pc := 54) 31 F dX0_feedRun_54 (by decide) ?_
            rw [run_step, run_b]
            exact ih (i + 1) (by omega) (by omega)
      refine zz_iload_n1 (pc := 25) F dX0_feedRun_25 ?_
      refine zz_istore5 (pc := 26) F dX0_feedRun_26 (by decide) ?_
      refine zz_iconst_0 (pc := 28) F dX0_feedRun_28 ?_
      refine zz_istore6 (pc := 29) F dX0_feedRun_29 (by decide) ?_
      have h := loop (c + 1) 0 (by omega) (by omega)
      rw [run_0, show nI 0 * b = 0 from Int32.zero_mul, Int32.add_zero] at h
      exact h
    · refine zz_iconst_m1 (pc := 23) F dX0_feedRun_23 ?_
      exact hR _ _ _ _ dX0_feedRun_24 (vp_nar_int _) ⟨_, Or.inr ⟨fun q => by
        rcases hn with e | ⟨-, e⟩
        · rw [e] at q
          exact absurd ((nI_leI (by omega) (by omega)).mp q) (by omega)
        · omega, rfl, rfl⟩, LX_of ⟨hI1, hJ⟩⟩
  refine zz_iload_n3 (pc := 0) F dX0_feedRun_0 ?_
  refine zz_if_geG (pc := 1) 8 F dX0_feedRun_1 (by decide) (fun c1 => ?_) (fun c1 => ?_)
  · refine zz_iload_n3 (pc := 8) F dX0_feedRun_8 ?_
    first
      | exact main 0 (by decide) (Or.inr ⟨Int32.not_le.mp c1, rfl⟩)
      | (obtain ⟨c, hc, rfl⟩ := nI_of (Int32.not_lt.mpr c1)
         exact main c hc (Or.inl rfl))
  · refine zz_iconst_0 (pc := 4) F dX0_feedRun_4 ?_
    refine zz_goto (pc := 5) 9 F dX0_feedRun_5 (by decide) ?_
    first
      | exact main 0 (by decide) (Or.inr ⟨Int32.not_le.mp c1, rfl⟩)
      | (obtain ⟨c, hc, rfl⟩ := nI_of (Int32.not_lt.mpr c1)
         exact main c hc (Or.inl rfl))
set_option maxHeartbeats 4000000 in
theorem m_poke (l : Launch) (D : va_G) (g : ZG) (sd pl : Nat) (sta sav pas par rfs siz bas cel pay pri fa fb fre ou un pro ch : Nat → Nat) (x b : Int32) (msz : Nat) (mst msv mss mby : Nat → Nat) (C : Nat → Nat → Nat) (hI : sd_I sd sta sav pas par rfs siz bas cel pay msz mst msv mss mby C) : zz_Mi l D g (wX g) yX0_poke cX0_poke 4 0 0 .int (sd, sta, sav, pas, par, rfs, siz, bas, cel, pay, pri, fa, fb, fre, ou, un, pro, pl, ch) [.ref (g.1 0), .int x, .int b] (fun r s => ∃ m : MT, SP_poke msz mst msv mss mby x b r m ∧ LX s m) := by
  refine zz_enter_i RX0 [some (.ref (g.1 0)), some (.int x), some (.int b), none] 1 (by decide) rfl (by intro v hv; simp only [List.mem_cons, List.not_mem_nil, or_false] at hv; rcases hv with rfl | rfl | rfl <;> rfl) (Nat.le_of_ble_eq_true rfl) rfl ?_
  intro k hkl hkD F hR
  subst hkl hkD
  obtain ⟨hI1, hJ⟩ := hI
  have hsd := hI1.1
  subst hsd
  have h96 := hI1.2.1
  have hst := hI1.2.2
  refine zz_iload_n1 (pc := 0) F dX0_poke_0 ?_
  refine zz_if_ltG (pc := 1) 12 F dX0_poke_1 (by decide) (fun c1 => ?_) (fun c1 => ?_)
  · refine zz_bipush_m5 (pc := 12) F dX0_poke_12 ?_
    exact hR _ _ _ _ dX0_poke_14 (vp_nar_int _) ⟨_, Or.inr ⟨by first | exact Or.inl c1 | exact Or.inr (zz_nlt c9), rfl, rfl⟩, LX_of ⟨hI1, hJ⟩⟩
  · refine zz_iload_n1 (pc := 4) F dX0_poke_4 ?_
    refine zz_aload_n0 (pc := 5) F dX0_poke_5 ?_
    refine zx_get_staged (pc := 6) F dX0_poke_6 ?_
    refine zz_icmp_ltG (pc := 9) 15 F dX0_poke_9 (by decide) (fun c9 => ?_) (fun c9 => ?_)
    · obtain ⟨j, hj, rfl⟩ := zz_ix (by omega) c1 c9
      refine zz_aload_n0 (pc := 15) F dX0_poke_15 ?_
      refine zx_get_stage (pc := 16) F dX0_poke_16 ?_
      refine zz_iload_n1 (pc := 19) F dX0_poke_19 ?_
      refine zx_ald_stage (pc := 20) F dX0_poke_20 (by omega) ?_
      refine zz_istore_n3 (pc := 21) F dX0_poke_21 (by decide) ?_
      refine zz_aload_n0 (pc := 22) F dX0_poke_22 ?_
      refine zx_get_stage (pc := 23) F dX0_poke_23 ?_
      refine zz_iload_n1 (pc := 26) F dX0_poke_26 ?_
      refine zz_iload_n2 (pc := 27) F dX0_poke_27 ?_
      refine zz_sipush_255 (pc := 28) F dX0_poke_28 ?_
      refine zz_and255 (pc := 31) F dX0_poke_31 ?_
      refine zx_ast_stage (pc := 32) F dX0_poke_32 (by omega) ?_
      refine zz_iload_n3 (pc := 33) F dX0_poke_33 ?_
      exact hR _ _ _ _ dX0_poke_34 (vp_nar_int _) ⟨_, Or.inl ⟨j, hj, rfl, by rw [(hst j hj).1], rfl⟩, LX_of ⟨⟨rfl, by omega, st_up hst (by8_lt _)⟩, hJ⟩⟩
    · refine zz_bipush_m5 (pc := 12) F dX0_poke_12 ?_
      exact hR _ _ _ _ dX0_poke_14 (vp_nar_int _) ⟨_, Or.inr ⟨by first | exact Or.inl c1 | exact Or.inr (zz_nlt c9), rfl, rfl⟩, LX_of ⟨hI1, hJ⟩⟩
set_option maxHeartbeats 4000000 in
theorem m_stageByte (l : Launch) (D : va_G) (g : ZG) (sd pl : Nat) (sta sav pas par rfs siz bas cel pay pri fa fb fre ou un pro ch : Nat → Nat) (x : Int32) (msz : Nat) (mst msv mss mby : Nat → Nat) (C : Nat → Nat → Nat) (hI : sd_I sd sta sav pas par rfs siz bas cel pay msz mst msv mss mby C) : zz_Mi l D g (wX g) yX0_stageByte cX0_stageByte 2 0 0 .int (sd, sta, sav, pas, par, rfs, siz, bas, cel, pay, pri, fa, fb, fre, ou, un, pro, pl, ch) [.ref (g.1 0), .int x] (fun r s => ∃ m : MT, SP_stageByte msz mst msv mss mby x r m ∧ LX s m) := by
  refine zz_enter_i RX0 [some (.ref (g.1 0)), some (.int x)] 0 (by decide) rfl (by intro v hv; simp only [List.mem_cons, List.not_mem_nil, or_false] at hv; rcases hv with rfl | rfl <;> rfl) (Nat.le_of_ble_eq_true rfl) rfl ?_
  intro k hkl hkD F hR
  subst hkl hkD
  obtain ⟨hI1, hJ⟩ := hI
  have hsd := hI1.1
  subst hsd
  have h96 := hI1.2.1
  have hst := hI1.2.2
  refine zz_iload_n1 (pc := 0) F dX0_stageByte_0 ?_
  refine zz_if_ltG (pc := 1) 12 F dX0_stageByte_1 (by decide) (fun c1 => ?_) (fun c1 => ?_)
  · refine zz_bipush_m5 (pc := 12) F dX0_stageByte_12 ?_
    exact hR _ _ _ _ dX0_stageByte_14 (vp_nar_int _) ⟨_, ⟨rfl, Or.inr ⟨by first | exact Or.inl c1 | exact Or.inr (zz_nlt c9), rfl⟩⟩, LX_of ⟨hI1, hJ⟩⟩
  · refine zz_iload_n1 (pc := 4) F dX0_stageByte_4 ?_
    refine zz_aload_n0 (pc := 5) F dX0_stageByte_5 ?_
    refine zx_get_staged (pc := 6) F dX0_stageByte_6 ?_
    refine zz_icmp_ltG (pc := 9) 15 F dX0_stageByte_9 (by decide) (fun c9 => ?_) (fun c9 => ?_)
    · obtain ⟨j, hj, rfl⟩ := zz_ix (by omega) c1 c9
      refine zz_aload_n0 (pc := 15) F dX0_stageByte_15 ?_
      refine zx_get_stage (pc := 16) F dX0_stageByte_16 ?_
      refine zz_iload_n1 (pc := 19) F dX0_stageByte_19 ?_
      refine zx_ald_stage (pc := 20) F dX0_stageByte_20 (by omega) ?_
      exact hR _ _ _ _ dX0_stageByte_21 (vp_nar_int _) ⟨_, ⟨rfl, Or.inl ⟨j, hj, rfl, by rw [(hst j hj).1]⟩⟩, LX_of ⟨hI1, hJ⟩⟩
    · refine zz_bipush_m5 (pc := 12) F dX0_stageByte_12 ?_
      exact hR _ _ _ _ dX0_stageByte_14 (vp_nar_int _) ⟨_, ⟨rfl, Or.inr ⟨by first | exact Or.inl c1 | exact Or.inr (zz_nlt c9), rfl⟩⟩, LX_of ⟨hI1, hJ⟩⟩
set_option maxHeartbeats 4000000 in
theorem m_stageLength (l : Launch) (D : va_G) (g : ZG) (sd pl : Nat) (sta sav pas par rfs siz bas cel pay pri fa fb fre ou un pro ch : Nat → Nat) (msz : Nat) (mst msv mss mby : Nat → Nat) (C : Nat → Nat → Nat) (hI : sd_I sd sta sav pas par rfs siz bas cel pay msz mst msv mss mby C) : zz_Mi l D g (wX g) yX0_stageLength cX0_stageLength 1 0 0 .int (sd, sta, sav, pas, par, rfs, siz, bas, cel, pay, pri, fa, fb, fre, ou, un, pro, pl, ch) [.ref (g.1 0)] (fun r s => r = nI msz ∧ LX s (mst, msz, msv, mss, mby)) := by
  refine zz_enter_i RX0 [some (.ref (g.1 0))] 0 (by decide) rfl (by intro v hv; simp only [List.mem_cons, List.not_mem_nil, or_false] at hv; rcases hv with rfl <;> rfl) (Nat.le_of_ble_eq_true rfl) rfl ?_
  intro k hkl hkD F hR
  subst hkl hkD
  obtain ⟨hI1, hJ⟩ := hI
  have hsd := hI1.1
  subst hsd
  have h96 := hI1.2.1
  have hst := hI1.2.2
  refine zz_aload_n0 (pc := 0) F dX0_stageLength_0 ?_
  refine zx_get_staged (pc := 1) F dX0_stageLength_1 ?_
  exact hR _ _ _ _ dX0_stageLength_4 (vp_nar_int _) ⟨rfl, LX_of ⟨hI1, hJ⟩⟩
set_option maxHeartbeats 4000000 in
theorem m_insert (l : Launch) (D : va_G) (g : ZG) (sd pl : Nat) (sta sav pas par rfs siz bas cel pay pri fa fb fre ou un pro ch : Nat → Nat) (x b : Int32) (msz : Nat) (mst msv mss mby : Nat → Nat) (C : Nat → Nat → Nat) (hI : sd_I sd sta sav pas par rfs siz bas cel pay msz mst msv mss mby C) : zz_Mi l D g (wX g) yX0_insert cX0_insert 4 0 0 .int (sd, sta, sav, pas, par, rfs, siz, bas, cel, pay, pri, fa, fb, fre, ou, un, pro, pl, ch) [.ref (g.1 0), .int x, .int b] (fun r s => ∃ m : MT, SP_insert msz mst msv mss mby x b r m ∧ LX s m) := by
  refine zz_enter_i RX0 [some (.ref (g.1 0)), some (.int x), some (.int b), none] 1 (by decide) rfl (by intro v hv; simp only [List.mem_cons, List.not_mem_nil, or_false] at hv; rcases hv with rfl | rfl | rfl <;> rfl) (Nat.le_of_ble_eq_true rfl) rfl ?_
  intro k hkl hkD F hR
  subst hkl hkD
  obtain ⟨hI1, hJ⟩ := hI
  have hsd := hI1.1
  subst hsd
  have h96 := hI1.2.1
  have hst := hI1.2.2
  have loop : ∀ (j i : Nat), x = nI j → j ≤ sd → sd < 96 → j ≤ i → i ≤ sd → zz_W k (wX g (sd, sd_sh sta sd i, sav, pas, par, rfs, siz, bas, cel, pay, pri, fa, fb, fre, ou, un, pro, pl, ch)) 31 [some (.ref (g.1 0)), some (.int (nI (j))), some (.int (b)), some (.int (nI (i)))] [] := by
    intro j i
    induction i with
    | zero =>
      intro ex hj h96 hji hi
      refine zz_iload_n3 (pc := 31) F dX0_insert_31 ?_
      refine zz_iload_n1 (pc := 32) F dX0_insert_32 ?_
      refine zz_icmp_le (pc := 33) 56 F dX0_insert_33 (by decide) (by omega) (by omega) (fun c33 => ?_) (fun c33 => ?_)
      · have e : j = 0 := by omega
        subst e
        refine zz_aload_n0 (pc := 56) F dX0_insert_56 ?_
        refine zx_get_stage (pc := 57) F dX0_insert_57 ?_
        refine zz_iload_n1 (pc := 60) F dX0_insert_60 ?_
        refine zz_iload_n2 (pc := 61) F dX0_insert_61 ?_
        refine zz_sipush_255 (pc := 62) F dX0_insert_62 ?_
        refine zz_and255 (pc := 65) F dX0_insert_65 ?_
        refine zx_ast_stage (pc := 66) F dX0_insert_66 (by omega) ?_
        refine zz_aload_n0 (pc := 67) F dX0_insert_67 ?_
        refine zz_dup (pc := 68) F dX0_insert_68 rfl ?_
        refine zx_get_staged (pc := 69) F dX0_insert_69 ?_
        refine zz_iconst_1 (pc := 72) F dX0_insert_72 ?_
        refine zz_iadd (pc := 73) F dX0_insert_73 ?_
        refine zx_put_staged (pc := 74) F dX0_insert_74 ?_
        refine zz_aload_n0 (pc := 77) F dX0_insert_77 ?_
        refine zx_get_staged (pc := 78) F dX0_insert_78 ?_
        exact hR _ _ _ _ dX0_insert_81 (vp_nar_int _) ⟨_, Or.inl ⟨_, hj, ex, h96, rfl, rfl⟩, LX_of ⟨⟨rfl, by omega, by rw [sh_ins]; exact st_ins hst (by8_lt _) hj⟩, hJ⟩⟩
      · exfalso; omega
    | succ i ih =>
      intro ex hj h96 hji hi
      refine zz_iload_n3 (pc := 31) F dX0_insert_31 ?_
      refine zz_iload_n1 (pc := 32) F dX0_insert_32 ?_
      refine zz_icmp_le (pc := 33) 56 F dX0_insert_33 (by decide) (by omega) (by omega) (fun c33 => ?_) (fun c33 => ?_)
      · have e : j = i + 1 := by omega
        subst e
        refine zz_aload_n0 (pc := 56) F dX0_insert_56 ?_
        refine zx_get_stage (pc := 57) F dX0_insert_57 ?_
        refine zz_iload_n1 (pc := 60) F dX0_insert_60 ?_
        refine zz_iload_n2 (pc := 61) F dX0_insert_61 ?_
        refine zz_sipush_255 (pc := 62) F dX0_insert_62 ?_
        refine zz_and255 (pc := 65) F dX0_insert_65 ?_
        refine zx_ast_stage (pc := 66) F dX0_insert_66 (by omega) ?_
        refine zz_aload_n0 (pc := 67) F dX0_insert_67 ?_
        refine zz_dup (pc := 68) F dX0_insert_68 rfl ?_
        refine zx_get_staged (pc := 69) F dX0_insert_69 ?_
        refine zz_iconst_1 (pc := 72) F dX0_insert_72 ?_
        refine zz_iadd (pc := 73) F dX0_insert_73 ?_
        refine zx_put_staged (pc := 74) F dX0_insert_74 ?_
        refine zz_aload_n0 (pc := 77) F dX0_insert_77 ?_
        refine zx_get_staged (pc := 78) F dX0_insert_78 ?_
        exact hR _ _ _ _ dX0_insert_81 (vp_nar_int _) ⟨_, Or.inl ⟨_, hj, ex, h96, rfl, rfl⟩, LX_of ⟨⟨rfl, by omega, by rw [sh_ins]; exact st_ins hst (by8_lt _) hj⟩, hJ⟩⟩
      · refine zz_aload_n0 (pc := 36) F dX0_insert_36 ?_
        refine zx_get_stage (pc := 37) F dX0_insert_37 ?_
        refine zz_iload_n3 (pc := 40) F dX0_insert_40 ?_
        refine zz_aload_n0 (pc := 41) F dX0_insert_41 ?_
        refine zx_get_stage (pc := 42) F dX0_insert_42 ?_
        refine zz_iload_n3 (pc := 45) F dX0_insert_45 ?_
        refine zz_iconst_1 (pc := 46) F dX0_insert_46 ?_
        refine zz_isub (pc := 47) F dX0_insert_47 (by omega) ?_
        rw [Nat.add_sub_cancel]
        refine zx_ald_stage (pc := 48) F dX0_insert_48 (by omega) ?_
        refine zx_ast_stage (pc := 49) F dX0_insert_49 (by omega) ?_
        refine zz_idec3 (pc := 50) F dX0_insert_50 (by decide) ?_
        refine zz_goto (pc := 53) 31 F dX0_insert_53 (by decide) ?_
        rw [sh_step (by omega)]
        exact ih ex hj h96 (by omega) (by omega)
  refine zz_iload_n1 (pc := 0) F dX0_insert_0 ?_
  refine zz_if_ltG (pc := 1) 12 F dX0_insert_1 (by decide) (fun c1 => ?_) (fun c1 => ?_)
  · refine zz_bipush_m5 (pc := 12) F dX0_insert_12 ?_
    exact hR _ _ _ _ dX0_insert_14 (vp_nar_int _) ⟨_, Or.inr ⟨rfl, Or.inr ⟨by first | exact Or.inl c1 | exact Or.inr (zz_nle (by omega) c9), rfl⟩⟩, LX_of ⟨hI1, hJ⟩⟩
  · refine zz_iload_n1 (pc := 4) F dX0_insert_4 ?_
    refine zz_aload_n0 (pc := 5) F dX0_insert_5 ?_
    refine zx_get_staged (pc := 6) F dX0_insert_6 ?_
    refine zz_icmp_leG (pc := 9) 15 F dX0_insert_9 (by decide) (fun c9 => ?_) (fun c9 => ?_)
    · obtain ⟨j, hj, rfl⟩ := zz_ixl (by omega) c1 c9
      refine zz_aload_n0 (pc := 15) F dX0_insert_15 ?_
      refine zx_get_staged (pc := 16) F dX0_insert_16 ?_
      refine zz_bipush_96 (pc := 19) F dX0_insert_19 ?_
      refine zz_icmp_lt (pc := 21) 26 F dX0_insert_21 (by decide) (by omega) (by omega) (fun c21 => ?_) (fun c21 => ?_)
      · refine zz_aload_n0 (pc := 26) F dX0_insert_26 ?_
        refine zx_get_staged (pc := 27) F dX0_insert_27 ?_
        refine zz_istore_n3 (pc := 30) F dX0_insert_30 (by decide) ?_
        have h := loop j sd rfl hj c21 hj (by omega)
        rw [sh_0] at h
        exact h
      · refine zz_iconst_m1 (pc := 24) F dX0_insert_24 ?_
        exact hR _ _ _ _ dX0_insert_25 (vp_nar_int _) ⟨_, Or.inr ⟨rfl, Or.inl ⟨j, hj, rfl, c21, rfl⟩⟩, LX_of ⟨hI1, hJ⟩⟩
    · refine zz_bipush_m5 (pc := 12) F dX0_insert_12 ?_
      exact hR _ _ _ _ dX0_insert_14 (vp_nar_int _) ⟨_, Or.inr ⟨rfl, Or.inr ⟨by first | exact Or.inl c1 | exact Or.inr (zz_nle (by omega) c9), rfl⟩⟩, LX_of ⟨hI1, hJ⟩⟩
set_option maxHeartbeats 4000000 in
theorem m_cut (l : Launch) (D : va_G) (g : ZG) (sd pl : Nat) (sta sav pas par rfs siz bas cel pay pri fa fb fre ou un pro ch : Nat → Nat) (x n : Int32) (msz : Nat) (mst msv mss mby : Nat → Nat) (C : Nat → Nat → Nat) (hI : sd_I sd sta sav pas par rfs siz bas cel pay msz mst msv mss mby C) : zz_Mi l D g (wX g) yX0_cut cX0_cut 4 0 0 .int (sd, sta, sav, pas, par, rfs, siz, bas, cel, pay, pri, fa, fb, fre, ou, un, pro, pl, ch) [.ref (g.1 0), .int x, .int n] (fun r s => ∃ m : MT, SP_cut msz mst msv mss mby x n r m ∧ LX s m) := by
  refine zz_enter_i RX0 [some (.ref (g.1 0)), some (.int x), some (.int n), none] 1 (by decide) rfl (by intro v hv; simp only [List.mem_cons, List.not_mem_nil, or_false] at hv; rcases hv with rfl | rfl | rfl <;> rfl) (Nat.le_of_ble_eq_true rfl) rfl ?_
  intro k hkl hkD F hR
  subst hkl hkD
  obtain ⟨hI1, hJ⟩ := hI
  have hsd := hI1.1
  subst hsd
  have h96 := hI1.2.1
  have hst := hI1.2.2
  have loop : ∀ (n2 j c i : Nat), x = nI j → n = nI c → j + c ≤ sd → j + i + c ≤ sd → sd < j + i + c + n2 → zz_W k (wX g (sd, va_cpy sta sta (j + c) j i, sav, pas, par, rfs, siz, bas, cel, pay, pri, fa, fb, fre, ou, un, pro, pl, ch)) 31 [some (.ref (g.1 0)), some (.int (nI (j))), some (.int (nI (c))), some (.int (nI (j + i)))] [] := by
    intro n2
    induction n2 with
    | zero => intro j c i h1 h2 h3 h4 h5; exfalso; omega
    | succ n2 ih =>
      intro j c i ex en hjc hi hm
      refine zz_iload_n3 (pc := 31) F dX0_cut_31 ?_
      refine zz_aload_n0 (pc := 32) F dX0_cut_32 ?_
      refine zx_get_staged (pc := 33) F dX0_cut_33 ?_
      refine zz_iload_n2 (pc := 36) F dX0_cut_36 ?_
      refine zz_isub (pc := 37) F dX0_cut_37 (by omega) ?_
      refine zz_icmp_ge (pc := 38) 61 F dX0_cut_38 (by decide) (by omega) (by omega) (fun c38 => ?_) (fun c38 => ?_)
      · refine zz_aload_n0 (pc := 61) F dX0_cut_61 ?_
        refine zz_dup (pc := 62) F dX0_cut_62 rfl ?_
        refine zx_get_staged (pc := 63) F dX0_cut_63 ?_
        refine zz_iload_n2 (pc := 66) F dX0_cut_66 ?_
        refine zz_isub (pc := 67) F dX0_cut_67 (by omega) ?_
        refine zx_put_staged (pc := 68) F dX0_cut_68 ?_
        refine zz_aload_n0 (pc := 71) F dX0_cut_71 ?_
        refine zx_get_staged (pc := 72) F dX0_cut_72 ?_
        exact hR _ _ _ _ dX0_cut_75 (vp_nar_int _) ⟨_, Or.inl ⟨j, c, hjc, ex, en, rfl, rfl⟩, LX_of ⟨⟨rfl, by omega, by rw [show i = sd - c - j by omega]; exact st_cut hst (by omega)⟩, hJ⟩⟩
      · refine zz_aload_n0 (pc := 41) F dX0_cut_41 ?_
        refine zx_get_stage (pc := 42) F dX0_cut_42 ?_
        refine zz_iload_n3 (pc := 45) F dX0_cut_45 ?_
        refine zz_aload_n0 (pc := 46) F dX0_cut_46 ?_
        refine zx_get_stage (pc := 47) F dX0_cut_47 ?_
        refine zz_iload_n3 (pc := 50) F dX0_cut_50 ?_
        refine zz_iload_n2 (pc := 51) F dX0_cut_51 ?_
        refine zz_iadd (pc := 52) F dX0_cut_52 ?_
        refine zx_ald_stage (pc := 53) F dX0_cut_53 (by omega) ?_
        rw [cpy_out (show j + i + c < j ∨ j + i ≤ j + i + c from Or.inr (by omega)), show j + i + c = j + c + i by omega]
        refine zx_ast_stage (pc := 54) F dX0_cut_54 (by omega) ?_
        refine zz_iinc3 (pc := 55) F dX0_cut_55 (by decide) ?_
        refine zz_goto (pc := 58) 31 F dX0_cut_58 (by decide) ?_
        rw [cpy_step]
        exact ih j c (i + 1) ex en hjc (by omega) (by omega)
  refine zz_iload_n1 (pc := 0) F dX0_cut_0 ?_
  refine zz_if_ltG (pc := 1) 26 F dX0_cut_1 (by decide) (fun c1 => ?_) (fun c1 => ?_)
  · refine zz_bipush_m5 (pc := 26) F dX0_cut_26 ?_
    exact hR _ _ _ _ dX0_cut_28 (vp_nar_int _) ⟨_, Or.inr ⟨by first | exact fit_neg1 h96 c1 | exact fit_neg2 h96 c5 | exact fit_big1 h96 c13 | exact fit_big2 h96 hj c23, rfl, rfl⟩, LX_of ⟨hI1, hJ⟩⟩
  · refine zz_iload_n2 (pc := 4) F dX0_cut_4 ?_
    refine zz_if_ltG (pc := 5) 26 F dX0_cut_5 (by decide) (fun c5 => ?_) (fun c5 => ?_)
    · refine zz_bipush_m5 (pc := 26) F dX0_cut_26 ?_
      exact hR _ _ _ _ dX0_cut_28 (vp_nar_int _) ⟨_, Or.inr ⟨by first | exact fit_neg1 h96 c1 | exact fit_neg2 h96 c5 | exact fit_big1 h96 c13 | exact fit_big2 h96 hj c23, rfl, rfl⟩, LX_of ⟨hI1, hJ⟩⟩
    · refine zz_iload_n1 (pc := 8) F dX0_cut_8 ?_
      refine zz_aload_n0 (pc := 9) F dX0_cut_9 ?_
      refine zx_get_staged (pc := 10) F dX0_cut_10 ?_
      refine zz_icmp_gtG (pc := 13) 26 F dX0_cut_13 (by decide) (fun c13 => ?_) (fun c13 => ?_)
      · refine zz_bipush_m5 (pc := 26) F dX0_cut_26 ?_
        exact hR _ _ _ _ dX0_cut_28 (vp_nar_int _) ⟨_, Or.inr ⟨by first | exact fit_neg1 h96 c1 | exact fit_neg2 h96 c5 | exact fit_big1 h96 c13 | exact fit_big2 h96 hj c23, rfl, rfl⟩, LX_of ⟨hI1, hJ⟩⟩
      · obtain ⟨j, hj, rfl⟩ := zz_ixl (by omega) c1 (Int32.not_lt.mp c13)
        refine zz_iload_n2 (pc := 16) F dX0_cut_16 ?_
        refine zz_aload_n0 (pc := 17) F dX0_cut_17 ?_
        refine zx_get_staged (pc := 18) F dX0_cut_18 ?_
        refine zz_iload_n1 (pc := 21) F dX0_cut_21 ?_
        refine zz_isub (pc := 22) F dX0_cut_22 (by omega) ?_
        refine zz_icmp_leG (pc := 23) 29 F dX0_cut_23 (by decide) (fun c23 => ?_) (fun c23 => ?_)
        · obtain ⟨c, hc, rfl⟩ := zz_ixl (by omega) c5 c23
          refine zz_iload_n1 (pc := 29) F dX0_cut_29 ?_
          refine zz_istore_n3 (pc := 30) F dX0_cut_30 (by decide) ?_
          have h := loop (sd + 1) j c 0 rfl rfl (by omega) (by omega) (by omega)
          rw [cpy_0] at h
          exact h
        · refine zz_bipush_m5 (pc := 26) F dX0_cut_26 ?_
          exact hR _ _ _ _ dX0_cut_28 (vp_nar_int _) ⟨_, Or.inr ⟨by first | exact fit_neg1 h96 c1 | exact fit_neg2 h96 c5 | exact fit_big1 h96 c13 | exact fit_big2 h96 hj c23, rfl, rfl⟩, LX_of ⟨hI1, hJ⟩⟩
set_option maxHeartbeats 4000000 in
theorem m_feedFrom (l : Launch) (D : va_G) (g : ZG) (sd pl : Nat) (sta sav pas par rfs siz bas cel pay pri fa fb fre ou un pro ch : Nat → Nat) (x f n : Int32) (msz : Nat) (mst msv mss mby : Nat → Nat) (C : Nat → Nat → Nat) (hI : sd_I sd sta sav pas par rfs siz bas cel pay msz mst msv mss mby C) : zz_Mi l D g (wX g) yX0_feedFrom cX0_feedFrom 7 4 98 .int (sd, sta, sav, pas, par, rfs, siz, bas, cel, pay, pri, fa, fb, fre, ou, un, pro, pl, ch) [.ref (g.1 0), .int x, .int f, .int n] (fun r s => ∃ m : MT, SP_feedFrom msz mst msv mss mby x f n r m ∧ LX s m) := by
  refine zz_enter_i RX0 [some (.ref (g.1 0)), some (.int x), some (.int f), some (.int n), none, none, none] 3 (by decide) rfl (by intro v hv; simp only [List.mem_cons, List.not_mem_nil, or_false] at hv; rcases hv with rfl | rfl | rfl | rfl <;> rfl) (Nat.le_of_ble_eq_true rfl) rfl ?_
  intro k hkl hkD F hR
  subst hkl hkD
  obtain ⟨hI1, hJ⟩ := hI
  have hsd := hI1.1
  subst hsd
  have h96 := hI1.2.1
  have hst := hI1.2.2
  have loop : ∀ (n2 s j c i : Nat) (ou2 un2 ch2 : Nat → Nat) (y6 : Option Value), s < 6 → 0 < sav s → 0 < msv s → j + c ≤ mss s → mss s ≤ 96 → c ≤ 96 - sd → x = nI s → f = nI j → n = nI c → i ≤ c → c < i + n2 → zz_W k (wX g (sd + i, va_cpy mby sta (s * 96 + j) sd i, sav, pas, par, rfs, siz, bas, cel, pay, pri, fa, fb, fre, ou2, un2, pro, pl, ch2)) 56 [some (.ref (g.1 0)), some (.int (nI (s))), some (.int (nI (j))), some (.int (nI (c))), some (.int (nI (mss s))), some (.int (nI (i))), y6] [] := by
    intro n2
    induction n2 with
    | zero => intro s j c i ou2 un2 ch2 y6 h1 h2 h3 h4 h5 h6 h7 h8 h9 h10 h11; exfalso; omega
    | succ n2 ih =>
      intro s j c i ou2 un2 ch2 y6 hs6 hs0 h0 hjc hm96 hc ex ef en hi hm
      refine zz_iload5 (pc := 56) F dX0_feedFrom_56 ?_
      refine zz_iload_n3 (pc := 58) F dX0_feedFrom_58 ?_
      refine zz_icmp_ge (pc := 59) 86 F dX0_feedFrom_59 (by decide) (by omega) (by omega) (fun c59 => ?_) (fun c59 => ?_)
      · have e : i = c := by omega
        subst e
        refine zz_aload_n0 (pc := 86) F dX0_feedFrom_86 ?_
        refine zx_get_staged (pc := 87) F dX0_feedFrom_87 ?_
        exact hR _ _ _ _ dX0_feedFrom_90 (vp_nar_int _) ⟨_, Or.inr ⟨s, j, i, hs6, ex, h0, hjc, ef, en, hc, rfl, rfl⟩, LX_of ⟨⟨rfl, by omega, st_cpy hst (fun q hq => by rw [show s * 96 + j + q = s * 96 + (j + q) by omega]; exact J_byte hJ hs6 hs0 (by omega))⟩, hJ⟩⟩
      · have hbb : mby (s * 96 + j + i) < 256 := by
          rw [show s * 96 + j + i = s * 96 + (j + i) by omega]
          exact J_byte hJ hs6 hs0 (by omega)
        refine zz_aload_n0 (pc := 62) F dX0_feedFrom_62 ?_
        refine zz_iload_n1 (pc := 63) F dX0_feedFrom_63 ?_
        refine zz_iload_n2 (pc := 64) F dX0_feedFrom_64 ?_
        refine zz_iload5 (pc := 65) F dX0_feedFrom_65 ?_
        refine zz_iadd (pc := 67) F dX0_feedFrom_67 ?_
        refine zx_call_restored (pc := 68) F dX0_feedFrom_68 (m_restored _ _ _ _ _ _ _ _ _ _ _ _ _ _ _ _ _ _ _ _ _ _ s (j + i) _ _ _ C hJ hs6 hs0 (by omega)) (by decide) (Nat.le_of_ble_eq_true rfl) (fun r68 s68 h68 => ?_)
        obtain ⟨ou3, un3, ch3, rfl, rfl⟩ := h68
        rw [show s * 96 + (j + i) = s * 96 + j + i by omega]
        refine zz_istore6 (pc := 71) F dX0_feedFrom_71 (by decide) ?_
        refine zz_aload_n0 (pc := 73) F dX0_feedFrom_73 ?_
        refine zz_iload6 (pc := 74) F dX0_feedFrom_74 ?_
        refine zx_call_feed (pc := 76) F dX0_feedFrom_76 (m_feed _ _ _ _ _ _ _ _ _ _ _ _ _ _ _ _ _ _ _ _ _ _ _ (by omega)) (by decide) (Nat.le_of_ble_eq_true rfl) (fun r76 s76 h76 => ?_)
        obtain ⟨q1, rfl, rfl⟩ | ⟨q1, -, -⟩ := h76
        rotate_left
        · exfalso; omega
        refine zz_pop (pc := 79) F dX0_feedFrom_79 rfl ?_
        refine zz_iinc5 (pc := 80) F dX0_feedFrom_80 (by decide) ?_
        refine zz_goto (pc := 83) 56 F dX0_feedFrom_83 (by decide) ?_
        rw [by8_nI hbb, cpy_step]
        exact ih s j c (i + 1) _ _ _ _ hs6 hs0 h0 hjc hm96 hc ex ef en (by omega) (by omega)
  refine zz_aload_n0 (pc := 0) F dX0_feedFrom_0 ?_
  refine zz_iload_n1 (pc := 1) F dX0_feedFrom_1 ?_
  refine zx_call_length (pc := 2) F dX0_feedFrom_2 (m_length _ _ _ _ _ _ _ _ _ _ _ _ _ _ _ _ _ _ _ _ _ _ _ _ _ _ C hJ) (by decide) (Nat.le_of_ble_eq_true rfl) (fun r2 s2 h2 => ?_)
  obtain ⟨rfl, ⟨hb, rfl⟩ | ⟨s, hs6, rfl, h0, rfl⟩ | ⟨s, hs6, rfl, h0, rfl⟩⟩ := h2
  · refine zz_istore4 (pc := 5) F dX0_feedFrom_5 (by decide) ?_
    refine zz_iload4 (pc := 7) F dX0_feedFrom_7 ?_
    refine zz_if_geG (pc := 9) 15 F dX0_feedFrom_9 (by decide) (fun c9 => ?_) (fun c9 => ?_)
    · exact absurd c9 (by decide)
    · refine zz_iload4 (pc := 12) F dX0_feedFrom_12 ?_
      exact hR _ _ _ _ dX0_feedFrom_14 (vp_nar_int _) ⟨_, Or.inl ⟨rfl, Or.inl ⟨hb, rfl⟩⟩, LX_of ⟨hI1, hJ⟩⟩
  · refine zz_istore4 (pc := 5) F dX0_feedFrom_5 (by decide) ?_
    refine zz_iload4 (pc := 7) F dX0_feedFrom_7 ?_
    refine zz_if_geG (pc := 9) 15 F dX0_feedFrom_9 (by decide) (fun c9 => ?_) (fun c9 => ?_)
    · exact absurd c9 (by decide)
    · refine zz_iload4 (pc := 12) F dX0_feedFrom_12 ?_
      exact hR _ _ _ _ dX0_feedFrom_14 (vp_nar_int _) ⟨_, Or.inl ⟨rfl, Or.inr (Or.inl ⟨s, hs6, rfl, h0, rfl⟩)⟩, LX_of ⟨hI1, hJ⟩⟩
  · have hv1 := (hJ.1 s hs6).1
    have hs0 : 0 < sav s := by rw [hv1]; exact h0
    have hm96 := (hJ.2.2.2 s hs6 hs0).2.2.2.1
    refine zz_istore4 (pc := 5) F dX0_feedFrom_5 (by decide) ?_
    refine zz_iload4 (pc := 7) F dX0_feedFrom_7 ?_
    refine zz_if_ge (pc := 9) 15 F dX0_feedFrom_9 (by decide) (by omega) ?_
    refine zz_iload_n2 (pc := 15) F dX0_feedFrom_15 ?_
    refine zz_if_ltG (pc := 16) 37 F dX0_feedFrom_16 (by decide) (fun c16 => ?_) (fun c16 => ?_)
    · refine zz_bipush_m5 (pc := 37) F dX0_feedFrom_37 ?_
      exact hR _ _ _ _ dX0_feedFrom_39 (vp_nar_int _) ⟨_, Or.inl ⟨rfl, Or.inr (Or.inr ⟨s, hs6, rfl, h0, Or.inl ⟨by first | exact fit_neg1 hm96 c16 | exact fit_neg2 hm96 c20 | exact fit_big1 hm96 c26 | exact fit_big2 hm96 hj c34, rfl⟩⟩)⟩, LX_of ⟨hI1, hJ⟩⟩
    · refine zz_iload_n3 (pc := 19) F dX0_feedFrom_19 ?_
      refine zz_if_ltG (pc := 20) 37 F dX0_feedFrom_20 (by decide) (fun c20 => ?_) (fun c20 => ?_)
      · refine zz_bipush_m5 (pc := 37) F dX0_feedFrom_37 ?_
        exact hR _ _ _ _ dX0_feedFrom_39 (vp_nar_int _) ⟨_, Or.inl ⟨rfl, Or.inr (Or.inr ⟨s, hs6, rfl, h0, Or.inl ⟨by first | exact fit_neg1 hm96 c16 | exact fit_neg2 hm96 c20 | exact fit_big1 hm96 c26 | exact fit_big2 hm96 hj c34, rfl⟩⟩)⟩, LX_of ⟨hI1, hJ⟩⟩
      · refine zz_iload_n2 (pc := 23) F dX0_feedFrom_23 ?_
        refine zz_iload4 (pc := 24) F dX0_feedFrom_24 ?_
        refine zz_icmp_gtG (pc := 26) 37 F dX0_feedFrom_26 (by decide) (fun c26 => ?_) (fun c26 => ?_)
        · refine zz_bipush_m5 (pc := 37) F dX0_feedFrom_37 ?_
          exact hR _ _ _ _ dX0_feedFrom_39 (vp_nar_int _) ⟨_, Or.inl ⟨rfl, Or.inr (Or.inr ⟨s, hs6, rfl, h0, Or.inl ⟨by first | exact fit_neg1 hm96 c16 | exact fit_neg2 hm96 c20 | exact fit_big1 hm96 c26 | exact fit_big2 hm96 hj c34, rfl⟩⟩)⟩, LX_of ⟨hI1, hJ⟩⟩
        · obtain ⟨j, hj, rfl⟩ := zz_ixl (by omega) c16 (Int32.not_lt.mp c26)
          refine zz_iload_n3 (pc := 29) F dX0_feedFrom_29 ?_
          refine zz_iload4 (pc := 30) F dX0_feedFrom_30 ?_
          refine zz_iload_n2 (pc := 32) F dX0_feedFrom_32 ?_
          refine zz_isub (pc := 33) F dX0_feedFrom_33 (by omega) ?_
          refine zz_icmp_leG (pc := 34) 40 F dX0_feedFrom_34 (by decide) (fun c34 => ?_) (fun c34 => ?_)
          · obtain ⟨c, hc, rfl⟩ := zz_ixl (by omega) c20 c34
            refine zz_iload_n3 (pc := 40) F dX0_feedFrom_40 ?_
            refine zz_bipush_96 (pc := 41) F dX0_feedFrom_41 ?_
            refine zz_aload_n0 (pc := 43) F dX0_feedFrom_43 ?_
            refine zx_get_staged (pc := 44) F dX0_feedFrom_44 ?_
            refine zz_isub (pc := 47) F dX0_feedFrom_47 (by omega) ?_
            refine zz_icmp_le (pc := 48) 53 F dX0_feedFrom_48 (by decide) (by omega) (by omega) (fun c48 => ?_) (fun c48 => ?_)
            · refine zz_iconst_0 (pc := 53) F dX0_feedFrom_53 ?_
              refine zz_istore5 (pc := 54) F dX0_feedFrom_54 (by decide) ?_
              have h := loop (c + 1) s j c 0 ou un ch none hs6 hs0 h0 (by omega) hm96 (by omega) rfl rfl rfl (by omega) (by omega)
              rw [cpy_0] at h
              exact h
            · refine zz_iconst_m1 (pc := 51) F dX0_feedFrom_51 ?_
              exact hR _ _ _ _ dX0_feedFrom_52 (vp_nar_int _) ⟨_, Or.inl ⟨rfl, Or.inr (Or.inr ⟨s, hs6, rfl, h0, Or.inr ⟨j, c, by omega, rfl, rfl, c48, rfl⟩⟩)⟩, LX_of ⟨hI1, hJ⟩⟩
          · refine zz_bipush_m5 (pc := 37) F dX0_feedFrom_37 ?_
            exact hR _ _ _ _ dX0_feedFrom_39 (vp_nar_int _) ⟨_, Or.inl ⟨rfl, Or.inr (Or.inr ⟨s, hs6, rfl, h0, Or.inl ⟨by first | exact fit_neg1 hm96 c16 | exact fit_neg2 hm96 c20 | exact fit_big1 hm96 c26 | exact fit_big2 hm96 hj c34, rfl⟩⟩)⟩, LX_of ⟨hI1, hJ⟩⟩
end
section
set_option maxRecDepth 100000
theorem J_free {sav pas par rfs siz bas cel pay msv mss mby : Nat → Nat} {C : Nat → Nat → Nat} {s c : Nat} (hJ : sd_J sav (va_up pas s c) par rfs siz bas cel pay msv mss mby C) (hs : s < 6) (hc : c < 16) : ∃ y, y < 96 ∧ rfs y = 0 := by
  have h0 : sd_w sav (va_up pas s c) par (s * 16 + c) = 0 := by
    unfold sd_w
    rw [show (s * 16 + c) / 16 = s by omega, show (s * 16 + c) % 16 = c by omega, va_up_self, if_neg (by omega)]
  obtain ⟨y, hy, h⟩ := ct_free (q := s * 16 + c) (by omega) h0
  exact ⟨y, hy, by rw [hJ.2.2.1 y hy]; exact h⟩
set_option maxHeartbeats 4000000 in
theorem m_save (l : Launch) (D : va_G) (g : ZG) (sd pl : Nat) (sta sav pas par rfs siz bas cel pay pri fa fb fre ou un pro ch : Nat → Nat) (x : Int32) (msz : Nat) (mst msv mss mby : Nat → Nat) (C : Nat → Nat → Nat) (hI : sd_I sd sta sav pas par rfs siz bas cel pay msz mst msv mss mby C) : zz_Mi l D g (wX g) yX0_save cX0_save 5 5 125 .int (sd, sta, sav, pas, par, rfs, siz, bas, cel, pay, pri, fa, fb, fre, ou, un, pro, pl, ch) [.ref (g.1 0), .int x] (fun r s => ∃ m : MT, SP_save msz mst msv mss mby x r m ∧ LX s m) := by
  refine zz_enter_i RX0 [some (.ref (g.1 0)), some (.int x), none, none, none] 3 (by decide) rfl (by intro v hv; simp only [List.mem_cons, List.not_mem_nil, or_false] at hv; rcases hv with rfl | rfl <;> rfl) (Nat.le_of_ble_eq_true rfl) rfl ?_
  intro k hkl hkD F hR
  subst hkl hkD
  obtain ⟨hI1, hJ⟩ := hI
  have hsd := hI1.1
  subst hsd
  have h96 := hI1.2.1
  have hst := hI1.2.2
  refine zz_iload_n1 (pc := 0) F dX0_save_0 ?_
  refine zx_call_badSlot (pc := 1) F dX0_save_1 (m_badSlot _ _ _ _ _ _ _ _ _ _ _ _ _ _ _ _ _ _ _ _ _ _ _) (by decide) (Nat.le_of_ble_eq_true rfl) (fun r1 s1 h1 => ?_)
  obtain ⟨rfl, ⟨hb, rfl⟩ | ⟨⟨s, hs6, rfl⟩, rfl⟩⟩ := h1
  · refine zz_if_eq (pc := 4) 10 F dX0_save_4 (by decide) (by decide) (fun c4 => ?_) (fun c4 => ?_)
    · exact absurd c4 (by decide)
    · refine zz_bipush_m2 (pc := 7) F dX0_save_7 ?_
      exact hR _ _ _ _ dX0_save_9 (vp_nar_int _) ⟨_, Or.inl ⟨rfl, Or.inl ⟨hb, rfl⟩⟩, LX_of ⟨hI1, hJ⟩⟩
  · have hv1 := (hJ.1 s hs6).1
    have hv2 := (hJ.1 s hs6).2
    refine zz_if_eq (pc := 4) 10 F dX0_save_4 (by decide) (by decide) (fun c4 => ?_) (fun c4 => ?_)
    · refine zz_aload_n0 (pc := 10) F dX0_save_10 ?_
      refine zx_get_saved (pc := 11) F dX0_save_11 ?_
      refine zz_iload_n1 (pc := 14) F dX0_save_14 ?_
      refine zx_ald_saved (pc := 15) F dX0_save_15 (by omega) ?_
      refine zz_if_eq (pc := 16) 22 F dX0_save_16 (by decide) (by omega) (fun c16 => ?_) (fun c16 => ?_)
      · have h0 : msv s = 0 := by rw [← hv1]; exact c16
        have loop : ∀ (n2 i a c : Nat) (y4 : Option Value) (rfs2 siz2 bas2 cel2 pay2 pri2 fa2 fb2 fre2 ou2 un2 pro2 ch2 par2 : Nat → Nat) (pl2 : Nat) (C2 : Nat → Nat → Nat), i ≤ sd → sd < i + n2 → a ≤ i → c ≤ 16 → (i < sd → 6 * c ≤ a ∧ i < a + 16) → (i = sd → a = sd) → sd_J (va_up sav s 1) (va_up pas s c) par2 rfs2 siz2 bas2 cel2 pay2 (va_up msv s 1) (va_up mss s a) (va_cpy mst mby 0 (s * 96) a) C2 → zz_W k (wX g (sd, sta, va_up sav s 1, va_up pas s c, par2, rfs2, siz2, bas2, cel2, pay2, pri2, fa2, fb2, fre2, ou2, un2, pro2, pl2, ch2)) 40 [some (.ref (g.1 0)), some (.int (nI (s))), some (.int (nI (a))), some (.int (nI (i))), y4] [] := by
          intro n2
          induction n2 with
          | zero => intro i a c y4 rfs2 siz2 bas2 cel2 pay2 pri2 fa2 fb2 fre2 ou2 un2 pro2 ch2 par2 pl2 C2 h1 h2; exfalso; omega
          | succ n2 ih =>
            intro i a c y4 rfs2 siz2 bas2 cel2 pay2 pri2 fa2 fb2 fre2 ou2 un2 pro2 ch2 par2 pl2 C2 hi hm hai hc hk hend hJ2
            refine zz_iload_n3 (pc := 40) F dX0_save_40 ?_
            refine zz_aload_n0 (pc := 41) F dX0_save_41 ?_
            refine zx_get_staged (pc := 42) F dX0_save_42 ?_
            refine zz_icmp_ge (pc := 45) 117 F dX0_save_45 (by decide) (by omega) (by omega) (fun c45 => ?_) (fun c45 => ?_)
            · have e : i = sd := by omega
              have ea := hend e
              rw [ea] at hJ2
              refine zz_aload_n0 (pc := 117) F dX0_save_117 ?_
              refine zx_get_staged (pc := 118) F dX0_save_118 ?_
              exact hR _ _ _ _ dX0_save_121 (vp_nar_int _) ⟨_, Or.inr ⟨s, hs6, rfl, h0, rfl, rfl⟩, LX_of ⟨hI1, hJ2⟩⟩
            · have emit : (i = sd - 1 ∨ 6 ≤ i + 1 - a) → i < sd → zz_W k (wX g (sd, sta, va_up sav s 1, va_up pas s c, par2, rfs2, siz2, bas2, cel2, pay2, pri2, fa2, fb2, fre2, ou2, un2, pro2, pl2, ch2)) 67 [some (.ref (g.1 0)), some (.int (nI (s))), some (.int (nI (a))), some (.int (nI (i))), y4] [] := by
                intro hlen hisd
                obtain ⟨h6c, hi16⟩ := hk hisd
                have hc16 : c < 16 := by omega
                refine zz_aload_n0 (pc := 67) F dX0_save_67 ?_
                refine zz_iload_n2 (pc := 68) F dX0_save_68 ?_
                refine zz_iload_n3 (pc := 69) F dX0_save_69 ?_
                refine zz_iconst_1 (pc := 70) F dX0_save_70 ?_
                refine zz_iadd (pc := 71) F dX0_save_71 ?_
                refine zz_iload_n2 (pc := 72) F dX0_save_72 ?_
                refine zz_isub (pc := 73) F dX0_save_73 (by omega) ?_
                refine zx_call_keepChunk (pc := 74) F dX0_save_74 (m_keepChunk _ _ _ _ _ _ _ _ _ _ _ _ _ _ _ _ _ _ _ _ _ _ a (i + 1 - a) C2 hJ2.2.1 (J_rfs hJ2) (J_free hJ2 hs6 hc16) (by omega) (by omega) (by omega) (fun q hq => (hst _ (by omega)).2)) (by decide) (Nat.le_of_ble_eq_true rfl) (fun r74 s74 h74 => ?_)
                obtain ⟨rfs3, siz3, bas3, cel3, pay3, pri3, fa3, fb3, fre3, ou3, un3, pro3, ch3, pl3, y, C3, rfl, rfl, hy, k1, k2, k3, k4, k5⟩ := h74
                have hJ3 := J_add hJ2 hs6 (by rw [va_up_self]; omega) hc16 (by omega) hy k1 k2 k3 (fun q hq => by rw [k4 q hq]; exact (hst _ (by omega)).1) k5
                rw [show a + (i + 1 - a) = i + 1 by omega] at hJ3
                refine zz_istore4 (pc := 77) F dX0_save_77 (by decide) ?_
                refine zz_aload_n0 (pc := 79) F dX0_save_79 ?_
                refine zx_get_part (pc := 80) F dX0_save_80 ?_
                refine zz_iload_n1 (pc := 83) F dX0_save_83 ?_
                refine zz_bipush_16 (pc := 84) F dX0_save_84 ?_
                refine zz_imul (pc := 86) F dX0_save_86 ?_
                refine zz_aload_n0 (pc := 87) F dX0_save_87 ?_
                refine zx_get_parts (pc := 88) F dX0_save_88 ?_
                refine zz_iload_n1 (pc := 91) F dX0_save_91 ?_
                refine zx_ald_parts (pc := 92) F dX0_save_92 (by omega) ?_
                rw [va_up_self]
                refine zz_iadd (pc := 93) F dX0_save_93 ?_
                refine zz_iload4 (pc := 94) F dX0_save_94 ?_
                refine zx_ast_part (pc := 96) F dX0_save_96 (by omega) ?_
                refine zz_aload_n0 (pc := 97) F dX0_save_97 ?_
                refine zx_get_parts (pc := 98) F dX0_save_98 ?_
                refine zz_iload_n1 (pc := 101) F dX0_save_101 ?_
                refine zz_dup2 (pc := 102) F dX0_save_102 rfl rfl ?_
                refine zx_ald_parts (pc := 103) F dX0_save_103 (by omega) ?_
                rw [va_up_self]
                refine zz_iconst_1 (pc := 104) F dX0_save_104 ?_
                refine zz_iadd (pc := 105) F dX0_save_105 ?_
                refine zx_ast_parts (pc := 106) F dX0_save_106 (by omega) ?_
                rw [bx_uu]
                refine zz_iload_n3 (pc := 107) F dX0_save_107 ?_
                refine zz_iconst_1 (pc := 108) F dX0_save_108 ?_
                refine zz_iadd (pc := 109) F dX0_save_109 ?_
                refine zz_istore_n2 (pc := 110) F dX0_save_110 (by decide) ?_
                refine zz_iinc3 (pc := 111) F dX0_save_111 (by decide) ?_
                refine zz_goto (pc := 114) 40 F dX0_save_114 (by decide) ?_
                exact ih (i + 1) (i + 1) (c + 1) _ _ _ _ _ _ _ _ _ _ _ _ _ _ _ _ _ (by omega) (by omega) (by omega) (by omega) (fun q => by omega) (fun q => q) hJ3
              refine zz_iload_n3 (pc := 48) F dX0_save_48 ?_
              refine zz_aload_n0 (pc := 49) F dX0_save_49 ?_
              refine zx_get_staged (pc := 50) F dX0_save_50 ?_
              refine zz_iconst_1 (pc := 53) F dX0_save_53 ?_
              refine zz_isub (pc := 54) F dX0_save_54 (by omega) ?_
              refine zz_icmp_eq (pc := 55) 67 F dX0_save_55 (by decide) (by omega) (by omega) (fun c55 => ?_) (fun c55 => ?_)
              · exact emit (Or.inl c55) c45
              · refine zz_aload_n0 (pc := 58) F dX0_save_58 ?_
                refine zz_iload_n2 (pc := 59) F dX0_save_59 ?_
                refine zz_iload_n3 (pc := 60) F dX0_save_60 ?_
                refine zx_call_boundary (pc := 61) F dX0_save_61 (m_boundary _ _ _ _ _ _ _ _ _ _ _ _ _ _ _ _ _ _ _ _ _ _ a i hai (by omega) (fun q hq => (hst q (by omega)).2)) (by decide) (Nat.le_of_ble_eq_true rfl) (fun r61 s61 h61 => ?_)
                obtain ⟨rfl, ⟨rfl, hb1⟩ | ⟨rfl, hb1⟩⟩ := h61
                · refine zz_if_eq (pc := 64) 111 F dX0_save_64 (by decide) (by decide) (fun c64 => ?_) (fun c64 => ?_)
                  · refine zz_iinc3 (pc := 111) F dX0_save_111 (by decide) ?_
                    refine zz_goto (pc := 114) 40 F dX0_save_114 (by decide) ?_
                    exact ih (i + 1) a c _ _ _ _ _ _ _ _ _ _ _ _ _ _ _ _ _ (by omega) (by omega) (by omega) hc (fun q => ⟨(hk c45).1, by omega⟩) (fun q => by omega) hJ2
                  · exact absurd c64 (by decide)
                · refine zz_if_eq (pc := 64) 111 F dX0_save_64 (by decide) (by decide) (fun c64 => ?_) (fun c64 => ?_)
                  · exact absurd c64 (by decide)
                  · exact emit (Or.inr hb1) c45
        refine zz_aload_n0 (pc := 22) F dX0_save_22 ?_
        refine zx_get_saved (pc := 23) F dX0_save_23 ?_
        refine zz_iload_n1 (pc := 26) F dX0_save_26 ?_
        refine zz_iconst_1 (pc := 27) F dX0_save_27 ?_
        refine zx_ast_saved (pc := 28) F dX0_save_28 (by omega) (by decide) ?_
        refine zz_aload_n0 (pc := 29) F dX0_save_29 ?_
        refine zx_get_parts (pc := 30) F dX0_save_30 ?_
        refine zz_iload_n1 (pc := 33) F dX0_save_33 ?_
        refine zz_iconst_0 (pc := 34) F dX0_save_34 ?_
        refine zx_ast_parts (pc := 35) F dX0_save_35 (by omega) ?_
        refine zz_iconst_0 (pc := 36) F dX0_save_36 ?_
        refine zz_istore_n2 (pc := 37) F dX0_save_37 (by decide) ?_
        refine zz_iconst_0 (pc := 38) F dX0_save_38 ?_
        refine zz_istore_n3 (pc := 39) F dX0_save_39 (by decide) ?_
        have hJ0 := J_start hJ hs6 c16
        rw [← cpy_0 (f := mst) (h := mby) (a := 0) (t := s * 96)] at hJ0
        exact loop (sd + 1) 0 0 0 _ _ _ _ _ _ _ _ _ _ _ _ _ _ _ _ _ (by omega) (by omega) (by omega) (by omega) (fun q => by omega) (fun q => q) hJ0
      · refine zz_bipush_m3 (pc := 19) F dX0_save_19 ?_
        exact hR _ _ _ _ dX0_save_21 (vp_nar_int _) ⟨_, Or.inl ⟨rfl, Or.inr ⟨s, hs6, rfl, by rw [← hv1]; exact c16, rfl⟩⟩, LX_of ⟨hI1, hJ⟩⟩
    · exact absurd c4 (by decide)
set_option maxHeartbeats 4000000 in
theorem m_drop (l : Launch) (D : va_G) (g : ZG) (sd pl : Nat) (sta sav pas par rfs siz bas cel pay pri fa fb fre ou un pro ch : Nat → Nat) (x : Int32) (msz : Nat) (mst msv mss mby : Nat → Nat) (C : Nat → Nat → Nat) (hI : sd_I sd sta sav pas par rfs siz bas cel pay msz mst msv mss mby C) : zz_Mi l D g (wX g) yX0_drop cX0_drop 4 5 117 .int (sd, sta, sav, pas, par, rfs, siz, bas, cel, pay, pri, fa, fb, fre, ou, un, pro, pl, ch) [.ref (g.1 0), .int x] (fun r s => ∃ m : MT, SP_drop msz mst msv mss mby x r m ∧ LX s m) := by
  refine zz_enter_i RX0 [some (.ref (g.1 0)), some (.int x), none, none] 2 (by decide) rfl (by intro v hv; simp only [List.mem_cons, List.not_mem_nil, or_false] at hv; rcases hv with rfl | rfl <;> rfl) (Nat.le_of_ble_eq_true rfl) rfl ?_
  intro k hkl hkD F hR
  subst hkl hkD
  obtain ⟨hI1, hJ⟩ := hI
  have hsd := hI1.1
  subst hsd
  have h96 := hI1.2.1
  have hst := hI1.2.2
  refine zz_aload_n0 (pc := 0) F dX0_drop_0 ?_
  refine zz_iload_n1 (pc := 1) F dX0_drop_1 ?_
  refine zx_call_length (pc := 2) F dX0_drop_2 (m_length _ _ _ _ _ _ _ _ _ _ _ _ _ _ _ _ _ _ _ _ _ _ _ _ _ _ C hJ) (by decide) (Nat.le_of_ble_eq_true rfl) (fun r2 s2 h2 => ?_)
  obtain ⟨rfl, ⟨hb, rfl⟩ | ⟨s, hs6, rfl, h0, rfl⟩ | ⟨s, hs6, rfl, h0, rfl⟩⟩ := h2
  · refine zz_istore_n2 (pc := 5) F dX0_drop_5 (by decide) ?_
    refine zz_iload_n2 (pc := 6) F dX0_drop_6 ?_
    refine zz_if_geG (pc := 7) 12 F dX0_drop_7 (by decide) (fun c7 => ?_) (fun c7 => ?_)
    · exact absurd c7 (by decide)
    · refine zz_iload_n2 (pc := 10) F dX0_drop_10 ?_
      exact hR _ _ _ _ dX0_drop_11 (vp_nar_int _) ⟨_, Or.inl ⟨rfl, Or.inl ⟨hb, rfl⟩⟩, LX_of ⟨hI1, hJ⟩⟩
  · refine zz_istore_n2 (pc := 5) F dX0_drop_5 (by decide) ?_
    refine zz_iload_n2 (pc := 6) F dX0_drop_6 ?_
    refine zz_if_geG (pc := 7) 12 F dX0_drop_7 (by decide) (fun c7 => ?_) (fun c7 => ?_)
    · exact absurd c7 (by decide)
    · refine zz_iload_n2 (pc := 10) F dX0_drop_10 ?_
      exact hR _ _ _ _ dX0_drop_11 (vp_nar_int _) ⟨_, Or.inl ⟨rfl, Or.inr ⟨s, hs6, rfl, h0, rfl⟩⟩, LX_of ⟨hI1, hJ⟩⟩
  · have hv1 := (hJ.1 s hs6).1
    have hs0 : 0 < sav s := by rw [hv1]; exact h0
    have hm96 := (hJ.2.2.2 s hs6 hs0).2.2.2.1
    have hS := hJ.2.2.2 s hs6 hs0
    have hS1 := hS.1
    have loop : ∀ (n2 i : Nat) (rfs2 bas2 cel2 pay2 ou2 un2 ch2 : Nat → Nat), i ≤ pas s → pas s < i + n2 → sd_CC siz bas2 cel2 pay2 (fun y => y < 96 ∧ 0 < rfs2 y) C → (∀ y, y < 96 → rfs2 y = sd_ct (sd_wk (sd_w sav pas par) s i) y 96) → zz_W k (wX g (sd, sta, sav, pas, par, rfs2, siz, bas2, cel2, pay2, pri, fa, fb, fre, ou2, un2, pro, pl, ch2)) 14 [some (.ref (g.1 0)), some (.int (nI (s))), some (.int (nI (mss s))), some (.int (nI (i)))] [] := by
      intro n2
      induction n2 with
      | zero => intro i rfs2 bas2 cel2 pay2 ou2 un2 ch2 h1 h2; exfalso; omega
      | succ n2 ih =>
        intro i rfs2 bas2 cel2 pay2 ou2 un2 ch2 hi hm hC2 hw2
        refine zz_iload_n3 (pc := 14) F dX0_drop_14 ?_
        refine zz_aload_n0 (pc := 15) F dX0_drop_15 ?_
        refine zx_get_parts (pc := 16) F dX0_drop_16 ?_
        refine zz_iload_n1 (pc := 19) F dX0_drop_19 ?_
        refine zx_ald_parts (pc := 20) F dX0_drop_20 (by omega) ?_
        refine zz_icmp_ge (pc := 21) 45 F dX0_drop_21 (by decide) (by omega) (by omega) (fun c21 => ?_) (fun c21 => ?_)
        · have e : i = pas s := by omega
          rw [e] at hw2
          refine zz_aload_n0 (pc := 45) F dX0_drop_45 ?_
          refine zx_get_saved (pc := 46) F dX0_drop_46 ?_
          refine zz_iload_n1 (pc := 49) F dX0_drop_49 ?_
          refine zz_iconst_0 (pc := 50) F dX0_drop_50 ?_
          refine zx_ast_saved (pc := 51) F dX0_drop_51 (by omega) (by decide) ?_
          refine zz_aload_n0 (pc := 52) F dX0_drop_52 ?_
          refine zx_get_parts (pc := 53) F dX0_drop_53 ?_
          refine zz_iload_n1 (pc := 56) F dX0_drop_56 ?_
          refine zz_iconst_0 (pc := 57) F dX0_drop_57 ?_
          refine zx_ast_parts (pc := 58) F dX0_drop_58 (by omega) ?_
          refine zz_iload_n2 (pc := 59) F dX0_drop_59 ?_
          exact hR _ _ _ _ dX0_drop_60 (vp_nar_int _) ⟨_, Or.inr ⟨s, hs6, rfl, h0, rfl, rfl⟩, LX_of ⟨hI1, J_end hJ hs6 hC2 hw2⟩⟩
        · have hl1 := hS.2.1 i c21
          have hw := wk_step (w_at (par := par) (by omega) hs0 c21) (by omega) hs6 hl1 hw2
          refine zz_aload_n0 (pc := 24) F dX0_drop_24 ?_
          refine zz_aload_n0 (pc := 25) F dX0_drop_25 ?_
          refine zx_get_part (pc := 26) F dX0_drop_26 ?_
          refine zz_iload_n1 (pc := 29) F dX0_drop_29 ?_
          refine zz_bipush_16 (pc := 30) F dX0_drop_30 ?_
          refine zz_imul (pc := 32) F dX0_drop_32 ?_
          refine zz_iload_n3 (pc := 33) F dX0_drop_33 ?_
          refine zz_iadd (pc := 34) F dX0_drop_34 ?_
          refine zx_ald_part (pc := 35) F dX0_drop_35 (by omega) ?_
          refine zx_call_release (pc := 36) F dX0_drop_36 (m_release _ _ _ _ _ _ _ _ _ _ _ _ _ _ _ _ _ _ _ _ _ _ _ C hC2 (fun y hy => by rw [hw2 y hy]; exact ct_le _ _ _) hl1 hw.1) (by decide) (Nat.le_of_ble_eq_true rfl) (fun s36 h36 => ?_)
          obtain ⟨bas3, cel3, pay3, ou3, un3, ch3, rfl, hC3⟩ := h36
          refine zz_iinc3 (pc := 39) F dX0_drop_39 (by decide) ?_
          refine zz_goto (pc := 42) 14 F dX0_drop_42 (by decide) ?_
          exact ih (i + 1) _ _ _ _ _ _ _ (by omega) (by omega) hC3 hw.2
    refine zz_istore_n2 (pc := 5) F dX0_drop_5 (by decide) ?_
    refine zz_iload_n2 (pc := 6) F dX0_drop_6 ?_
    refine zz_if_ge (pc := 7) 12 F dX0_drop_7 (by decide) (by omega) ?_
    refine zz_iconst_0 (pc := 12) F dX0_drop_12 ?_
    refine zz_istore_n3 (pc := 13) F dX0_drop_13 (by decide) ?_
    exact loop (pas s + 1) 0 _ _ _ _ _ _ _ (by omega) (by omega) hJ.2.1 (by rw [wk_0]; exact hJ.2.2.1)
set_option maxHeartbeats 4000000 in
theorem m_commonStart (l : Launch) (D : va_G) (g : ZG) (sd pl : Nat) (sta sav pas par rfs siz bas cel pay pri fa fb fre ou un pro ch : Nat → Nat) (x y : Int32) (msz : Nat) (mst msv mss mby : Nat → Nat) (C : Nat → Nat → Nat) (hI : sd_I sd sta sav pas par rfs siz bas cel pay msz mst msv mss mby C) : zz_Mi l D g (wX g) yX0_commonStart cX0_commonStart 11 4 98 .int (sd, sta, sav, pas, par, rfs, siz, bas, cel, pay, pri, fa, fb, fre, ou, un, pro, pl, ch) [.ref (g.1 0), .int x, .int y] (fun r s => ∃ m : MT, SP_common msz mst msv mss mby x y r m ∧ LX s m) := by
  refine zz_enter_i RX0 [some (.ref (g.1 0)), some (.int x), some (.int y), none, none, none, none, none, none, none, none] 8 (by decide) rfl (by intro v hv; simp only [List.mem_cons, List.not_mem_nil, or_false] at hv; rcases hv with rfl | rfl | rfl <;> rfl) (Nat.le_of_ble_eq_true rfl) rfl ?_
  intro k hkl hkD F hR
  subst hkl hkD
  obtain ⟨hI1, hJ⟩ := hI
  have hsd := hI1.1
  subst hsd
  have h96 := hI1.2.1
  have hst := hI1.2.2
  have hmm : ∀ a b : Nat, Nat.min a b ≤ a ∧ Nat.min a b ≤ b ∧ (Nat.min a b = a ∨ Nat.min a b = b) := fun a b => by
    rcases Nat.le_total a b with h | h
    · rw [show Nat.min a b = a from Nat.min_eq_left h]
      exact ⟨Nat.le_refl _, h, Or.inl rfl⟩
    · rw [show Nat.min a b = b from Nat.min_eq_right h]
      exact ⟨h, Nat.le_refl _, Or.inr rfl⟩
  have loop2 : ∀ (n2 s t c1 k1 i : Nat) (ou2 un2 ch2 : Nat → Nat) (y9 y10 : Option Value), s < 6 → t < 6 → 0 < sav s → 0 < sav t → x = nI s → y = nI t → i ≤ Nat.min (mss s) (mss t) → Nat.min (mss s) (mss t) ≤ 96 → Nat.min (mss s) (mss t) < i + n2 → (∀ q, q < i → mby (s * 96 + q) = mby (t * 96 + q)) → zz_W k (wX g (sd, sta, sav, pas, par, rfs, siz, bas, cel, pay, pri, fa, fb, fre, ou2, un2, pro, pl, ch2)) 151 [some (.ref (g.1 0)), some (.int (nI (s))), some (.int (nI (t))), some (.int (nI (c1))), some (.int (nI (k1))), some (.int (nI (mss s))), some (.int (nI (mss t))), some (.int (nI (Nat.min (mss s) (mss t)))), some (.int (nI (i))), y9, y10] [] := by
    intro n2
    induction n2 with
    | zero => intro s t c1 k1 i ou2 un2 ch2 y9 y10 h1 h2 h3 h4 h5 h6 h7 h8 h9; exfalso; omega
    | succ n2 ih =>
      intro s t c1 k1 i ou2 un2 ch2 y9 y10 hs6 ht6 hs0 ht0 ex ey hi h96m hm heq
      have hmst := hmm (mss s) (mss t)
      refine zz_iload8 (pc := 151) F dX0_commonStart_151 ?_
      refine zz_iload7 (pc := 153) F dX0_commonStart_153 ?_
      refine zz_icmp_ge (pc := 155) 192 F dX0_commonStart_155 (by decide) (by omega) (by omega) (fun c155 => ?_) (fun c155 => ?_)
      · have e : i = Nat.min (mss s) (mss t) := by omega
        refine zz_iload7 (pc := 192) F dX0_commonStart_192 ?_
        exact hR _ _ _ _ dX0_commonStart_194 (vp_nar_int _) ⟨_, ⟨rfl, Or.inr (Or.inr ⟨s, t, i, hs6, ht6, ex, ey, by rw [← (hJ.1 s hs6).1]; exact hs0, by rw [← (hJ.1 t ht6).1]; exact ht0, by rw [e], by omega, by omega, heq, by omega⟩)⟩, LX_of ⟨hI1, hJ⟩⟩
      · refine zz_aload_n0 (pc := 158) F dX0_commonStart_158 ?_
        refine zz_iload_n1 (pc := 159) F dX0_commonStart_159 ?_
        refine zz_iload8 (pc := 160) F dX0_commonStart_160 ?_
        refine zx_call_restored (pc := 162) F dX0_commonStart_162 (m_restored _ _ _ _ _ _ _ _ _ _ _ _ _ _ _ _ _ _ _ _ _ _ s i _ _ _ C hJ hs6 hs0 (by omega)) (by decide) (Nat.le_of_ble_eq_true rfl) (fun r162 s162 h162 => ?_)
        obtain ⟨ou3, un3, ch3, rfl, rfl⟩ := h162
        refine zz_istore9 (pc := 165) F dX0_commonStart_165 (by decide) ?_
        refine zz_aload_n0 (pc := 167) F dX0_commonStart_167 ?_
        refine zz_iload_n2 (pc := 168) F dX0_commonStart_168 ?_
        refine zz_iload8 (pc := 169) F dX0_commonStart_169 ?_
        refine zx_call_restored (pc := 171) F dX0_commonStart_171 (m_restored _ _ _ _ _ _ _ _ _ _ _ _ _ _ _ _ _ _ _ _ _ _ t i _ _ _ C hJ ht6 ht0 (by omega)) (by decide) (Nat.le_of_ble_eq_true rfl) (fun r171 s171 h171 => ?_)
        obtain ⟨ou4, un4, ch4, rfl, rfl⟩ := h171
        refine zz_istore10 (pc := 174) F dX0_commonStart_174 (by decide) ?_
        refine zz_iload9 (pc := 176) F dX0_commonStart_176 ?_
        refine zz_iload10 (pc := 178) F dX0_commonStart_178 ?_
        refine zz_icmp_eq (pc := 180) 186 F dX0_commonStart_180 (by decide) (Nat.lt_trans (J_byte hJ hs6 hs0 (by omega)) (by decide)) (Nat.lt_trans (J_byte hJ ht6 ht0 (by omega)) (by decide)) (fun c180 => ?_) (fun c180 => ?_)
        · refine zz_iinc8 (pc := 186) F dX0_commonStart_186 (by decide) ?_
          refine zz_goto (pc := 189) 151 F dX0_commonStart_189 (by decide) ?_
          exact ih s t c1 k1 (i + 1) _ _ _ _ _ hs6 ht6 hs0 ht0 ex ey (by omega) (by omega) (by omega) (lt_s heq c180)
        · refine zz_iload8 (pc := 183) F dX0_commonStart_183 ?_
          exact hR _ _ _ _ dX0_commonStart_185 (vp_nar_int _) ⟨_, ⟨rfl, Or.inr (Or.inr ⟨s, t, i, hs6, ht6, ex, ey, by rw [← (hJ.1 s hs6).1]; exact hs0, by rw [← (hJ.1 t ht6).1]; exact ht0, rfl, by omega, by omega, heq, Or.inr (Or.inr c180)⟩)⟩, LX_of ⟨hI1, hJ⟩⟩
  have tail : ∀ (s t k1 : Nat), s < 6 → t < 6 → 0 < sav s → 0 < sav t → x = nI s → y = nI t → sd_off siz par s k1 ≤ mss s → sd_off siz par s k1 ≤ mss t → mss s ≤ 96 → mss t ≤ 96 → (∀ q, q < sd_off siz par s k1 → mby (s * 96 + q) = mby (t * 96 + q)) → zz_W k (wX g (sd, sta, sav, pas, par, rfs, siz, bas, cel, pay, pri, fa, fb, fre, ou, un, pro, pl, ch)) 118 [some (.ref (g.1 0)), some (.int (nI (s))), some (.int (nI (t))), some (.int (nI (sd_off siz par s k1))), some (.int (nI (k1))), none, none, none, none, none, none] [] := by
    intro s t k1 hs6 ht6 hs0 ht0 ex ey hos hot hms hmt heq
    have hm0 := hmm (mss s) (mss t)
    have hvs : 0 < msv s := by rw [← (hJ.1 s hs6).1]; exact hs0
    have hvt : 0 < msv t := by rw [← (hJ.1 t ht6).1]; exact ht0
    have fin : zz_W k (wX g (sd, sta, sav, pas, par, rfs, siz, bas, cel, pay, pri, fa, fb, fre, ou, un, pro, pl, ch)) 146 [some (.ref (g.1 0)), some (.int (nI (s))), some (.int (nI (t))), some (.int (nI (sd_off siz par s k1))), some (.int (nI (k1))), some (.int (nI (mss s))), some (.int (nI (mss t))), none, none, none, none] [.int (nI (Nat.min (mss s) (mss t)))] := by
      refine zz_istore7 (pc := 146) F dX0_commonStart_146 (by decide) ?_
      refine zz_iload_n3 (pc := 148) F dX0_commonStart_148 ?_
      refine zz_istore8 (pc := 149) F dX0_commonStart_149 (by decide) ?_
      exact loop2 (Nat.min (mss s) (mss t) + 1) s t _ k1 _ _ _ _ _ _ hs6 ht6 hs0 ht0 ex ey (by omega) (by omega) (by omega) heq
    refine zz_aload_n0 (pc := 118) F dX0_commonStart_118 ?_
    refine zz_iload_n1 (pc := 119) F dX0_commonStart_119 ?_
    refine zx_call_length (pc := 120) F dX0_commonStart_120 (m_length _ _ _ _ _ _ _ _ _ _ _ _ _ _ _ _ _ _ _ _ _ _ _ _ _ _ C hJ) (by decide) (Nat.le_of_ble_eq_true rfl) (fun r120 s120 h120 => ?_)
    obtain ⟨rfl, hlen⟩ := h120
    have hlen := len_S hs6 hvs hlen
    subst hlen
    refine zz_istore5 (pc := 123) F dX0_commonStart_123 (by decide) ?_
    refine zz_aload_n0 (pc := 125) F dX0_commonStart_125 ?_
    refine zz_iload_n2 (pc := 126) F dX0_commonStart_126 ?_
    refine zx_call_length (pc := 127) F dX0_commonStart_127 (m_length _ _ _ _ _ _ _ _ _ _ _ _ _ _ _ _ _ _ _ _ _ _ _ _ _ _ C hJ) (by decide) (Nat.le_of_ble_eq_true rfl) (fun r127 s127 h127 => ?_)
    obtain ⟨rfl, hlen⟩ := h127
    have hlen := len_S ht6 hvt hlen
    subst hlen
    refine zz_istore6 (pc := 130) F dX0_commonStart_130 (by decide) ?_
    refine zz_iload5 (pc := 132) F dX0_commonStart_132 ?_
    refine zz_iload6 (pc := 134) F dX0_commonStart_134 ?_
    refine zz_icmp_ge (pc := 136) 144 F dX0_commonStart_136 (by decide) (by omega) (by omega) (fun c136 => ?_) (fun c136 => ?_)
    · refine zz_iload6 (pc := 144) F dX0_commonStart_144 ?_
      first
        | (refine zz_top (y := nI (Nat.min (mss s) (mss t))) (by rw [show Nat.min (mss s) (mss t) = mss s by omega]) ?_
           exact fin)
        | (refine zz_top (y := nI (Nat.min (mss s) (mss t))) (by rw [show Nat.min (mss s) (mss t) = mss t by omega]) ?_
           exact fin)
    · refine zz_iload5 (pc := 139) F dX0_commonStart_139 ?_
      refine zz_goto (pc := 141) 146 F dX0_commonStart_141 (by decide) ?_
      first
        | (refine zz_top (y := nI (Nat.min (mss s) (mss t))) (by rw [show Nat.min (mss s) (mss t) = mss s by omega]) ?_
           exact fin)
        | (refine zz_top (y := nI (Nat.min (mss s) (mss t))) (by rw [show Nat.min (mss s) (mss t) = mss t by omega]) ?_
           exact fin)
  have loop1 : ∀ (n2 s t i : Nat), s < 6 → t < 6 → 0 < sav s → 0 < sav t → x = nI s → y = nI t → i ≤ pas s → i ≤ pas t → pas s < i + n2 → (∀ q, q < i → par (s * 16 + q) = par (t * 16 + q)) → zz_W k (wX g (sd, sta, sav, pas, par, rfs, siz, bas, cel, pay, pri, fa, fb, fre, ou, un, pro, pl, ch)) 43 [some (.ref (g.1 0)), some (.int (nI (s))), some (.int (nI (t))), some (.int (nI (sd_off siz par s i))), some (.int (nI (i))), none, none, none, none, none, none] [] := by
    intro n2
    induction n2 with
    | zero => intro s t i h1 h2 h3 h4 h5 h6 h7 h8 h9; exfalso; omega
    | succ n2 ih =>
      intro s t i hs6 ht6 hs0 ht0 ex ey hi hi2 hm hpq
      have hSs := hJ.2.2.2 s hs6 hs0
      have hSt := hJ.2.2.2 t ht6 ht0
      have hSs1 := hSs.1
      have hSt1 := hSt.1
      have hoo : ∀ k, k ≤ i → sd_off siz par t k = sd_off siz par s k := fun k hk => by
        induction k with
        | zero => rfl
        | succ k ihk =>
          show sd_off siz par t k + siz (par (t * 16 + k)) = sd_off siz par s k + siz (par (s * 16 + k))
          rw [ihk (by omega), hpq k (by omega)]
      have hos : sd_off siz par s i ≤ mss s := by
        rw [hSs.2.2.1]
        exact off_mono _ hi
      have hot : sd_off siz par s i ≤ mss t := by
        rw [hSt.2.2.1, ← hoo i (Nat.le_refl _)]
        exact off_mono _ hi2
      have heq : ∀ q, q < sd_off siz par s i → mby (s * 96 + q) = mby (t * 96 + q) := fun q hq => by
        obtain ⟨k1, j, hk1, hj, rfl⟩ := off_find i q hq
        have e1 := hSs.2.2.2.2 k1 (by omega) j hj
        have e2 := hSt.2.2.2.2 k1 (by omega) j (by rw [← hpq k1 hk1]; exact hj)
        rw [hoo k1 (by omega), ← hpq k1 hk1] at e2
        rw [e1, e2]
      refine zz_iload4 (pc := 43) F dX0_commonStart_43 ?_
      refine zz_aload_n0 (pc := 45) F dX0_commonStart_45 ?_
      refine zx_get_parts (pc := 46) F dX0_commonStart_46 ?_
      refine zz_iload_n1 (pc := 49) F dX0_commonStart_49 ?_
      refine zx_ald_parts (pc := 50) F dX0_commonStart_50 (by omega) ?_
      refine zz_icmp_ge (pc := 51) 118 F dX0_commonStart_51 (by decide) (by omega) (by omega) (fun c51 => ?_) (fun c51 => ?_)
      · exact tail s t i hs6 ht6 hs0 ht0 ex ey hos hot (hSs.2.2.2.1) (hSt.2.2.2.1) heq
      · refine zz_iload4 (pc := 54) F dX0_commonStart_54 ?_
        refine zz_aload_n0 (pc := 56) F dX0_commonStart_56 ?_
        refine zx_get_parts (pc := 57) F dX0_commonStart_57 ?_
        refine zz_iload_n2 (pc := 60) F dX0_commonStart_60 ?_
        refine zx_ald_parts (pc := 61) F dX0_commonStart_61 (by omega) ?_
        refine zz_icmp_ge (pc := 62) 118 F dX0_commonStart_62 (by decide) (by omega) (by omega) (fun c62 => ?_) (fun c62 => ?_)
        · exact tail s t i hs6 ht6 hs0 ht0 ex ey hos hot (hSs.2.2.2.1) (hSt.2.2.2.1) heq
        · refine zz_aload_n0 (pc := 65) F dX0_commonStart_65 ?_
          refine zx_get_part (pc := 66) F dX0_commonStart_66 ?_
          refine zz_iload_n1 (pc := 69) F dX0_commonStart_69 ?_
          refine zz_bipush_16 (pc := 70) F dX0_commonStart_70 ?_
          refine zz_imul (pc := 72) F dX0_commonStart_72 ?_
          refine zz_iload4 (pc := 73) F dX0_commonStart_73 ?_
          refine zz_iadd (pc := 75) F dX0_commonStart_75 ?_
          refine zx_ald_part (pc := 76) F dX0_commonStart_76 (by omega) ?_
          refine zz_aload_n0 (pc := 77) F dX0_commonStart_77 ?_
          refine zx_get_part (pc := 78) F dX0_commonStart_78 ?_
          refine zz_iload_n2 (pc := 81) F dX0_commonStart_81 ?_
          refine zz_bipush_16 (pc := 82) F dX0_commonStart_82 ?_
          refine zz_imul (pc := 84) F dX0_commonStart_84 ?_
          refine zz_iload4 (pc := 85) F dX0_commonStart_85 ?_
          refine zz_iadd (pc := 87) F dX0_commonStart_87 ?_
          refine zx_ald_part (pc := 88) F dX0_commonStart_88 (by omega) ?_
          have hls := J_live hJ hs6 hs0 c51
          have hlt := J_live hJ ht6 ht0 c62
          have hls1 := hls.1
          have hlt1 := hlt.1
          refine zz_icmp_ne (pc := 89) 118 F dX0_commonStart_89 (by decide) (by omega) (by omega) (fun c89 => ?_) (fun c89 => ?_)
          · exact tail s t i hs6 ht6 hs0 ht0 ex ey hos hot (hSs.2.2.2.1) (hSt.2.2.2.1) heq
          · refine zz_iload_n3 (pc := 92) F dX0_commonStart_92 ?_
            refine zz_aload_n0 (pc := 93) F dX0_commonStart_93 ?_
            refine zx_get_size (pc := 94) F dX0_commonStart_94 ?_
            refine zz_aload_n0 (pc := 97) F dX0_commonStart_97 ?_
            refine zx_get_part (pc := 98) F dX0_commonStart_98 ?_
            refine zz_iload_n1 (pc := 101) F dX0_commonStart_101 ?_
            refine zz_bipush_16 (pc := 102) F dX0_commonStart_102 ?_
            refine zz_imul (pc := 104) F dX0_commonStart_104 ?_
            refine zz_iload4 (pc := 105) F dX0_commonStart_105 ?_
            refine zz_iadd (pc := 107) F dX0_commonStart_107 ?_
            refine zx_ald_part (pc := 108) F dX0_commonStart_108 (by omega) ?_
            refine zx_ald_size (pc := 109) F dX0_commonStart_109 (by omega) ?_
            refine zz_iadd (pc := 110) F dX0_commonStart_110 ?_
            refine zz_istore_n3 (pc := 111) F dX0_commonStart_111 (by decide) ?_
            refine zz_iinc4 (pc := 112) F dX0_commonStart_112 (by decide) ?_
            refine zz_goto (pc := 115) 43 F dX0_commonStart_115 (by decide) ?_
            exact ih s t (i + 1) hs6 ht6 hs0 ht0 ex ey (by omega) (by omega) (by omega) (lt_s hpq c89)
  refine zz_iload_n1 (pc := 0) F dX0_commonStart_0 ?_
  refine zx_call_badSlot (pc := 1) F dX0_commonStart_1 (m_badSlot _ _ _ _ _ _ _ _ _ _ _ _ _ _ _ _ _ _ _ _ _ _ _) (by decide) (Nat.le_of_ble_eq_true rfl) (fun r1 s1 h1 => ?_)
  obtain ⟨rfl, ⟨hb, rfl⟩ | ⟨⟨s, hs6, rfl⟩, rfl⟩⟩ := h1
  · refine zz_if_ne (pc := 4) 14 F dX0_commonStart_4 (by decide) (by decide) (fun c4 => ?_) (fun c4 => ?_)
    · refine zz_bipush_m2 (pc := 14) F dX0_commonStart_14 ?_
      exact hR _ _ _ _ dX0_commonStart_16 (vp_nar_int _) ⟨_, ⟨rfl, Or.inl ⟨Or.inl hb, rfl⟩⟩, LX_of ⟨hI1, hJ⟩⟩
    · exact absurd c4 (by decide)
  · have hv1 := (hJ.1 s hs6).1
    have hv2 := (hJ.1 s hs6).2
    refine zz_if_ne (pc := 4) 14 F dX0_commonStart_4 (by decide) (by decide) (fun c4 => ?_) (fun c4 => ?_)
    · exact absurd c4 (by decide)
    · refine zz_iload_n2 (pc := 7) F dX0_commonStart_7 ?_
      refine zx_call_badSlot (pc := 8) F dX0_commonStart_8 (m_badSlot _ _ _ _ _ _ _ _ _ _ _ _ _ _ _ _ _ _ _ _ _ _ _) (by decide) (Nat.le_of_ble_eq_true rfl) (fun r8 s8 h8 => ?_)
      obtain ⟨rfl, ⟨hb2, rfl⟩ | ⟨⟨t, ht6, rfl⟩, rfl⟩⟩ := h8
      · refine zz_if_eq (pc := 11) 17 F dX0_commonStart_11 (by decide) (by decide) (fun c11 => ?_) (fun c11 => ?_)
        · exact absurd c11 (by decide)
        · refine zz_bipush_m2 (pc := 14) F dX0_commonStart_14 ?_
          exact hR _ _ _ _ dX0_commonStart_16 (vp_nar_int _) ⟨_, ⟨rfl, Or.inl ⟨Or.inr hb2, rfl⟩⟩, LX_of ⟨hI1, hJ⟩⟩
      · have hv3 := (hJ.1 t ht6).1
        have hv4 := (hJ.1 t ht6).2
        refine zz_if_eq (pc := 11) 17 F dX0_commonStart_11 (by decide) (by decide) (fun c11 => ?_) (fun c11 => ?_)
        · refine zz_aload_n0 (pc := 17) F dX0_commonStart_17 ?_
          refine zx_get_saved (pc := 18) F dX0_commonStart_18 ?_
          refine zz_iload_n1 (pc := 21) F dX0_commonStart_21 ?_
          refine zx_ald_saved (pc := 22) F dX0_commonStart_22 (by omega) ?_
          refine zz_if_eq (pc := 23) 35 F dX0_commonStart_23 (by decide) (by omega) (fun c23 => ?_) (fun c23 => ?_)
          · refine zz_bipush_m4 (pc := 35) F dX0_commonStart_35 ?_
            exact hR _ _ _ _ dX0_commonStart_37 (vp_nar_int _) ⟨_, ⟨rfl, Or.inr (Or.inl ⟨s, t, hs6, ht6, rfl, rfl, by first | exact Or.inl (by rw [← hv1]; exact c23) | exact Or.inr (by rw [← hv3]; exact c32), rfl⟩)⟩, LX_of ⟨hI1, hJ⟩⟩
          · refine zz_aload_n0 (pc := 26) F dX0_commonStart_26 ?_
            refine zx_get_saved (pc := 27) F dX0_commonStart_27 ?_
            refine zz_iload_n2 (pc := 30) F dX0_commonStart_30 ?_
            refine zx_ald_saved (pc := 31) F dX0_commonStart_31 (by omega) ?_
            refine zz_if_ne (pc := 32) 38 F dX0_commonStart_32 (by decide) (by omega) (fun c32 => ?_) (fun c32 => ?_)
            · refine zz_iconst_0 (pc := 38) F dX0_commonStart_38 ?_
              refine zz_istore_n3 (pc := 39) F dX0_commonStart_39 (by decide) ?_
              refine zz_iconst_0 (pc := 40) F dX0_commonStart_40 ?_
              refine zz_istore4 (pc := 41) F dX0_commonStart_41 (by decide) ?_
              exact loop1 (pas s + 1) s t 0 hs6 ht6 c23 c32 rfl rfl (by omega) (by omega) (by omega) (fun q hq => absurd hq (Nat.not_lt_zero q))
            · refine zz_bipush_m4 (pc := 35) F dX0_commonStart_35 ?_
              exact hR _ _ _ _ dX0_commonStart_37 (vp_nar_int _) ⟨_, ⟨rfl, Or.inr (Or.inl ⟨s, t, hs6, ht6, rfl, rfl, by first | exact Or.inl (by rw [← hv1]; exact c23) | exact Or.inr (by rw [← hv3]; exact c32), rfl⟩)⟩, LX_of ⟨hI1, hJ⟩⟩
        · exact absurd c11 (by decide)
end
section
set_option maxRecDepth 100000
theorem zz_arr {args : Array Value} {s : State} {ty : FieldType} (hty : ∀ C, ty ≠ .object C) (h : (Cond.arrayClass ty).before args s = true) : ∃ cA : ClassId, ArrOfT s cA ty ∧ va_RA s cA ty := by
  obtain ⟨cA, kA, comp, h1, h2, h3⟩ := Cond.arrayClass_spec h
  refine ⟨cA, fun n z => ⟨fun k h => (by cases h), kA, h2, comp, h3⟩, ?_⟩
  cases ty <;> first | exact h1 | exact absurd rfl (hty _)
theorem zz_sameI {D : va_G} {s : State} {tys : List (ClassId × FieldType)} {i j : Nat} {a b : ClassId} (hK : va_K D vwCl tys s) (hi : tys[i]? = some (a, .int)) (hj : tys[j]? = some (b, .int)) : a = b := by
  have h1 : s.vm.findClass _ = some a := (hK.2 i _ hi).2
  have h2 : s.vm.findClass _ = some b := (hK.2 j _ hj).2
  exact Option.some.inj (h1.symm.trans h2)
theorem zz_sameZ {D : va_G} {s : State} {tys : List (ClassId × FieldType)} {i j : Nat} {a b : ClassId} (hK : va_K D vwCl tys s) (hi : tys[i]? = some (a, .boolean)) (hj : tys[j]? = some (b, .boolean)) : a = b := by
  have h1 : s.vm.findClass _ = some a := (hK.2 i _ hi).2
  have h2 : s.vm.findClass _ = some b := (hK.2 j _ hj).2
  exact Option.some.inj (h1.symm.trans h2)
def X00 : XT := (0, fun _ => 0, fun _ => 0, fun _ => 0, fun _ => 0, fun _ => 0, fun _ => 0, fun _ => 0, fun _ => 0, fun _ => 0, fun _ => 0, fun _ => 0, fun _ => 0, fun _ => 0, fun _ => 0, fun _ => 0, fun _ => 0, 0, fun _ => 0)
def M00 : MT := (fun _ => 0, 0, fun _ => 0, fun _ => 0, fun _ => 0)
set_option maxHeartbeats 4000000 in
theorem m_initX0 (l : Launch) (D : va_G) (ki kz : ClassId) (h0 sz : Nat) : Met l yX0_init (ws_ yX0_init cX0_init 1 none) { frames := 1, cells := 17, slots := 2484, locals := 12 } (va_Pc [.ref h0] (fun U => U.heap.size = sz ∧ va_P D vwCl [(h0, .inr (0, [.int (nI 0), .null, .null, .null, .null, .null, .null, .null, .null, .null, .null, .null, .null, .null, .null, .null, .null, .int (nI 0), .null]))] U.heap ∧ va_K D vwCl [(ki, .int), (kz, .boolean)] U ∧ va_D (fun _ => True) [(h0, .inr (0, [.int (nI 0), .null, .null, .null, .null, .null, .null, .null, .null, .null, .null, .null, .null, .null, .null, .null, .null, .int (nI 0), .null]))])) (va_Qv (fun a : Nat → Nat => a 0 = h0) (fun (a : Nat → Nat) (t : State) => va_P D vwCl (wX (a, ki, kz) X00) t.heap ∧ va_K D vwCl [(ki, .int), (kz, .boolean)] t ∧ va_D (va_A [(h0, .inr (0, [.int (nI 0), .null, .null, .null, .null, .null, .null, .null, .null, .null, .null, .null, .null, .null, .null, .null, .null, .int (nI 0), .null]))] sz) (wX (a, ki, kz) X00)) (va_A [(h0, .inr (0, [.int (nI 0), .null, .null, .null, .null, .null, .null, .null, .null, .null, .null, .null, .null, .null, .null, .null, .null, .int (nI 0), .null]))] sz)) 17 2484 (va_A [(h0, .inr (0, [.int (nI 0), .null, .null, .null, .null, .null, .null, .null, .null, .null, .null, .null, .null, .null, .null, .null, .null, .int (nI 0), .null]))] sz) := by
  refine Met.ofW (cc := cX0_init) (maxL := 1) (ret := none) (by decide) rfl ?_
  intro p e s m args below meth c s₁ B hml hv
  obtain ⟨rfl, hsz, hP, hK, hD0⟩ := hv
  have hx := B.exec
  have hb := B.bytes
  have hr := B.returns
  have hts := atoms_spec (ws := (ws_ yX0_init cX0_init 1 none)) B.pre
  have hts : ∀ w ∈ lw_all, w.before _ s = true := fun w h => hts w (List.mem_cons_of_mem _ h)
  have hown : s.vm.findClass RX0 = some m.cls := findClass_of_methodNamed B.named
  have hlocks := B.notSynchronized
  have hin : meth.name = "<init>" := (name_of_methodNamed B.named B.method).1
  subst hsz
  have hD := hD0.self (sz := s.heap.size)
  generalize hAe : va_A [(h0, .inr (0, [.int (nI 0), .null, .null, .null, .null, .null, .null, .null, .null, .null, .null, .null, .null, .null, .null, .null, .null, .int (nI 0), .null]))] s.heap.size = A at hD ⊢
  have hA : ∀ q : Nat, s.heap.size ≤ q → A q := fun q h => by rw [← hAe]; exact Or.inr h
  have hS : va_S A s.heap s.heap [] := va_S.rf
  have hl := lv_entry ([.ref h0]) (n := 1) (Nat.le_of_ble_eq_true rfl)
  rw [lg_entry_eq]
  generalize (lg_sl ([.ref h0]) ++ List.replicate (1 - (lg_sl ([.ref h0])).length) Slot.unset).toArray = ls at hl ⊢
  have hl : lv_has ls 1 [(0, .ref h0)] := hl
  refine lv_aload_n hx hb dX0_init_0 rfl (lv_at hl 0 rfl) ?_
  refine W.objInit hx hb hown (hts _ q25) (hts _ q26) (hts _ q27) rfl (by rw [hml]; exact hl.1) rfl dX0_init_1 (Nat.le_of_ble_eq_true rfl) (Nat.le_of_ble_eq_true rfl) ?_
  refine W.eq (g2 := F0 m 4 ls []) rfl ?_
  refine lv_aload_n hx hb dX0_init_4 rfl (lv_at hl 0 rfl) ?_
  refine lv_bipush (v := nI 96) hx hb dX0_init_5 (by decide) ?_
  refine va_newa (atype := .int) (N' := 96) (a0 := (96, .inl (fun _ => nI 0))) (ty := .int) hx hb (hts _ q86) rfl hK hP hD hS hA (fun cA => rfl) (by decide) (by decide) (by decide) (Nat.le_of_ble_eq_true rfl) (Nat.le_of_ble_eq_true rfl) dX0_init_7 (fun a1 cA H hK1 hP hD hS => ?_)
  have e2 := zz_sameI hK1 (i := 0) (j := 2) rfl rfl
  subst e2
  refine W.widen (k := 1) (n := 96) (Nat.le_of_ble_eq_true rfl) (Nat.le_of_ble_eq_true rfl) ?_
  refine va_putF (D := D) (ci := 0) (v := .ref a1) (ty := .array .int) (C := RX0) (T := TX0) (N := 19) hx hb hts in_X0 tyX0 tyX0_ok nmX0 hown hK hP hD hS 0 rfl rfl 1 (by decide) (hts _ q29) (fun _ h9 => h9) rfl hin rfl (by decide +kernel) rfl rfl (Nat.le_of_ble_eq_true rfl) dX0_init_9 (fun H locs hP hD hS => ?_)
  have hP : va_P D vwCl [(h0, .inr (0, [.int (nI 0), .ref a1, .null, .null, .null, .null, .null, .null, .null, .null, .null, .null, .null, .null, .null, .null, .null, .int (nI 0), .null])), (a1, .inl (ki, 96, .inl (fun _ => nI 0)))] H := hP
  have hD : va_D A [(h0, .inr (0, [.int (nI 0), .ref a1, .null, .null, .null, .null, .null, .null, .null, .null, .null, .null, .null, .null, .null, .null, .null, .int (nI 0), .null])), (a1, .inl (ki, 96, .inl (fun _ => nI 0)))] := hD
  refine lv_aload_n hx hb dX0_init_12 rfl (lv_at hl 0 rfl) ?_
  refine lv_bipush (v := nI 6) hx hb dX0_init_13 (by decide) ?_
  refine va_newa (atype := .boolean) (N' := 6) (a0 := (6, .inl (fun _ => nI 0))) (ty := .boolean) hx hb (hts _ q87) rfl hK hP hD hS hA (fun cA => rfl) (by decide) (by decide) (by decide) (Nat.le_of_ble_eq_true rfl) (Nat.le_of_ble_eq_true rfl) dX0_init_15 (fun a2 cA H hK1 hP hD hS => ?_)
  have e2 := zz_sameZ hK1 (i := 1) (j := 2) rfl rfl
  subst e2
  refine W.widen (k := 2) (n := 102) (Nat.le_of_ble_eq_true rfl) (Nat.le_of_ble_eq_true rfl) ?_
  refine va_putF (D := D) (ci := 0) (v := .ref a2) (ty := .array .boolean) (C := RX0) (T := TX0) (N := 19) hx hb hts in_X0 tyX0 tyX0_ok nmX0 hown hK hP hD hS 0 rfl rfl 2 (by decide) (hts _ q30) (fun _ h9 => h9) rfl hin rfl (by decide +kernel) rfl rfl (Nat.le_of_ble_eq_true rfl) dX0_init_17 (fun H locs hP hD hS => ?_)
  have hP : va_P D vwCl [(h0, .inr (0, [.int (nI 0), .ref a1, .ref a2, .null, .null, .null, .null, .null, .null, .null, .null, .null, .null, .null, .null, .null, .null, .int (nI 0), .null])), (a1, .inl (ki, 96, .inl (fun _ => nI 0))), (a2, .inl (kz, 6, .inl (fun _ => nI 0)))] H := hP
  have hD : va_D A [(h0, .inr (0, [.int (nI 0), .ref a1, .ref a2, .null, .null, .null, .null, .null, .null, .null, .null, .null, .null, .null, .null, .null, .null, .int (nI 0), .null])), (a1, .inl (ki, 96, .inl (fun _ => nI 0))), (a2, .inl (kz, 6, .inl (fun _ => nI 0)))] := hD
  refine lv_aload_n hx hb dX0_init_20 rfl (lv_at hl 0 rfl) ?_
  refine lv_bipush (v := nI 6) hx hb dX0_init_21 (by decide) ?_
  refine va_newa (atype := .int) (N' := 6) (a0 := (6, .inl (fun _ => nI 0))) (ty := .int) hx hb (hts _ q86) rfl hK hP hD hS hA (fun cA => rfl) (by decide) (by decide) (by decide) (Nat.le_of_ble_eq_true rfl) (Nat.le_of_ble_eq_true rfl) dX0_init_23 (fun a3 cA H hK1 hP hD hS => ?_)
  have e2 := zz_sameI hK1 (i := 0) (j := 2) rfl rfl
  subst e2
  refine W.widen (k := 3) (n := 108) (Nat.le_of_ble_eq_true rfl) (Nat.le_of_ble_eq_true rfl) ?_
  refine va_putF (D := D) (ci := 0) (v := .ref a3) (ty := .array .int) (C := RX0) (T := TX0) (N := 19) hx hb hts in_X0 tyX0 tyX0_ok nmX0 hown hK hP hD hS 0 rfl rfl 3 (by decide) (hts _ q31) (fun _ h9 => h9) rfl hin rfl (by decide +kernel) rfl rfl (Nat.le_of_ble_eq_true rfl) dX0_init_25 (fun H locs hP hD hS => ?_)
  have hP : va_P D vwCl [(h0, .inr (0, [.int (nI 0), .ref a1, .ref a2, .ref a3, .null, .null, .null, .null, .null, .null, .null, .null, .null, .null, .null, .null, .null, .int (nI 0), .null])), (a1, .inl (ki, 96, .inl (fun _ => nI 0))), (a2, .inl (kz, 6, .inl (fun _ => nI 0))), (a3, .inl (ki, 6, .inl (fun _ => nI 0)))] H := hP
  have hD : va_D A [(h0, .inr (0, [.int (nI 0), .ref a1, .ref a2, .ref a3, .null, .null, .null, .null, .null, .null, .null, .null, .null, .null, .null, .null, .null, .int (nI 0), .null])), (a1, .inl (ki, 96, .inl (fun _ => nI 0))), (a2, .inl (kz, 6, .inl (fun _ => nI 0))), (a3, .inl (ki, 6, .inl (fun _ => nI 0)))] := hD
  refine lv_aload_n hx hb dX0_init_28 rfl (lv_at hl 0 rfl) ?_
  refine lv_bipush (v := nI 96) hx hb dX0_init_29 (by decide) ?_
  refine va_newa (atype := .int) (N' := 96) (a0 := (96, .inl (fun _ => nI 0))) (ty := .int) hx hb (hts _ q86) rfl hK hP hD hS hA (fun cA => rfl) (by decide) (by decide) (by decide) (Nat.le_of_ble_eq_true rfl) (Nat.le_of_ble_eq_true rfl) dX0_init_31 (fun a4 cA H hK1 hP hD hS => ?_)
  have e2 := zz_sameI hK1 (i := 0) (j := 2) rfl rfl
  subst e2
  refine W.widen (k := 4) (n := 204) (Nat.le_of_ble_eq_true rfl) (Nat.le_of_ble_eq_true rfl) ?_
  refine va_putF (D := D) (ci := 0) (v := .ref a4) (ty := .array .int) (C := RX0) (T := TX0) (N := 19) hx hb hts in_X0 tyX0 tyX0_ok nmX0 hown hK hP hD hS 0 rfl rfl 4 (by decide) (hts _ q32) (fun _ h9 => h9) rfl hin rfl (by decide +kernel) rfl rfl (Nat.le_of_ble_eq_true rfl) dX0_init_33 (fun H locs hP hD hS => ?_)
  have hP : va_P D vwCl [(h0, .inr (0, [.int (nI 0), .ref a1, .ref a2, .ref a3, .ref a4, .null, .null, .null, .null, .null, .null, .null, .null, .null, .null, .null, .null, .int (nI 0), .null])), (a1, .inl (ki, 96, .inl (fun _ => nI 0))), (a2, .inl (kz, 6, .inl (fun _ => nI 0))), (a3, .inl (ki, 6, .inl (fun _ => nI 0))), (a4, .inl (ki, 96, .inl (fun _ => nI 0)))] H := hP
  have hD : va_D A [(h0, .inr (0, [.int (nI 0), .ref a1, .ref a2, .ref a3, .ref a4, .null, .null, .null, .null, .null, .null, .null, .null, .null, .null, .null, .null, .int (nI 0), .null])), (a1, .inl (ki, 96, .inl (fun _ => nI 0))), (a2, .inl (kz, 6, .inl (fun _ => nI 0))), (a3, .inl (ki, 6, .inl (fun _ => nI 0))), (a4, .inl (ki, 96, .inl (fun _ => nI 0)))] := hD
  refine lv_aload_n hx hb dX0_init_36 rfl (lv_at hl 0 rfl) ?_
  refine lv_bipush (v := nI 96) hx hb dX0_init_37 (by decide) ?_
  refine va_newa (atype := .int) (N' := 96) (a0 := (96, .inl (fun _ => nI 0))) (ty := .int) hx hb (hts _ q86) rfl hK hP hD hS hA (fun cA => rfl) (by decide) (by decide) (by decide) (Nat.le_of_ble_eq_true rfl) (Nat.le_of_ble_eq_true rfl) dX0_init_39 (fun a5 cA H hK1 hP hD hS => ?_)
  have e2 := zz_sameI hK1 (i := 0) (j := 2) rfl rfl
  subst e2
  refine W.widen (k := 5) (n := 300) (Nat.le_of_ble_eq_true rfl) (Nat.le_of_ble_eq_true rfl) ?_
  refine va_putF (D := D) (ci := 0) (v := .ref a5) (ty := .array .int) (C := RX0) (T := TX0) (N := 19) hx hb hts in_X0 tyX0 tyX0_ok nmX0 hown hK hP hD hS 0 rfl rfl 5 (by decide) (hts _ q33) (fun _ h9 => h9) rfl hin rfl (by decide +kernel) rfl rfl (Nat.le_of_ble_eq_true rfl) dX0_init_41 (fun H locs hP hD hS => ?_)
  have hP : va_P D vwCl [(h0, .inr (0, [.int (nI 0), .ref a1, .ref a2, .ref a3, .ref a4, .ref a5, .null, .null, .null, .null, .null, .null, .null, .null, .null, .null, .null, .int (nI 0), .null])), (a1, .inl (ki, 96, .inl (fun _ => nI 0))), (a2, .inl (kz, 6, .inl (fun _ => nI 0))), (a3, .inl (ki, 6, .inl (fun _ => nI 0))), (a4, .inl (ki, 96, .inl (fun _ => nI 0))), (a5, .inl (ki, 96, .inl (fun _ => nI 0)))] H := hP
  have hD : va_D A [(h0, .inr (0, [.int (nI 0), .ref a1, .ref a2, .ref a3, .ref a4, .ref a5, .null, .null, .null, .null, .null, .null, .null, .null, .null, .null, .null, .int (nI 0), .null])), (a1, .inl (ki, 96, .inl (fun _ => nI 0))), (a2, .inl (kz, 6, .inl (fun _ => nI 0))), (a3, .inl (ki, 6, .inl (fun _ => nI 0))), (a4, .inl (ki, 96, .inl (fun _ => nI 0))), (a5, .inl (ki, 96, .inl (fun _ => nI 0)))] := hD
  refine lv_aload_n hx hb dX0_init_44 rfl (lv_at hl 0 rfl) ?_
  refine lv_bipush (v := nI 96) hx hb dX0_init_45 (by decide) ?_
  refine va_newa (atype := .int) (N' := 96) (a0 := (96, .inl (fun _ => nI 0))) (ty := .int) hx hb (hts _ q86) rfl hK hP hD hS hA (fun cA => rfl) (by decide) (by decide) (by decide) (Nat.le_of_ble_eq_true rfl) (Nat.le_of_ble_eq_true rfl) dX0_init_47 (fun a6 cA H hK1 hP hD hS => ?_)
  have e2 := zz_sameI hK1 (i := 0) (j := 2) rfl rfl
  subst e2
  refine W.widen (k := 6) (n := 396) (Nat.le_of_ble_eq_true rfl) (Nat.le_of_ble_eq_true rfl) ?_
  refine va_putF (D := D) (ci := 0) (v := .ref a6) (ty := .array .int) (C := RX0) (T := TX0) (N := 19) hx hb hts in_X0 tyX0 tyX0_ok nmX0 hown hK hP hD hS 0 rfl rfl 6 (by decide) (hts _ q34) (fun _ h9 => h9) rfl hin rfl (by decide +kernel) rfl rfl (Nat.le_of_ble_eq_true rfl) dX0_init_49 (fun H locs hP hD hS => ?_)
  have hP : va_P D vwCl [(h0, .inr (0, [.int (nI 0), .ref a1, .ref a2, .ref a3, .ref a4, .ref a5, .ref a6, .null, .null, .null, .null, .null, .null, .null, .null, .null, .null, .int (nI 0), .null])), (a1, .inl (ki, 96, .inl (fun _ => nI 0))), (a2, .inl (kz, 6, .inl (fun _ => nI 0))), (a3, .inl (ki, 6, .inl (fun _ => nI 0))), (a4, .inl (ki, 96, .inl (fun _ => nI 0))), (a5, .inl (ki, 96, .inl (fun _ => nI 0))), (a6, .inl (ki, 96, .inl (fun _ => nI 0)))] H := hP
  have hD : va_D A [(h0, .inr (0, [.int (nI 0), .ref a1, .ref a2, .ref a3, .ref a4, .ref a5, .ref a6, .null, .null, .null, .null, .null, .null, .null, .null, .null, .null, .int (nI 0), .null])), (a1, .inl (ki, 96, .inl (fun _ => nI 0))), (a2, .inl (kz, 6, .inl (fun _ => nI 0))), (a3, .inl (ki, 6, .inl (fun _ => nI 0))), (a4, .inl (ki, 96, .inl (fun _ => nI 0))), (a5, .inl (ki, 96, .inl (fun _ => nI 0))), (a6, .inl (ki, 96, .inl (fun _ => nI 0)))] := hD
  refine lv_aload_n hx hb dX0_init_52 rfl (lv_at hl 0 rfl) ?_
  refine lv_bipush (v := nI 96) hx hb dX0_init_53 (by decide) ?_
  refine va_newa (atype := .int) (N' := 96) (a0 := (96, .inl (fun _ => nI 0))) (ty := .int) hx hb (hts _ q86) rfl hK hP hD hS hA (fun cA => rfl) (by decide) (by decide) (by decide) (Nat.le_of_ble_eq_true rfl) (Nat.le_of_ble_eq_true rfl) dX0_init_55 (fun a7 cA H hK1 hP hD hS => ?_)
  have e2 := zz_sameI hK1 (i := 0) (j := 2) rfl rfl
  subst e2
  refine W.widen (k := 7) (n := 492) (Nat.le_of_ble_eq_true rfl) (Nat.le_of_ble_eq_true rfl) ?_
  refine va_putF (D := D) (ci := 0) (v := .ref a7) (ty := .array .int) (C := RX0) (T := TX0) (N := 19) hx hb hts in_X0 tyX0 tyX0_ok nmX0 hown hK hP hD hS 0 rfl rfl 7 (by decide) (hts _ q35) (fun _ h9 => h9) rfl hin rfl (by decide +kernel) rfl rfl (Nat.le_of_ble_eq_true rfl) dX0_init_57 (fun H locs hP hD hS => ?_)
  have hP : va_P D vwCl [(h0, .inr (0, [.int (nI 0), .ref a1, .ref a2, .ref a3, .ref a4, .ref a5, .ref a6, .ref a7, .null, .null, .null, .null, .null, .null, .null, .null, .null, .int (nI 0), .null])), (a1, .inl (ki, 96, .inl (fun _ => nI 0))), (a2, .inl (kz, 6, .inl (fun _ => nI 0))), (a3, .inl (ki, 6, .inl (fun _ => nI 0))), (a4, .inl (ki, 96, .inl (fun _ => nI 0))), (a5, .inl (ki, 96, .inl (fun _ => nI 0))), (a6, .inl (ki, 96, .inl (fun _ => nI 0))), (a7, .inl (ki, 96, .inl (fun _ => nI 0)))] H := hP
  have hD : va_D A [(h0, .inr (0, [.int (nI 0), .ref a1, .ref a2, .ref a3, .ref a4, .ref a5, .ref a6, .ref a7, .null, .null, .null, .null, .null, .null, .null, .null, .null, .int (nI 0), .null])), (a1, .inl (ki, 96, .inl (fun _ => nI 0))), (a2, .inl (kz, 6, .inl (fun _ => nI 0))), (a3, .inl (ki, 6, .inl (fun _ => nI 0))), (a4, .inl (ki, 96, .inl (fun _ => nI 0))), (a5, .inl (ki, 96, .inl (fun _ => nI 0))), (a6, .inl (ki, 96, .inl (fun _ => nI 0))), (a7, .inl (ki, 96, .inl (fun _ => nI 0)))] := hD
  refine lv_aload_n hx hb dX0_init_60 rfl (lv_at hl 0 rfl) ?_
  refine lv_bipush (v := nI 96) hx hb dX0_init_61 (by decide) ?_
  refine va_newa (atype := .int) (N' := 96) (a0 := (96, .inl (fun _ => nI 0))) (ty := .int) hx hb (hts _ q86) rfl hK hP hD hS hA (fun cA => rfl) (by decide) (by decide) (by decide) (Nat.le_of_ble_eq_true rfl) (Nat.le_of_ble_eq_true rfl) dX0_init_63 (fun a8 cA H hK1 hP hD hS => ?_)
  have e2 := zz_sameI hK1 (i := 0) (j := 2) rfl rfl
  subst e2
  refine W.widen (k := 8) (n := 588) (Nat.le_of_ble_eq_true rfl) (Nat.le_of_ble_eq_true rfl) ?_
  refine va_putF (D := D) (ci := 0) (v := .ref a8) (ty := .array .int) (C := RX0) (T := TX0) (N := 19) hx hb hts in_X0 tyX0 tyX0_ok nmX0 hown hK hP hD hS 0 rfl rfl 8 (by decide) (hts _ q36) (fun _ h9 => h9) rfl hin rfl (by decide +kernel) rfl rfl (Nat.le_of_ble_eq_true rfl) dX0_init_65 (fun H locs hP hD hS => ?_)
  have hP : va_P D vwCl [(h0, .inr (0, [.int (nI 0), .ref a1, .ref a2, .ref a3, .ref a4, .ref a5, .ref a6, .ref a7, .ref a8, .null, .null, .null, .null, .null, .null, .null, .null, .int (nI 0), .null])), (a1, .inl (ki, 96, .inl (fun _ => nI 0))), (a2, .inl (kz, 6, .inl (fun _ => nI 0))), (a3, .inl (ki, 6, .inl (fun _ => nI 0))), (a4, .inl (ki, 96, .inl (fun _ => nI 0))), (a5, .inl (ki, 96, .inl (fun _ => nI 0))), (a6, .inl (ki, 96, .inl (fun _ => nI 0))), (a7, .inl (ki, 96, .inl (fun _ => nI 0))), (a8, .inl (ki, 96, .inl (fun _ => nI 0)))] H := hP
  have hD : va_D A [(h0, .inr (0, [.int (nI 0), .ref a1, .ref a2, .ref a3, .ref a4, .ref a5, .ref a6, .ref a7, .ref a8, .null, .null, .null, .null, .null, .null, .null, .null, .int (nI 0), .null])), (a1, .inl (ki, 96, .inl (fun _ => nI 0))), (a2, .inl (kz, 6, .inl (fun _ => nI 0))), (a3, .inl (ki, 6, .inl (fun _ => nI 0))), (a4, .inl (ki, 96, .inl (fun _ => nI 0))), (a5, .inl (ki, 96, .inl (fun _ => nI 0))), (a6, .inl (ki, 96, .inl (fun _ => nI 0))), (a7, .inl (ki, 96, .inl (fun _ => nI 0))), (a8, .inl (ki, 96, .inl (fun _ => nI 0)))] := hD
  refine lv_aload_n hx hb dX0_init_68 rfl (lv_at hl 0 rfl) ?_
  refine lv_sipush (v := nI 1536) hx hb dX0_init_69 (by decide) ?_
  refine va_newa (atype := .int) (N' := 1536) (a0 := (1536, .inl (fun _ => nI 0))) (ty := .int) hx hb (hts _ q86) rfl hK hP hD hS hA (fun cA => rfl) (by decide) (by decide) (by decide) (Nat.le_of_ble_eq_true rfl) (Nat.le_of_ble_eq_true rfl) dX0_init_72 (fun a9 cA H hK1 hP hD hS => ?_)
  have e2 := zz_sameI hK1 (i := 0) (j := 2) rfl rfl
  subst e2
  refine W.widen (k := 9) (n := 2124) (Nat.le_of_ble_eq_true rfl) (Nat.le_of_ble_eq_true rfl) ?_
  refine va_putF (D := D) (ci := 0) (v := .ref a9) (ty := .array .int) (C := RX0) (T := TX0) (N := 19) hx hb hts in_X0 tyX0 tyX0_ok nmX0 hown hK hP hD hS 0 rfl rfl 9 (by decide) (hts _ q37) (fun _ h9 => h9) rfl hin rfl (by decide +kernel) rfl rfl (Nat.le_of_ble_eq_true rfl) dX0_init_74 (fun H locs hP hD hS => ?_)
  have hP : va_P D vwCl [(h0, .inr (0, [.int (nI 0), .ref a1, .ref a2, .ref a3, .ref a4, .ref a5, .ref a6, .ref a7, .ref a8, .ref a9, .null, .null, .null, .null, .null, .null, .null, .int (nI 0), .null])), (a1, .inl (ki, 96, .inl (fun _ => nI 0))), (a2, .inl (kz, 6, .inl (fun _ => nI 0))), (a3, .inl (ki, 6, .inl (fun _ => nI 0))), (a4, .inl (ki, 96, .inl (fun _ => nI 0))), (a5, .inl (ki, 96, .inl (fun _ => nI 0))), (a6, .inl (ki, 96, .inl (fun _ => nI 0))), (a7, .inl (ki, 96, .inl (fun _ => nI 0))), (a8, .inl (ki, 96, .inl (fun _ => nI 0))), (a9, .inl (ki, 1536, .inl (fun _ => nI 0)))] H := hP
  have hD : va_D A [(h0, .inr (0, [.int (nI 0), .ref a1, .ref a2, .ref a3, .ref a4, .ref a5, .ref a6, .ref a7, .ref a8, .ref a9, .null, .null, .null, .null, .null, .null, .null, .int (nI 0), .null])), (a1, .inl (ki, 96, .inl (fun _ => nI 0))), (a2, .inl (kz, 6, .inl (fun _ => nI 0))), (a3, .inl (ki, 6, .inl (fun _ => nI 0))), (a4, .inl (ki, 96, .inl (fun _ => nI 0))), (a5, .inl (ki, 96, .inl (fun _ => nI 0))), (a6, .inl (ki, 96, .inl (fun _ => nI 0))), (a7, .inl (ki, 96, .inl (fun _ => nI 0))), (a8, .inl (ki, 96, .inl (fun _ => nI 0))), (a9, .inl (ki, 1536, .inl (fun _ => nI 0)))] := hD
  refine lv_aload_n hx hb dX0_init_77 rfl (lv_at hl 0 rfl) ?_
  refine lv_bipush (v := nI 96) hx hb dX0_init_78 (by decide) ?_
  refine va_newa (atype := .int) (N' := 96) (a0 := (96, .inl (fun _ => nI 0))) (ty := .int) hx hb (hts _ q86) rfl hK hP hD hS hA (fun cA => rfl) (by decide) (by decide) (by decide) (Nat.le_of_ble_eq_true rfl) (Nat.le_of_ble_eq_true rfl) dX0_init_80 (fun a10 cA H hK1 hP hD hS => ?_)
  have e2 := zz_sameI hK1 (i := 0) (j := 2) rfl rfl
  subst e2
  refine W.widen (k := 10) (n := 2220) (Nat.le_of_ble_eq_true rfl) (Nat.le_of_ble_eq_true rfl) ?_
  refine va_putF (D := D) (ci := 0) (v := .ref a10) (ty := .array .int) (C := RX0) (T := TX0) (N := 19) hx hb hts in_X0 tyX0 tyX0_ok nmX0 hown hK hP hD hS 0 rfl rfl 10 (by decide) (hts _ q38) (fun _ h9 => h9) rfl hin rfl (by decide +kernel) rfl rfl (Nat.le_of_ble_eq_true rfl) dX0_init_82 (fun H locs hP hD hS => ?_)
  have hP : va_P D vwCl [(h0, .inr (0, [.int (nI 0), .ref a1, .ref a2, .ref a3, .ref a4, .ref a5, .ref a6, .ref a7, .ref a8, .ref a9, .ref a10, .null, .null, .null, .null, .null, .null, .int (nI 0), .null])), (a1, .inl (ki, 96, .inl (fun _ => nI 0))), (a2, .inl (kz, 6, .inl (fun _ => nI 0))), (a3, .inl (ki, 6, .inl (fun _ => nI 0))), (a4, .inl (ki, 96, .inl (fun _ => nI 0))), (a5, .inl (ki, 96, .inl (fun _ => nI 0))), (a6, .inl (ki, 96, .inl (fun _ => nI 0))), (a7, .inl (ki, 96, .inl (fun _ => nI 0))), (a8, .inl (ki, 96, .inl (fun _ => nI 0))), (a9, .inl (ki, 1536, .inl (fun _ => nI 0))), (a10, .inl (ki, 96, .inl (fun _ => nI 0)))] H := hP
  have hD : va_D A [(h0, .inr (0, [.int (nI 0), .ref a1, .ref a2, .ref a3, .ref a4, .ref a5, .ref a6, .ref a7, .ref a8, .ref a9, .ref a10, .null, .null, .null, .null, .null, .null, .int (nI 0), .null])), (a1, .inl (ki, 96, .inl (fun _ => nI 0))), (a2, .inl (kz, 6, .inl (fun _ => nI 0))), (a3, .inl (ki, 6, .inl (fun _ => nI 0))), (a4, .inl (ki, 96, .inl (fun _ => nI 0))), (a5, .inl (ki, 96, .inl (fun _ => nI 0))), (a6, .inl (ki, 96, .inl (fun _ => nI 0))), (a7, .inl (ki, 96, .inl (fun _ => nI 0))), (a8, .inl (ki, 96, .inl (fun _ => nI 0))), (a9, .inl (ki, 1536, .inl (fun _ => nI 0))), (a10, .inl (ki, 96, .inl (fun _ => nI 0)))] := hD
  refine lv_aload_n hx hb dX0_init_85 rfl (lv_at hl 0 rfl) ?_
  refine lv_bipush (v := nI 96) hx hb dX0_init_86 (by decide) ?_
  refine va_newa (atype := .int) (N' := 96) (a0 := (96, .inl (fun _ => nI 0))) (ty := .int) hx hb (hts _ q86) rfl hK hP hD hS hA (fun cA => rfl) (by decide) (by decide) (by decide) (Nat.le_of_ble_eq_true rfl) (Nat.le_of_ble_eq_true rfl) dX0_init_88 (fun a11 cA H hK1 hP hD hS => ?_)
  have e2 := zz_sameI hK1 (i := 0) (j := 2) rfl rfl
  subst e2
  refine W.widen (k := 11) (n := 2316) (Nat.le_of_ble_eq_true rfl) (Nat.le_of_ble_eq_true rfl) ?_
  refine va_putF (D := D) (ci := 0) (v := .ref a11) (ty := .array .int) (C := RX0) (T := TX0) (N := 19) hx hb hts in_X0 tyX0 tyX0_ok nmX0 hown hK hP hD hS 0 rfl rfl 11 (by decide) (hts _ q39) (fun _ h9 => h9) rfl hin rfl (by decide +kernel) rfl rfl (Nat.le_of_ble_eq_true rfl) dX0_init_90 (fun H locs hP hD hS => ?_)
  have hP : va_P D vwCl [(h0, .inr (0, [.int (nI 0), .ref a1, .ref a2, .ref a3, .ref a4, .ref a5, .ref a6, .ref a7, .ref a8, .ref a9, .ref a10, .ref a11, .null, .null, .null, .null, .null, .int (nI 0), .null])), (a1, .inl (ki, 96, .inl (fun _ => nI 0))), (a2, .inl (kz, 6, .inl (fun _ => nI 0))), (a3, .inl (ki, 6, .inl (fun _ => nI 0))), (a4, .inl (ki, 96, .inl (fun _ => nI 0))), (a5, .inl (ki, 96, .inl (fun _ => nI 0))), (a6, .inl (ki, 96, .inl (fun _ => nI 0))), (a7, .inl (ki, 96, .inl (fun _ => nI 0))), (a8, .inl (ki, 96, .inl (fun _ => nI 0))), (a9, .inl (ki, 1536, .inl (fun _ => nI 0))), (a10, .inl (ki, 96, .inl (fun _ => nI 0))), (a11, .inl (ki, 96, .inl (fun _ => nI 0)))] H := hP
  have hD : va_D A [(h0, .inr (0, [.int (nI 0), .ref a1, .ref a2, .ref a3, .ref a4, .ref a5, .ref a6, .ref a7, .ref a8, .ref a9, .ref a10, .ref a11, .null, .null, .null, .null, .null, .int (nI 0), .null])), (a1, .inl (ki, 96, .inl (fun _ => nI 0))), (a2, .inl (kz, 6, .inl (fun _ => nI 0))), (a3, .inl (ki, 6, .inl (fun _ => nI 0))), (a4, .inl (ki, 96, .inl (fun _ => nI 0))), (a5, .inl (ki, 96, .inl (fun _ => nI 0))), (a6, .inl (ki, 96, .inl (fun _ => nI 0))), (a7, .inl (ki, 96, .inl (fun _ => nI 0))), (a8, .inl (ki, 96, .inl (fun _ => nI 0))), (a9, .inl (ki, 1536, .inl (fun _ => nI 0))), (a10, .inl (ki, 96, .inl (fun _ => nI 0))), (a11, .inl (ki, 96, .inl (fun _ => nI 0)))] := hD
  refine lv_aload_n hx hb dX0_init_93 rfl (lv_at hl 0 rfl) ?_
  refine lv_bipush (v := nI 96) hx hb dX0_init_94 (by decide) ?_
  refine va_newa (atype := .int) (N' := 96) (a0 := (96, .inl (fun _ => nI 0))) (ty := .int) hx hb (hts _ q86) rfl hK hP hD hS hA (fun cA => rfl) (by decide) (by decide) (by decide) (Nat.le_of_ble_eq_true rfl) (Nat.le_of_ble_eq_true rfl) dX0_init_96 (fun a12 cA H hK1 hP hD hS => ?_)
  have e2 := zz_sameI hK1 (i := 0) (j := 2) rfl rfl
  subst e2
  refine W.widen (k := 12) (n := 2412) (Nat.le_of_ble_eq_true rfl) (Nat.le_of_ble_eq_true rfl) ?_
  refine va_putF (D := D) (ci := 0) (v := .ref a12) (ty := .array .int) (C := RX0) (T := TX0) (N := 19) hx hb hts in_X0 tyX0 tyX0_ok nmX0 hown hK hP hD hS 0 rfl rfl 12 (by decide) (hts _ q40) (fun _ h9 => h9) rfl hin rfl (by decide +kernel) rfl rfl (Nat.le_of_ble_eq_true rfl) dX0_init_98 (fun H locs hP hD hS => ?_)
  have hP : va_P D vwCl [(h0, .inr (0, [.int (nI 0), .ref a1, .ref a2, .ref a3, .ref a4, .ref a5, .ref a6, .ref a7, .ref a8, .ref a9, .ref a10, .ref a11, .ref a12, .null, .null, .null, .null, .int (nI 0), .null])), (a1, .inl (ki, 96, .inl (fun _ => nI 0))), (a2, .inl (kz, 6, .inl (fun _ => nI 0))), (a3, .inl (ki, 6, .inl (fun _ => nI 0))), (a4, .inl (ki, 96, .inl (fun _ => nI 0))), (a5, .inl (ki, 96, .inl (fun _ => nI 0))), (a6, .inl (ki, 96, .inl (fun _ => nI 0))), (a7, .inl (ki, 96, .inl (fun _ => nI 0))), (a8, .inl (ki, 96, .inl (fun _ => nI 0))), (a9, .inl (ki, 1536, .inl (fun _ => nI 0))), (a10, .inl (ki, 96, .inl (fun _ => nI 0))), (a11, .inl (ki, 96, .inl (fun _ => nI 0))), (a12, .inl (ki, 96, .inl (fun _ => nI 0)))] H := hP
  have hD : va_D A [(h0, .inr (0, [.int (nI 0), .ref a1, .ref a2, .ref a3, .ref a4, .ref a5, .ref a6, .ref a7, .ref a8, .ref a9, .ref a10, .ref a11, .ref a12, .null, .null, .null, .null, .int (nI 0), .null])), (a1, .inl (ki, 96, .inl (fun _ => nI 0))), (a2, .inl (kz, 6, .inl (fun _ => nI 0))), (a3, .inl (ki, 6, .inl (fun _ => nI 0))), (a4, .inl (ki, 96, .inl (fun _ => nI 0))), (a5, .inl (ki, 96, .inl (fun _ => nI 0))), (a6, .inl (ki, 96, .inl (fun _ => nI 0))), (a7, .inl (ki, 96, .inl (fun _ => nI 0))), (a8, .inl (ki, 96, .inl (fun _ => nI 0))), (a9, .inl (ki, 1536, .inl (fun _ => nI 0))), (a10, .inl (ki, 96, .inl (fun _ => nI 0))), (a11, .inl (ki, 96, .inl (fun _ => nI 0))), (a12, .inl (ki, 96, .inl (fun _ => nI 0)))] := hD
  refine lv_aload_n hx hb dX0_init_101 rfl (lv_at hl 0 rfl) ?_
  refine lv_bipush (v := nI 16) hx hb dX0_init_102 (by decide) ?_
  refine va_newa (atype := .int) (N' := 16) (a0 := (16, .inl (fun _ => nI 0))) (ty := .int) hx hb (hts _ q86) rfl hK hP hD hS hA (fun cA => rfl) (by decide) (by decide) (by decide) (Nat.le_of_ble_eq_true rfl) (Nat.le_of_ble_eq_true rfl) dX0_init_104 (fun a13 cA H hK1 hP hD hS => ?_)
  have e2 := zz_sameI hK1 (i := 0) (j := 2) rfl rfl
  subst e2
  refine W.widen (k := 13) (n := 2428) (Nat.le_of_ble_eq_true rfl) (Nat.le_of_ble_eq_true rfl) ?_
  refine va_putF (D := D) (ci := 0) (v := .ref a13) (ty := .array .int) (C := RX0) (T := TX0) (N := 19) hx hb hts in_X0 tyX0 tyX0_ok nmX0 hown hK hP hD hS 0 rfl rfl 13 (by decide) (hts _ q41) (fun _ h9 => h9) rfl hin rfl (by decide +kernel) rfl rfl (Nat.le_of_ble_eq_true rfl) dX0_init_106 (fun H locs hP hD hS => ?_)
  have hP : va_P D vwCl [(h0, .inr (0, [.int (nI 0), .ref a1, .ref a2, .ref a3, .ref a4, .ref a5, .ref a6, .ref a7, .ref a8, .ref a9, .ref a10, .ref a11, .ref a12, .ref a13, .null, .null, .null, .int (nI 0), .null])), (a1, .inl (ki, 96, .inl (fun _ => nI 0))), (a2, .inl (kz, 6, .inl (fun _ => nI 0))), (a3, .inl (ki, 6, .inl (fun _ => nI 0))), (a4, .inl (ki, 96, .inl (fun _ => nI 0))), (a5, .inl (ki, 96, .inl (fun _ => nI 0))), (a6, .inl (ki, 96, .inl (fun _ => nI 0))), (a7, .inl (ki, 96, .inl (fun _ => nI 0))), (a8, .inl (ki, 96, .inl (fun _ => nI 0))), (a9, .inl (ki, 1536, .inl (fun _ => nI 0))), (a10, .inl (ki, 96, .inl (fun _ => nI 0))), (a11, .inl (ki, 96, .inl (fun _ => nI 0))), (a12, .inl (ki, 96, .inl (fun _ => nI 0))), (a13, .inl (ki, 16, .inl (fun _ => nI 0)))] H := hP
  have hD : va_D A [(h0, .inr (0, [.int (nI 0), .ref a1, .ref a2, .ref a3, .ref a4, .ref a5, .ref a6, .ref a7, .ref a8, .ref a9, .ref a10, .ref a11, .ref a12, .ref a13, .null, .null, .null, .int (nI 0), .null])), (a1, .inl (ki, 96, .inl (fun _ => nI 0))), (a2, .inl (kz, 6, .inl (fun _ => nI 0))), (a3, .inl (ki, 6, .inl (fun _ => nI 0))), (a4, .inl (ki, 96, .inl (fun _ => nI 0))), (a5, .inl (ki, 96, .inl (fun _ => nI 0))), (a6, .inl (ki, 96, .inl (fun _ => nI 0))), (a7, .inl (ki, 96, .inl (fun _ => nI 0))), (a8, .inl (ki, 96, .inl (fun _ => nI 0))), (a9, .inl (ki, 1536, .inl (fun _ => nI 0))), (a10, .inl (ki, 96, .inl (fun _ => nI 0))), (a11, .inl (ki, 96, .inl (fun _ => nI 0))), (a12, .inl (ki, 96, .inl (fun _ => nI 0))), (a13, .inl (ki, 16, .inl (fun _ => nI 0)))] := hD
  refine lv_aload_n hx hb dX0_init_109 rfl (lv_at hl 0 rfl) ?_
  refine lv_bipush (v := nI 16) hx hb dX0_init_110 (by decide) ?_
  refine va_newa (atype := .int) (N' := 16) (a0 := (16, .inl (fun _ => nI 0))) (ty := .int) hx hb (hts _ q86) rfl hK hP hD hS hA (fun cA => rfl) (by decide) (by decide) (by decide) (Nat.le_of_ble_eq_true rfl) (Nat.le_of_ble_eq_true rfl) dX0_init_112 (fun a14 cA H hK1 hP hD hS => ?_)
  have e2 := zz_sameI hK1 (i := 0) (j := 2) rfl rfl
  subst e2
  refine W.widen (k := 14) (n := 2444) (Nat.le_of_ble_eq_true rfl) (Nat.le_of_ble_eq_true rfl) ?_
  refine va_putF (D := D) (ci := 0) (v := .ref a14) (ty := .array .int) (C := RX0) (T := TX0) (N := 19) hx hb hts in_X0 tyX0 tyX0_ok nmX0 hown hK hP hD hS 0 rfl rfl 14 (by decide) (hts _ q42) (fun _ h9 => h9) rfl hin rfl (by decide +kernel) rfl rfl (Nat.le_of_ble_eq_true rfl) dX0_init_114 (fun H locs hP hD hS => ?_)
  have hP : va_P D vwCl [(h0, .inr (0, [.int (nI 0), .ref a1, .ref a2, .ref a3, .ref a4, .ref a5, .ref a6, .ref a7, .ref a8, .ref a9, .ref a10, .ref a11, .ref a12, .ref a13, .ref a14, .null, .null, .int (nI 0), .null])), (a1, .inl (ki, 96, .inl (fun _ => nI 0))), (a2, .inl (kz, 6, .inl (fun _ => nI 0))), (a3, .inl (ki, 6, .inl (fun _ => nI 0))), (a4, .inl (ki, 96, .inl (fun _ => nI 0))), (a5, .inl (ki, 96, .inl (fun _ => nI 0))), (a6, .inl (ki, 96, .inl (fun _ => nI 0))), (a7, .inl (ki, 96, .inl (fun _ => nI 0))), (a8, .inl (ki, 96, .inl (fun _ => nI 0))), (a9, .inl (ki, 1536, .inl (fun _ => nI 0))), (a10, .inl (ki, 96, .inl (fun _ => nI 0))), (a11, .inl (ki, 96, .inl (fun _ => nI 0))), (a12, .inl (ki, 96, .inl (fun _ => nI 0))), (a13, .inl (ki, 16, .inl (fun _ => nI 0))), (a14, .inl (ki, 16, .inl (fun _ => nI 0)))] H := hP
  have hD : va_D A [(h0, .inr (0, [.int (nI 0), .ref a1, .ref a2, .ref a3, .ref a4, .ref a5, .ref a6, .ref a7, .ref a8, .ref a9, .ref a10, .ref a11, .ref a12, .ref a13, .ref a14, .null, .null, .int (nI 0), .null])), (a1, .inl (ki, 96, .inl (fun _ => nI 0))), (a2, .inl (kz, 6, .inl (fun _ => nI 0))), (a3, .inl (ki, 6, .inl (fun _ => nI 0))), (a4, .inl (ki, 96, .inl (fun _ => nI 0))), (a5, .inl (ki, 96, .inl (fun _ => nI 0))), (a6, .inl (ki, 96, .inl (fun _ => nI 0))), (a7, .inl (ki, 96, .inl (fun _ => nI 0))), (a8, .inl (ki, 96, .inl (fun _ => nI 0))), (a9, .inl (ki, 1536, .inl (fun _ => nI 0))), (a10, .inl (ki, 96, .inl (fun _ => nI 0))), (a11, .inl (ki, 96, .inl (fun _ => nI 0))), (a12, .inl (ki, 96, .inl (fun _ => nI 0))), (a13, .inl (ki, 16, .inl (fun _ => nI 0))), (a14, .inl (ki, 16, .inl (fun _ => nI 0)))] := hD
  refine lv_aload_n hx hb dX0_init_117 rfl (lv_at hl 0 rfl) ?_
  refine lv_bipush (v := nI 16) hx hb dX0_init_118 (by decide) ?_
  refine va_newa (atype := .int) (N' := 16) (a0 := (16, .inl (fun _ => nI 0))) (ty := .int) hx hb (hts _ q86) rfl hK hP hD hS hA (fun cA => rfl) (by decide) (by decide) (by decide) (Nat.le_of_ble_eq_true rfl) (Nat.le_of_ble_eq_true rfl) dX0_init_120 (fun a15 cA H hK1 hP hD hS => ?_)
  have e2 := zz_sameI hK1 (i := 0) (j := 2) rfl rfl
  subst e2
  refine W.widen (k := 15) (n := 2460) (Nat.le_of_ble_eq_true rfl) (Nat.le_of_ble_eq_true rfl) ?_
  refine va_putF (D := D) (ci := 0) (v := .ref a15) (ty := .array .int) (C := RX0) (T := TX0) (N := 19) hx hb hts in_X0 tyX0 tyX0_ok nmX0 hown hK hP hD hS 0 rfl rfl 15 (by decide) (hts _ q43) (fun _ h9 => h9) rfl hin rfl (by decide +kernel) rfl rfl (Nat.le_of_ble_eq_true rfl) dX0_init_122 (fun H locs hP hD hS => ?_)
  have hP : va_P D vwCl [(h0, .inr (0, [.int (nI 0), .ref a1, .ref a2, .ref a3, .ref a4, .ref a5, .ref a6, .ref a7, .ref a8, .ref a9, .ref a10, .ref a11, .ref a12, .ref a13, .ref a14, .ref a15, .null, .int (nI 0), .null])), (a1, .inl (ki, 96, .inl (fun _ => nI 0))), (a2, .inl (kz, 6, .inl (fun _ => nI 0))), (a3, .inl (ki, 6, .inl (fun _ => nI 0))), (a4, .inl (ki, 96, .inl (fun _ => nI 0))), (a5, .inl (ki, 96, .inl (fun _ => nI 0))), (a6, .inl (ki, 96, .inl (fun _ => nI 0))), (a7, .inl (ki, 96, .inl (fun _ => nI 0))), (a8, .inl (ki, 96, .inl (fun _ => nI 0))), (a9, .inl (ki, 1536, .inl (fun _ => nI 0))), (a10, .inl (ki, 96, .inl (fun _ => nI 0))), (a11, .inl (ki, 96, .inl (fun _ => nI 0))), (a12, .inl (ki, 96, .inl (fun _ => nI 0))), (a13, .inl (ki, 16, .inl (fun _ => nI 0))), (a14, .inl (ki, 16, .inl (fun _ => nI 0))), (a15, .inl (ki, 16, .inl (fun _ => nI 0)))] H := hP
  have hD : va_D A [(h0, .inr (0, [.int (nI 0), .ref a1, .ref a2, .ref a3, .ref a4, .ref a5, .ref a6, .ref a7, .ref a8, .ref a9, .ref a10, .ref a11, .ref a12, .ref a13, .ref a14, .ref a15, .null, .int (nI 0), .null])), (a1, .inl (ki, 96, .inl (fun _ => nI 0))), (a2, .inl (kz, 6, .inl (fun _ => nI 0))), (a3, .inl (ki, 6, .inl (fun _ => nI 0))), (a4, .inl (ki, 96, .inl (fun _ => nI 0))), (a5, .inl (ki, 96, .inl (fun _ => nI 0))), (a6, .inl (ki, 96, .inl (fun _ => nI 0))), (a7, .inl (ki, 96, .inl (fun _ => nI 0))), (a8, .inl (ki, 96, .inl (fun _ => nI 0))), (a9, .inl (ki, 1536, .inl (fun _ => nI 0))), (a10, .inl (ki, 96, .inl (fun _ => nI 0))), (a11, .inl (ki, 96, .inl (fun _ => nI 0))), (a12, .inl (ki, 96, .inl (fun _ => nI 0))), (a13, .inl (ki, 16, .inl (fun _ => nI 0))), (a14, .inl (ki, 16, .inl (fun _ => nI 0))), (a15, .inl (ki, 16, .inl (fun _ => nI 0)))] := hD
  refine lv_aload_n hx hb dX0_init_125 rfl (lv_at hl 0 rfl) ?_
  refine lv_bipush (v := nI 16) hx hb dX0_init_126 (by decide) ?_
  refine va_newa (atype := .int) (N' := 16) (a0 := (16, .inl (fun _ => nI 0))) (ty := .int) hx hb (hts _ q86) rfl hK hP hD hS hA (fun cA => rfl) (by decide) (by decide) (by decide) (Nat.le_of_ble_eq_true rfl) (Nat.le_of_ble_eq_true rfl) dX0_init_128 (fun a16 cA H hK1 hP hD hS => ?_)
  have e2 := zz_sameI hK1 (i := 0) (j := 2) rfl rfl
  subst e2
  refine W.widen (k := 16) (n := 2476) (Nat.le_of_ble_eq_true rfl) (Nat.le_of_ble_eq_true rfl) ?_
  refine va_putF (D := D) (ci := 0) (v := .ref a16) (ty := .array .int) (C := RX0) (T := TX0) (N := 19) hx hb hts in_X0 tyX0 tyX0_ok nmX0 hown hK hP hD hS 0 rfl rfl 16 (by decide) (hts _ q44) (fun _ h9 => h9) rfl hin rfl (by decide +kernel) rfl rfl (Nat.le_of_ble_eq_true rfl) dX0_init_130 (fun H locs hP hD hS => ?_)
  have hP : va_P D vwCl [(h0, .inr (0, [.int (nI 0), .ref a1, .ref a2, .ref a3, .ref a4, .ref a5, .ref a6, .ref a7, .ref a8, .ref a9, .ref a10, .ref a11, .ref a12, .ref a13, .ref a14, .ref a15, .ref a16, .int (nI 0), .null])), (a1, .inl (ki, 96, .inl (fun _ => nI 0))), (a2, .inl (kz, 6, .inl (fun _ => nI 0))), (a3, .inl (ki, 6, .inl (fun _ => nI 0))), (a4, .inl (ki, 96, .inl (fun _ => nI 0))), (a5, .inl (ki, 96, .inl (fun _ => nI 0))), (a6, .inl (ki, 96, .inl (fun _ => nI 0))), (a7, .inl (ki, 96, .inl (fun _ => nI 0))), (a8, .inl (ki, 96, .inl (fun _ => nI 0))), (a9, .inl (ki, 1536, .inl (fun _ => nI 0))), (a10, .inl (ki, 96, .inl (fun _ => nI 0))), (a11, .inl (ki, 96, .inl (fun _ => nI 0))), (a12, .inl (ki, 96, .inl (fun _ => nI 0))), (a13, .inl (ki, 16, .inl (fun _ => nI 0))), (a14, .inl (ki, 16, .inl (fun _ => nI 0))), (a15, .inl (ki, 16, .inl (fun _ => nI 0))), (a16, .inl (ki, 16, .inl (fun _ => nI 0)))] H := hP
  have hD : va_D A [(h0, .inr (0, [.int (nI 0), .ref a1, .ref a2, .ref a3, .ref a4, .ref a5, .ref a6, .ref a7, .ref a8, .ref a9, .ref a10, .ref a11, .ref a12, .ref a13, .ref a14, .ref a15, .ref a16, .int (nI 0), .null])), (a1, .inl (ki, 96, .inl (fun _ => nI 0))), (a2, .inl (kz, 6, .inl (fun _ => nI 0))), (a3, .inl (ki, 6, .inl (fun _ => nI 0))), (a4, .inl (ki, 96, .inl (fun _ => nI 0))), (a5, .inl (ki, 96, .inl (fun _ => nI 0))), (a6, .inl (ki, 96, .inl (fun _ => nI 0))), (a7, .inl (ki, 96, .inl (fun _ => nI 0))), (a8, .inl (ki, 96, .inl (fun _ => nI 0))), (a9, .inl (ki, 1536, .inl (fun _ => nI 0))), (a10, .inl (ki, 96, .inl (fun _ => nI 0))), (a11, .inl (ki, 96, .inl (fun _ => nI 0))), (a12, .inl (ki, 96, .inl (fun _ => nI 0))), (a13, .inl (ki, 16, .inl (fun _ => nI 0))), (a14, .inl (ki, 16, .inl (fun _ => nI 0))), (a15, .inl (ki, 16, .inl (fun _ => nI 0))), (a16, .inl (ki, 16, .inl (fun _ => nI 0)))] := hD
  refine lv_aload_n hx hb dX0_init_133 rfl (lv_at hl 0 rfl) ?_
  refine lv_bipush (v := nI 8) hx hb dX0_init_134 (by decide) ?_
  refine va_newa (atype := .int) (N' := 8) (a0 := (8, .inl (fun _ => nI 0))) (ty := .int) hx hb (hts _ q86) rfl hK hP hD hS hA (fun cA => rfl) (by decide) (by decide) (by decide) (Nat.le_of_ble_eq_true rfl) (Nat.le_of_ble_eq_true rfl) dX0_init_136 (fun a17 cA H hK1 hP hD hS => ?_)
  have e2 := zz_sameI hK1 (i := 0) (j := 2) rfl rfl
  subst e2
  refine W.widen (k := 17) (n := 2484) (Nat.le_of_ble_eq_true rfl) (Nat.le_of_ble_eq_true rfl) ?_
  refine va_putF (D := D) (ci := 0) (v := .ref a17) (ty := .array .int) (C := RX0) (T := TX0) (N := 19) hx hb hts in_X0 tyX0 tyX0_ok nmX0 hown hK hP hD hS 0 rfl rfl 18 (by decide) (hts _ q46) (fun _ h9 => h9) rfl hin rfl (by decide +kernel) rfl rfl (Nat.le_of_ble_eq_true rfl) dX0_init_138 (fun H locs hP hD hS => ?_)
  have hP : va_P D vwCl [(h0, .inr (0, [.int (nI 0), .ref a1, .ref a2, .ref a3, .ref a4, .ref a5, .ref a6, .ref a7, .ref a8, .ref a9, .ref a10, .ref a11, .ref a12, .ref a13, .ref a14, .ref a15, .ref a16, .int (nI 0), .ref a17])), (a1, .inl (ki, 96, .inl (fun _ => nI 0))), (a2, .inl (kz, 6, .inl (fun _ => nI 0))), (a3, .inl (ki, 6, .inl (fun _ => nI 0))), (a4, .inl (ki, 96, .inl (fun _ => nI 0))), (a5, .inl (ki, 96, .inl (fun _ => nI 0))), (a6, .inl (ki, 96, .inl (fun _ => nI 0))), (a7, .inl (ki, 96, .inl (fun _ => nI 0))), (a8, .inl (ki, 96, .inl (fun _ => nI 0))), (a9, .inl (ki, 1536, .inl (fun _ => nI 0))), (a10, .inl (ki, 96, .inl (fun _ => nI 0))), (a11, .inl (ki, 96, .inl (fun _ => nI 0))), (a12, .inl (ki, 96, .inl (fun _ => nI 0))), (a13, .inl (ki, 16, .inl (fun _ => nI 0))), (a14, .inl (ki, 16, .inl (fun _ => nI 0))), (a15, .inl (ki, 16, .inl (fun _ => nI 0))), (a16, .inl (ki, 16, .inl (fun _ => nI 0))), (a17, .inl (ki, 8, .inl (fun _ => nI 0)))] H := hP
  have hD : va_D A [(h0, .inr (0, [.int (nI 0), .ref a1, .ref a2, .ref a3, .ref a4, .ref a5, .ref a6, .ref a7, .ref a8, .ref a9, .ref a10, .ref a11, .ref a12, .ref a13, .ref a14, .ref a15, .ref a16, .int (nI 0), .ref a17])), (a1, .inl (ki, 96, .inl (fun _ => nI 0))), (a2, .inl (kz, 6, .inl (fun _ => nI 0))), (a3, .inl (ki, 6, .inl (fun _ => nI 0))), (a4, .inl (ki, 96, .inl (fun _ => nI 0))), (a5, .inl (ki, 96, .inl (fun _ => nI 0))), (a6, .inl (ki, 96, .inl (fun _ => nI 0))), (a7, .inl (ki, 96, .inl (fun _ => nI 0))), (a8, .inl (ki, 96, .inl (fun _ => nI 0))), (a9, .inl (ki, 1536, .inl (fun _ => nI 0))), (a10, .inl (ki, 96, .inl (fun _ => nI 0))), (a11, .inl (ki, 96, .inl (fun _ => nI 0))), (a12, .inl (ki, 96, .inl (fun _ => nI 0))), (a13, .inl (ki, 16, .inl (fun _ => nI 0))), (a14, .inl (ki, 16, .inl (fun _ => nI 0))), (a15, .inl (ki, 16, .inl (fun _ => nI 0))), (a16, .inl (ki, 16, .inl (fun _ => nI 0))), (a17, .inl (ki, 8, .inl (fun _ => nI 0)))] := hD
  refine lv_aload_n hx hb dX0_init_141 rfl (lv_at hl 0 rfl) ?_
  refine lv_iconst (v := nI 0) hx hb dX0_init_142 (by decide) ?_
  refine va_put (D := D) (ci := 0) (v := .int (nI 0)) (ty := .int) (C := RX0) (T := TX0) (N := 19) hx hb hts in_X0 tyX0 tyX0_ok nmX0 hown hK hP hD hS 0 rfl rfl 0 (by decide) (hts _ q28) (fun _ h9 => h9) rfl (by decide +kernel) rfl rfl (Nat.le_of_ble_eq_true rfl) dX0_init_143 (fun H locs hP hD hS => ?_)
  have hP : va_P D vwCl [(h0, .inr (0, [.int (nI 0), .ref a1, .ref a2, .ref a3, .ref a4, .ref a5, .ref a6, .ref a7, .ref a8, .ref a9, .ref a10, .ref a11, .ref a12, .ref a13, .ref a14, .ref a15, .ref a16, .int (nI 0), .ref a17])), (a1, .inl (ki, 96, .inl (fun _ => nI 0))), (a2, .inl (kz, 6, .inl (fun _ => nI 0))), (a3, .inl (ki, 6, .inl (fun _ => nI 0))), (a4, .inl (ki, 96, .inl (fun _ => nI 0))), (a5, .inl (ki, 96, .inl (fun _ => nI 0))), (a6, .inl (ki, 96, .inl (fun _ => nI 0))), (a7, .inl (ki, 96, .inl (fun _ => nI 0))), (a8, .inl (ki, 96, .inl (fun _ => nI 0))), (a9, .inl (ki, 1536, .inl (fun _ => nI 0))), (a10, .inl (ki, 96, .inl (fun _ => nI 0))), (a11, .inl (ki, 96, .inl (fun _ => nI 0))), (a12, .inl (ki, 96, .inl (fun _ => nI 0))), (a13, .inl (ki, 16, .inl (fun _ => nI 0))), (a14, .inl (ki, 16, .inl (fun _ => nI 0))), (a15, .inl (ki, 16, .inl (fun _ => nI 0))), (a16, .inl (ki, 16, .inl (fun _ => nI 0))), (a17, .inl (ki, 8, .inl (fun _ => nI 0)))] H := hP
  have hD : va_D A [(h0, .inr (0, [.int (nI 0), .ref a1, .ref a2, .ref a3, .ref a4, .ref a5, .ref a6, .ref a7, .ref a8, .ref a9, .ref a10, .ref a11, .ref a12, .ref a13, .ref a14, .ref a15, .ref a16, .int (nI 0), .ref a17])), (a1, .inl (ki, 96, .inl (fun _ => nI 0))), (a2, .inl (kz, 6, .inl (fun _ => nI 0))), (a3, .inl (ki, 6, .inl (fun _ => nI 0))), (a4, .inl (ki, 96, .inl (fun _ => nI 0))), (a5, .inl (ki, 96, .inl (fun _ => nI 0))), (a6, .inl (ki, 96, .inl (fun _ => nI 0))), (a7, .inl (ki, 96, .inl (fun _ => nI 0))), (a8, .inl (ki, 96, .inl (fun _ => nI 0))), (a9, .inl (ki, 1536, .inl (fun _ => nI 0))), (a10, .inl (ki, 96, .inl (fun _ => nI 0))), (a11, .inl (ki, 96, .inl (fun _ => nI 0))), (a12, .inl (ki, 96, .inl (fun _ => nI 0))), (a13, .inl (ki, 16, .inl (fun _ => nI 0))), (a14, .inl (ki, 16, .inl (fun _ => nI 0))), (a15, .inl (ki, 16, .inl (fun _ => nI 0))), (a16, .inl (ki, 16, .inl (fun _ => nI 0))), (a17, .inl (ki, 8, .inl (fun _ => nI 0)))] := hD
  refine W.vret hx hb hr (fun t ht hW => ⟨⟨(fun i => match i with | 0 => h0 | 1 => a1 | 2 => a2 | 3 => a3 | 4 => a4 | 5 => a5 | 6 => a6 | 7 => a7 | 8 => a8 | 9 => a9 | 10 => a10 | 11 => a11 | 12 => a12 | 13 => a13 | 14 => a14 | 15 => a15 | 16 => a16 | 18 => a17 | _ => 0), rfl, rfl, by rw [ht]; exact hP, va_K.moved hW.alike hK, hD⟩, hS.F ht⟩) hS.2.2 dX0_init_146
set_option maxHeartbeats 4000000 in
theorem m_initX1 (l : Launch) (D : va_G) (ki kz : ClassId) (a0 : Nat → Nat) (h0 sz : Nat) : Met l yX1_init (ws_ yX1_init cX1_init 1 none) { frames := 1, cells := 4, slots := 684, locals := 12 } (va_Pc [.ref h0] (fun U => U.heap.size = sz ∧ va_P D vwCl [(h0, .inr (1, [.null, .int (nI 0), .null, .null, .null]))] U.heap ∧ va_K D vwCl [(ki, .int), (kz, .boolean)] U ∧ va_D (fun _ => True) [(h0, .inr (1, [.null, .int (nI 0), .null, .null, .null]))])) (va_Qv (fun a : Nat → Nat => a 20 = h0 ∧ ∀ i, i < 20 → a i = a0 i) (fun (a : Nat → Nat) (t : State) => va_P D vwCl (wM (a, ki, kz) M00) t.heap ∧ va_K D vwCl [(ki, .int), (kz, .boolean)] t ∧ va_D (va_A [(h0, .inr (1, [.null, .int (nI 0), .null, .null, .null]))] sz) (wM (a, ki, kz) M00)) (va_A [(h0, .inr (1, [.null, .int (nI 0), .null, .null, .null]))] sz)) 4 684 (va_A [(h0, .inr (1, [.null, .int (nI 0), .null, .null, .null]))] sz) := by
  refine Met.ofW (cc := cX1_init) (maxL := 1) (ret := none) (by decide) rfl ?_
  intro p e s m args below meth c s₁ B hml hv
  obtain ⟨rfl, hsz, hP, hK, hD0⟩ := hv
  have hx := B.exec
  have hb := B.bytes
  have hr := B.returns
  have hts := atoms_spec (ws := (ws_ yX1_init cX1_init 1 none)) B.pre
  have hts : ∀ w ∈ lw_all, w.before _ s = true := fun w h => hts w (List.mem_cons_of_mem _ h)
  have hown : s.vm.findClass RX1 = some m.cls := findClass_of_methodNamed B.named
  have hlocks := B.notSynchronized
  have hin : meth.name = "<init>" := (name_of_methodNamed B.named B.method).1
  subst hsz
  have hD := hD0.self (sz := s.heap.size)
  generalize hAe : va_A [(h0, .inr (1, [.null, .int (nI 0), .null, .null, .null]))] s.heap.size = A at hD ⊢
  have hA : ∀ q : Nat, s.heap.size ≤ q → A q := fun q h => by rw [← hAe]; exact Or.inr h
  have hS : va_S A s.heap s.heap [] := va_S.rf
  have hl := lv_entry ([.ref h0]) (n := 1) (Nat.le_of_ble_eq_true rfl)
  rw [lg_entry_eq]
  generalize (lg_sl ([.ref h0]) ++ List.replicate (1 - (lg_sl ([.ref h0])).length) Slot.unset).toArray = ls at hl ⊢
  have hl : lv_has ls 1 [(0, .ref h0)] := hl
  refine lv_aload_n hx hb dX1_init_0 rfl (lv_at hl 0 rfl) ?_
  refine W.objInit hx hb hown (hts _ q225) (hts _ q26) (hts _ q27) rfl (by rw [hml]; exact hl.1) rfl dX1_init_1 (Nat.le_of_ble_eq_true rfl) (Nat.le_of_ble_eq_true rfl) ?_
  refine W.eq (g2 := F0 m 4 ls []) rfl ?_
  refine lv_aload_n hx hb dX1_init_4 rfl (lv_at hl 0 rfl) ?_
  refine lv_bipush (v := nI 96) hx hb dX1_init_5 (by decide) ?_
  refine va_newa (atype := .int) (N' := 96) (a0 := (96, .inl (fun _ => nI 0))) (ty := .int) hx hb (hts _ q86) rfl hK hP hD hS hA (fun cA => rfl) (by decide) (by decide) (by decide) (Nat.le_of_ble_eq_true rfl) (Nat.le_of_ble_eq_true rfl) dX1_init_7 (fun a1 cA H hK1 hP hD hS => ?_)
  have e2 := zz_sameI hK1 (i := 0) (j := 2) rfl rfl
  subst e2
  refine W.widen (k := 1) (n := 96) (Nat.le_of_ble_eq_true rfl) (Nat.le_of_ble_eq_true rfl) ?_
  refine va_putF (D := D) (ci := 1) (v := .ref a1) (ty := .array .int) (C := RX1) (T := TX1) (N := 5) hx hb hts in_X1 tyX1 tyX1_ok nmX1 hown hK hP hD hS 0 rfl rfl 0 (by decide) (hts _ q226) (fun _ h9 => h9) rfl hin rfl (by decide +kernel) rfl rfl (Nat.le_of_ble_eq_true rfl) dX1_init_9 (fun H locs hP hD hS => ?_)
  have hP : va_P D vwCl [(h0, .inr (1, [.ref a1, .int (nI 0), .null, .null, .null])), (a1, .inl (ki, 96, .inl (fun _ => nI 0)))] H := hP
  have hD : va_D A [(h0, .inr (1, [.ref a1, .int (nI 0), .null, .null, .null])), (a1, .inl (ki, 96, .inl (fun _ => nI 0)))] := hD
  refine lv_aload_n hx hb dX1_init_12 rfl (lv_at hl 0 rfl) ?_
  refine lv_bipush (v := nI 6) hx hb dX1_init_13 (by decide) ?_
  refine va_newa (atype := .boolean) (N' := 6) (a0 := (6, .inl (fun _ => nI 0))) (ty := .boolean) hx hb (hts _ q87) rfl hK hP hD hS hA (fun cA => rfl) (by decide) (by decide) (by decide) (Nat.le_of_ble_eq_true rfl) (Nat.le_of_ble_eq_true rfl) dX1_init_15 (fun a2 cA H hK1 hP hD hS => ?_)
  have e2 := zz_sameZ hK1 (i := 1) (j := 2) rfl rfl
  subst e2
  refine W.widen (k := 2) (n := 102) (Nat.le_of_ble_eq_true rfl) (Nat.le_of_ble_eq_true rfl) ?_
  refine va_putF (D := D) (ci := 1) (v := .ref a2) (ty := .array .boolean) (C := RX1) (T := TX1) (N := 5) hx hb hts in_X1 tyX1 tyX1_ok nmX1 hown hK hP hD hS 0 rfl rfl 2 (by decide) (hts _ q228) (fun _ h9 => h9) rfl hin rfl (by decide +kernel) rfl rfl (Nat.le_of_ble_eq_true rfl) dX1_init_17 (fun H locs hP hD hS => ?_)
  have hP : va_P D vwCl [(h0, .inr (1, [.ref a1, .int (nI 0), .ref a2, .null, .null])), (a1, .inl (ki, 96, .inl (fun _ => nI 0))), (a2, .inl (kz, 6, .inl (fun _ => nI 0)))] H := hP
  have hD : va_D A [(h0, .inr (1, [.ref a1, .int (nI 0), .ref a2, .null, .null])), (a1, .inl (ki, 96, .inl (fun _ => nI 0))), (a2, .inl (kz, 6, .inl (fun _ => nI 0)))] := hD
  refine lv_aload_n hx hb dX1_init_20 rfl (lv_at hl 0 rfl) ?_
  refine lv_bipush (v := nI 6) hx hb dX1_init_21 (by decide) ?_
  refine va_newa (atype := .int) (N' := 6) (a0 := (6, .inl (fun _ => nI 0))) (ty := .int) hx hb (hts _ q86) rfl hK hP hD hS hA (fun cA => rfl) (by decide) (by decide) (by decide) (Nat.le_of_ble_eq_true rfl) (Nat.le_of_ble_eq_true rfl) dX1_init_23 (fun a3 cA H hK1 hP hD hS => ?_)
  have e2 := zz_sameI hK1 (i := 0) (j := 2) rfl rfl
  subst e2
  refine W.widen (k := 3) (n := 108) (Nat.le_of_ble_eq_true rfl) (Nat.le_of_ble_eq_true rfl) ?_
  refine va_putF (D := D) (ci := 1) (v := .ref a3) (ty := .array .int) (C := RX1) (T := TX1) (N := 5) hx hb hts in_X1 tyX1 tyX1_ok nmX1 hown hK hP hD hS 0 rfl rfl 3 (by decide) (hts _ q229) (fun _ h9 => h9) rfl hin rfl (by decide +kernel) rfl rfl (Nat.le_of_ble_eq_true rfl) dX1_init_25 (fun H locs hP hD hS => ?_)
  have hP : va_P D vwCl [(h0, .inr (1, [.ref a1, .int (nI 0), .ref a2, .ref a3, .null])), (a1, .inl (ki, 96, .inl (fun _ => nI 0))), (a2, .inl (kz, 6, .inl (fun _ => nI 0))), (a3, .inl (ki, 6, .inl (fun _ => nI 0)))] H := hP
  have hD : va_D A [(h0, .inr (1, [.ref a1, .int (nI 0), .ref a2, .ref a3, .null])), (a1, .inl (ki, 96, .inl (fun _ => nI 0))), (a2, .inl (kz, 6, .inl (fun _ => nI 0))), (a3, .inl (ki, 6, .inl (fun _ => nI 0)))] := hD
  refine lv_aload_n hx hb dX1_init_28 rfl (lv_at hl 0 rfl) ?_
  refine lv_sipush (v := nI 576) hx hb dX1_init_29 (by decide) ?_
  refine va_newa (atype := .int) (N' := 576) (a0 := (576, .inl (fun _ => nI 0))) (ty := .int) hx hb (hts _ q86) rfl hK hP hD hS hA (fun cA => rfl) (by decide) (by decide) (by decide) (Nat.le_of_ble_eq_true rfl) (Nat.le_of_ble_eq_true rfl) dX1_init_32 (fun a4 cA H hK1 hP hD hS => ?_)
  have e2 := zz_sameI hK1 (i := 0) (j := 2) rfl rfl
  subst e2
  refine W.widen (k := 4) (n := 684) (Nat.le_of_ble_eq_true rfl) (Nat.le_of_ble_eq_true rfl) ?_
  refine va_putF (D := D) (ci := 1) (v := .ref a4) (ty := .array .int) (C := RX1) (T := TX1) (N := 5) hx hb hts in_X1 tyX1 tyX1_ok nmX1 hown hK hP hD hS 0 rfl rfl 4 (by decide) (hts _ q230) (fun _ h9 => h9) rfl hin rfl (by decide +kernel) rfl rfl (Nat.le_of_ble_eq_true rfl) dX1_init_34 (fun H locs hP hD hS => ?_)
  have hP : va_P D vwCl [(h0, .inr (1, [.ref a1, .int (nI 0), .ref a2, .ref a3, .ref a4])), (a1, .inl (ki, 96, .inl (fun _ => nI 0))), (a2, .inl (kz, 6, .inl (fun _ => nI 0))), (a3, .inl (ki, 6, .inl (fun _ => nI 0))), (a4, .inl (ki, 576, .inl (fun _ => nI 0)))] H := hP
  have hD : va_D A [(h0, .inr (1, [.ref a1, .int (nI 0), .ref a2, .ref a3, .ref a4])), (a1, .inl (ki, 96, .inl (fun _ => nI 0))), (a2, .inl (kz, 6, .inl (fun _ => nI 0))), (a3, .inl (ki, 6, .inl (fun _ => nI 0))), (a4, .inl (ki, 576, .inl (fun _ => nI 0)))] := hD
  refine W.vret hx hb hr (fun t ht hW => ⟨⟨(fun i => match i with | 20 => h0 | 21 => a1 | 23 => a2 | 24 => a3 | 25 => a4 | j => a0 j), rfl, ⟨rfl, fun i hi => by
    match i, hi with
    | 0, _ => rfl
    | 1, _ => rfl
    | 2, _ => rfl
    | 3, _ => rfl
    | 4, _ => rfl
    | 5, _ => rfl
    | 6, _ => rfl
    | 7, _ => rfl
    | 8, _ => rfl
    | 9, _ => rfl
    | 10, _ => rfl
    | 11, _ => rfl
    | 12, _ => rfl
    | 13, _ => rfl
    | 14, _ => rfl
    | 15, _ => rfl
    | 16, _ => rfl
    | 17, _ => rfl
    | 18, _ => rfl
    | 19, _ => rfl
    | j + 20, hj => exact absurd hj (by omega)⟩, by rw [ht]; exact hP, va_K.moved hW.alike hK, hD⟩, hS.F ht⟩) hS.2.2 dX1_init_37
end
section
/-! each call has one answer; what the invariant gives the reference's contracts -/
theorem bad_eq {x : Int32} {s : Nat} (b : sd_Bad x) (hs : s < 6) (q : x = nI s) : False := by
  rw [q] at b
  rcases b with h | h
  · exact nI_pos (by omega) h
  · exact nI_ge (by omega) (by decide) h
theorem inj6 {s t : Nat} (hs : s < 6) (ht : t < 6) (e : nI s = nI t) : s = t := (nI_eq (by omega) (by omega)).mp e
theorem inj96 {s t : Nat} (hs : s ≤ 96) (ht : t ≤ 96) (e : nI s = nI t) : s = t := (nI_eq (by omega) (by omega)).mp e
theorem ix_no {y : Int32} {z j : Nat} (h : y < 0 ∨ nI z ≤ y) (hz : z ≤ 97) (hj : j < z) (e : y = nI j) : False := by
  rw [e] at h
  rcases h with h | h
  · exact nI_pos (by omega) h
  · exact nI_ge hj (by omega) h
section
variable {msz : Nat} {mst msv mss mby : Nat → Nat}
theorem det_feedRun {a b n r r2 : Int32} {m m2 : MT} (hz : msz ≤ 96) (h : SP_feedRun msz mst msv mss mby a b n r m) (h2 : SP_feedRun msz mst msv mss mby a b n r2 m2) : r = r2 ∧ m = m2 := by
  have big : ∀ c, c ≤ 96 - msz → (n = nI c ∨ n < 0 ∧ c = 0) → n ≤ nI (96 - msz) := fun c hc hn => by
    rcases hn with e | ⟨e, -⟩
    · rw [e]
      exact nI_le hc (by omega)
    · exact Int32.le_of_lt (Int32.lt_of_lt_of_le e (nI_pos' (by omega)))
  rcases h with ⟨c, hc, hn, rfl, rfl⟩ | ⟨hn, rfl, rfl⟩ <;> rcases h2 with ⟨c2, hc2, hn2, rfl, rfl⟩ | ⟨hn2, rfl, rfl⟩
  · have e : c = c2 := by
      rcases hn with e | ⟨e, e1⟩ <;> rcases hn2 with e' | ⟨e', e1'⟩
      · exact inj96 (by omega) (by omega) (e.symm.trans e')
      · rw [e] at e'
        exact absurd e' (nI_pos (by omega))
      · rw [e'] at e
        exact absurd e (nI_pos (by omega))
      · omega
    subst e
    exact ⟨rfl, rfl⟩
  · exact absurd (big c hc hn) hn2
  · exact absurd (big c2 hc2 hn2) hn
  · exact ⟨rfl, rfl⟩
theorem det_length {x r r2 : Int32} {m m2 : MT} (h : SP_length msz mst msv mss mby x r m) (h2 : SP_length msz mst msv mss mby x r2 m2) : r = r2 ∧ m = m2 := by
  obtain ⟨rfl, h⟩ := h
  obtain ⟨rfl, h2⟩ := h2
  refine ⟨?_, rfl⟩
  rcases h with ⟨b, rfl⟩ | ⟨s, hs, e1, e, rfl⟩ | ⟨s, hs, e1, e, rfl⟩ <;> rcases h2 with ⟨b', rfl⟩ | ⟨t, ht, q, e', rfl⟩ | ⟨t, ht, q, e', rfl⟩ <;> first
    | rfl
    | exact (bad_eq b ht q).elim
    | exact (bad_eq b' hs e1).elim
    | (have := inj6 hs ht (e1.symm.trans q); subst this; first | rfl | (exfalso; omega))
theorem det_sum {x r r2 : Int32} {m m2 : MT} (h : SP_sum msz mst msv mss mby x r m) (h2 : SP_sum msz mst msv mss mby x r2 m2) : r = r2 ∧ m = m2 := by
  obtain ⟨rfl, h⟩ := h
  obtain ⟨rfl, h2⟩ := h2
  refine ⟨?_, rfl⟩
  rcases h with ⟨b, rfl⟩ | ⟨s, hs, e1, e, rfl⟩ | ⟨s, hs, e1, e, rfl⟩ <;> rcases h2 with ⟨b', rfl⟩ | ⟨t, ht, q, e', rfl⟩ | ⟨t, ht, q, e', rfl⟩ <;> first
    | rfl
    | exact (bad_eq b ht q).elim
    | exact (bad_eq b' hs e1).elim
    | (have := inj6 hs ht (e1.symm.trans q); subst this; first | rfl | (exfalso; omega))
theorem det_byteAt {x y r r2 : Int32} {m m2 : MT} (h96 : ∀ s, s < 6 → 0 < msv s → mss s ≤ 96) (h : SP_byteAt msz mst msv mss mby x y r m) (h2 : SP_byteAt msz mst msv mss mby x y r2 m2) : r = r2 ∧ m = m2 := by
  obtain ⟨rfl, h⟩ := h
  obtain ⟨rfl, h2⟩ := h2
  refine ⟨?_, rfl⟩
  rcases h with ⟨b, rfl⟩ | ⟨s, hs, e1, e, rfl⟩ | ⟨s, hs, e1, e, h⟩ <;> rcases h2 with ⟨b', rfl⟩ | ⟨t, ht, q, e', rfl⟩ | ⟨t, ht, q, e', h2⟩ <;> first
    | rfl
    | exact (bad_eq b ht q).elim
    | exact (bad_eq b' hs e1).elim
    | (have := inj6 hs ht (e1.symm.trans q); subst this; first | rfl | (exfalso; omega) | skip)
  have hz := h96 s hs e
  rcases h with ⟨g1, rfl⟩ | ⟨j, hj, g1, rfl⟩ <;> rcases h2 with ⟨g2, rfl⟩ | ⟨j2, hj2, g2, rfl⟩
  · rfl
  · exact (ix_no g1 (by omega) hj2 g2).elim
  · exact (ix_no g2 (by omega) hj g1).elim
  · rw [inj96 (by omega) (by omega) (g1.symm.trans g2)]
theorem det_poke {x b r r2 : Int32} {m m2 : MT} (hz : msz ≤ 96) (h : SP_poke msz mst msv mss mby x b r m) (h2 : SP_poke msz mst msv mss mby x b r2 m2) : r = r2 ∧ m = m2 := by
  rcases h with ⟨j, hj, g1, rfl, rfl⟩ | ⟨g1, rfl, rfl⟩ <;> rcases h2 with ⟨j2, hj2, g2, rfl, rfl⟩ | ⟨g2, rfl, rfl⟩
  · have := inj96 (by omega) (by omega) (g1.symm.trans g2)
    subst this
    exact ⟨rfl, rfl⟩
  · exact (ix_no g2 (by omega) hj g1).elim
  · exact (ix_no g1 (by omega) hj2 g2).elim
  · exact ⟨rfl, rfl⟩
theorem det_stageByte {x r r2 : Int32} {m m2 : MT} (hz : msz ≤ 96) (h : SP_stageByte msz mst msv mss mby x r m) (h2 : SP_stageByte msz mst msv mss mby x r2 m2) : r = r2 ∧ m = m2 := by
  obtain ⟨rfl, h⟩ := h
  obtain ⟨rfl, h2⟩ := h2
  refine ⟨?_, rfl⟩
  rcases h with ⟨j, hj, g1, rfl⟩ | ⟨g1, rfl⟩ <;> rcases h2 with ⟨j2, hj2, g2, rfl⟩ | ⟨g2, rfl⟩
  · rw [inj96 (by omega) (by omega) (g1.symm.trans g2)]
  · exact (ix_no g2 (by omega) hj g1).elim
  · exact (ix_no g1 (by omega) hj2 g2).elim
  · rfl
theorem det_insert {x b r r2 : Int32} {m m2 : MT} (hz : msz ≤ 96) (h : SP_insert msz mst msv mss mby x b r m) (h2 : SP_insert msz mst msv mss mby x b r2 m2) : r = r2 ∧ m = m2 := by
  rcases h with ⟨j, hj, g1, k1, rfl, rfl⟩ | ⟨rfl, ⟨j, hj, g1, k1, rfl⟩ | ⟨g1, rfl⟩⟩ <;> rcases h2 with ⟨j2, hj2, g2, k2, rfl, rfl⟩ | ⟨rfl, ⟨j2, hj2, g2, k2, rfl⟩ | ⟨g2, rfl⟩⟩ <;> first
    | exact ⟨rfl, rfl⟩
    | (exfalso; omega)
    | exact (ix_no (j := j) g2 (by omega) (by omega) g1).elim
    | exact (ix_no (j := j2) g1 (by omega) (by omega) g2).elim
    | (have := inj96 (by omega) (by omega) (g1.symm.trans g2); subst this; exact ⟨rfl, rfl⟩)
theorem det_cut {x n r r2 : Int32} {m m2 : MT} (hz : msz ≤ 96) (h : SP_cut msz mst msv mss mby x n r m) (h2 : SP_cut msz mst msv mss mby x n r2 m2) : r = r2 ∧ m = m2 := by
  rcases h with ⟨j, c, hj, g1, k1, rfl, rfl⟩ | ⟨g1, rfl, rfl⟩ <;> rcases h2 with ⟨j2, c2, hj2, g2, k2, rfl, rfl⟩ | ⟨g2, rfl, rfl⟩
  · have e1 := inj96 (by omega) (by omega) (g1.symm.trans g2)
    have e2 := inj96 (by omega) (by omega) (k1.symm.trans k2)
    subst e1
    subst e2
    exact ⟨rfl, rfl⟩
  · exact absurd ⟨j, c, hj, g1, k1⟩ g2
  · exact absurd ⟨j2, c2, hj2, g2, k2⟩ g1
  · exact ⟨rfl, rfl⟩
theorem det_save {x r r2 : Int32} {m m2 : MT} (h : SP_save msz mst msv mss mby x r m) (h2 : SP_save msz mst msv mss mby x r2 m2) : r = r2 ∧ m = m2 := by
  rcases h with ⟨rfl, ⟨b, rfl⟩ | ⟨s, hs, e1, e, rfl⟩⟩ | ⟨s, hs, e1, e, rfl, rfl⟩ <;> rcases h2 with ⟨rfl, ⟨b', rfl⟩ | ⟨t, ht, q, e', rfl⟩⟩ | ⟨t, ht, q, e', rfl, rfl⟩ <;> first
    | exact ⟨rfl, rfl⟩
    | exact (bad_eq b ht q).elim
    | exact (bad_eq b' hs e1).elim
    | (have := inj6 hs ht (e1.symm.trans q); subst this; first | exact ⟨rfl, rfl⟩ | (exfalso; omega))
theorem det_drop {x r r2 : Int32} {m m2 : MT} (h : SP_drop msz mst msv mss mby x r m) (h2 : SP_drop msz mst msv mss mby x r2 m2) : r = r2 ∧ m = m2 := by
  rcases h with ⟨rfl, ⟨b, rfl⟩ | ⟨s, hs, e1, e, rfl⟩⟩ | ⟨s, hs, e1, e, rfl, rfl⟩ <;> rcases h2 with ⟨rfl, ⟨b', rfl⟩ | ⟨t, ht, q, e', rfl⟩⟩ | ⟨t, ht, q, e', rfl, rfl⟩ <;> first
    | exact ⟨rfl, rfl⟩
    | exact (bad_eq b ht q).elim
    | exact (bad_eq b' hs e1).elim
    | (have := inj6 hs ht (e1.symm.trans q); subst this; first | exact ⟨rfl, rfl⟩ | (exfalso; omega))
theorem det_feedFrom {x f n r r2 : Int32} {m m2 : MT} (h96 : ∀ s, s < 6 → 0 < msv s → mss s ≤ 96) (h : SP_feedFrom msz mst msv mss mby x f n r m) (h2 : SP_feedFrom msz mst msv mss mby x f n r2 m2) : r = r2 ∧ m = m2 := by
  rcases h with ⟨rfl, ⟨b, rfl⟩ | ⟨s, hs, e1, e, rfl⟩ | ⟨s, hs, e1, e, h⟩⟩ | ⟨s, j, c, hs, e1, e, hj, g1, k1, l1, rfl, rfl⟩ <;> rcases h2 with ⟨rfl, ⟨b', rfl⟩ | ⟨t, ht, q, e', rfl⟩ | ⟨t, ht, q, e', h2⟩⟩ | ⟨t, j2, c2, ht, q, e', hj2, g2, k2, l2, rfl, rfl⟩ <;> first
    | exact ⟨rfl, rfl⟩
    | exact (bad_eq b ht q).elim
    | exact (bad_eq b' hs e1).elim
    | (have := inj6 hs ht (e1.symm.trans q); subst this; first | exact ⟨rfl, rfl⟩ | (exfalso; omega) | skip)
  · have hz := h96 s hs e
    rcases h with ⟨g1, rfl⟩ | ⟨j, c, hj, g1, k1, l1, rfl⟩ <;> rcases h2 with ⟨g2, rfl⟩ | ⟨j2, c2, hj2, g2, k2, l2, rfl⟩
    · exact ⟨rfl, rfl⟩
    · exact absurd ⟨j2, c2, hj2, g2, k2⟩ g1
    · exact absurd ⟨j, c, hj, g1, k1⟩ g2
    · exact ⟨rfl, rfl⟩
  · have hz := h96 s hs e
    rcases h with ⟨g1, rfl⟩ | ⟨j, c, hj, g1, k1, l1, rfl⟩
    · exact absurd ⟨j2, c2, hj2, g2, k2⟩ g1
    · have := inj96 (by omega) (by omega) (k1.symm.trans k2)
      omega
  · have hz := h96 s hs e
    rcases h2 with ⟨g2, rfl⟩ | ⟨j2, c2, hj2, g2, k2, l2, rfl⟩
    · exact absurd ⟨j, c, hj, g1, k1⟩ g2
    · have := inj96 (by omega) (by omega) (k1.symm.trans k2)
      omega
  · have hz := h96 s hs e
    have q1 := inj96 (by omega) (by omega) (g1.symm.trans g2)
    have q2 := inj96 (by omega) (by omega) (k1.symm.trans k2)
    subst q1
    subst q2
    exact ⟨rfl, rfl⟩
theorem det_common {x y r r2 : Int32} {m m2 : MT} (h : SP_common msz mst msv mss mby x y r m) (h2 : SP_common msz mst msv mss mby x y r2 m2) : r = r2 ∧ m = m2 := by
  obtain ⟨rfl, h⟩ := h
  obtain ⟨rfl, h2⟩ := h2
  refine ⟨?_, rfl⟩
  rcases h with ⟨b, rfl⟩ | ⟨s, t, hs, ht, e1, e2, e, rfl⟩ | ⟨s, t, c, hs, ht, e1, e2, e, f, rfl, c1, c2, c3, c4⟩ <;> rcases h2 with ⟨b', rfl⟩ | ⟨s', t', hs', ht', e1', e2', e', rfl⟩ | ⟨s', t', c', hs', ht', e1', e2', e', f', rfl, c1', c2', c3', c4'⟩ <;> first
    | rfl
    | (rcases b with b | b <;> first | exact (bad_eq b hs' e1').elim | exact (bad_eq b ht' e2').elim)
    | (rcases b' with b | b <;> first | exact (bad_eq b hs e1).elim | exact (bad_eq b ht e2).elim)
    | (have q1 := inj6 hs hs' (e1.symm.trans e1'); have q2 := inj6 ht ht' (e2.symm.trans e2'); subst q1; subst q2; first | rfl | (exfalso; omega) | skip)
  have : c = c' := by
    rcases Nat.lt_trichotomy c c' with q | q | q
    · rcases c4 with z | z | z
      · omega
      · omega
      · exact absurd (c3' c q) z
    · exact q
    · rcases c4' with z | z | z
      · omega
      · omega
      · exact absurd (c3 c' q) z
  rw [this]
end
section
variable {sd : Nat} {sta sav pas par rfs siz bas cel pay : Nat → Nat} {msz : Nat} {mst msv mss mby : Nat → Nat} {C : Nat → Nat → Nat}
theorem I_z (hI : sd_I sd sta sav pas par rfs siz bas cel pay msz mst msv mss mby C) : msz ≤ 96 := by
  rw [← hI.1.1]
  exact hI.1.2.1
theorem I_v (hI : sd_I sd sta sav pas par rfs siz bas cel pay msz mst msv mss mby C) : ∀ s, s < 6 → msv s ≤ 1 := fun s hs => by
  rw [← (hI.2.1 s hs).1]
  exact (hI.2.1 s hs).2
theorem I_s (hI : sd_I sd sta sav pas par rfs siz bas cel pay msz mst msv mss mby C) : ∀ s, s < 6 → 0 < msv s → mss s ≤ 96 := fun s hs h => by
  rw [← (hI.2.1 s hs).1] at h
  exact (hI.2.2.2.2 s hs h).2.2.2.1
theorem I_b (hI : sd_I sd sta sav pas par rfs siz bas cel pay msz mst msv mss mby C) : ∀ s, s < 6 → 0 < msv s → ∀ q, q < mss s → mby (s * 96 + q) < 256 := fun s hs h q hq => by
  rw [← (hI.2.1 s hs).1] at h
  exact J_byte hI.2 hs h hq
end
theorem ct_zero (w : Nat → Nat) (x : Nat) (h : ∀ q, w q = 0) : ∀ n, sd_ct w x n = 0
  | 0 => rfl
  | n + 1 => by
    unfold sd_ct
    rw [ct_zero w x h n, h n, if_neg (by omega)]
theorem LX_0 : LX X00 M00 := by
  refine LX_of (C := fun _ _ => 0) ⟨⟨rfl, by omega, fun j hj => absurd hj (Nat.not_lt_zero j)⟩, fun s hs => ⟨rfl, Nat.zero_le 1⟩, fun x hx => absurd hx.2 (Nat.lt_irrefl 0), fun x hx => ?_, fun s hs h => absurd h (Nat.lt_irrefl 0)⟩
  refine (ct_zero _ x (fun q => ?_) 96).symm
  unfold sd_w
  exact if_neg (fun h => absurd h.1 (Nat.lt_irrefl 0))
end
section
set_option maxRecDepth 100000
/-! THE CLAIM OUT OF ONE WALK OF THE LAW'S BODY. Your part is whole_start (and what it stands on); all else here is the same for every law, but numbers. -/
def R_law : String := "SimilarDeltaLaw"
def lw_P (b : Addr) (xs : List Int32) (args : Array Value) (s : State) : Prop := args = #[.ref b] ∧ s.IntsAt b xs ∧ xs.length ≤ 256 ∧ (Jvm.Cond.and given_1 narrow_1).before args s = true
def lw_Q (_ : Array Value) (s : State) (o : Outcome) (t : State) : Prop := o = .returned (some (.int 1)) ∧ Framed s o t [] 600000 7290000
def lw_Z (below : List Frame) (a : Array Value) (s : State) : State → Prop := fun t => ∃ o, t.status = .running ∧ Ended t below o ∧ lw_Q a s o t
/-- the law's own end, with 1 on the stack, nothing written that was there before, its room as the claim has it -/
theorem lw_ret {p : Program} {l : Launch} {e : Env} {s : State} {m : MethodId} {below : List Frame} {meth : Method} {c : Code} {b : Nat} (hx : p.tables.exec = Jvm.exec) (hb : c.code = code) (hr : meth.sig.returnType = ret) (hlocks : meth.locks = false) {pc : Nat} {H : Heap} {ls : Array Slot} (hdg : decode code pc = .ok (.ireturn, 1)) : W p l e room_1 s m #[Value.ref b] below meth c H [] 600000 7290000 (lw_Z below #[Value.ref b] s) (F0 m pc ls [.int 1]) := by
  intro T hT X
  obtain ⟨fs, hret, hrun, hended, hW, hframe⟩ := X.leave (v := some (.int 1)) (hlocks := hlocks) (fun h => by rw [hr] at h; cases h)
  have hmeth' : T.vm.method? m = some meth := X.method'
  refine ⟨T.setFrames fs, ?_, .returned (some (.int 1)), hrun, hended, rfl, ⟨_, rfl⟩, hW, hframe⟩
  jvm_step X.here [X.here.top, hx, hb, hdg, hmeth', hr, ret, narrow_b1]
  (try refine ⟨rfl, ?_⟩); (try refine ⟨rfl, ?_⟩)
  first | (intro acts; rw [hret _ acts rfl rfl rfl]) | rw [hret _ _ rfl rfl rfl]
  exact Steps.refl _
/-- what holds at the law's entry: the machine, the code, the tables' words (any of lw_tbl by 'hts w (by decide +kernel)'), the script of L ints xs at the cell b, what the Statement gives of the start (any of its parts by flat_of_before) -/
def lw_At (p : Program) (s : State) (m : MethodId) (meth : Method) (c : Code) (b L : Nat) (xs : Nat → Int32) : Prop :=
  p.tables.exec = Jvm.exec ∧ c.code = code ∧ meth.sig.returnType = ret ∧ c.maxLocals = 4 ∧ s.vm.findClass R_law = some m.cls ∧ (∀ w ∈ lw_tbl, w.before #[Value.ref b] s = true) ∧ va_X b L xs s s.heap ∧ b < s.heap.size ∧ meth.locks = false ∧ (Jvm.Cond.and given_1 narrow_1).before #[Value.ref b] s = true

def zz_X : ZK → Nat → Nat → (Nat → Int32) → Prop
  | (p, l, e, R, s, m, args, below, meth, c, Q, A, D, nc, ns), b, Ln, xs => va_X b Ln xs s s.heap ∧ b < s.heap.size ∧ ¬ A b
theorem zz_sld {k : ZK} {g : ZG} {own : String} {cc : ByteArray} {nL fr lo pc : Nat} {ws : va_W} {L : ZL} {rest : List Value} {b Ln j : Nat} {xs : Nat → Int32} (F : zz_F k g own cc nL fr lo) (X : zz_X k b Ln xs) (hd : decode cc pc = .ok (.iaload, 1)) (hj : j < Ln) (hn : Ln < 2 ^ 31) (kk : zz_W k ws (pc + 1) L (.int (xs j) :: rest)) : zz_W k ws pc L (.int (nI j) :: .ref b :: rest) := by
  obtain ⟨p, l, e, R, s, m, args, below, meth, c, Q, A, D, nc, ns⟩ := k
  obtain ⟨hx, hb, hml, hown, hts, hK, hA, hnc, hns, hfr, hlo⟩ := F
  intro H locs ls hP hD hS hl
  obtain ⟨X1, X2, X3⟩ := X
  refine va_sld hx hb X1 X2 X3 hS (vp_in_nI hj hn) hd ?_
  rw [nI_clamp (Nat.lt_trans hj hn)]
  exact kk H locs ls hP hD hS hl
theorem zz_slen {k : ZK} {g : ZG} {own : String} {cc : ByteArray} {nL fr lo pc : Nat} {ws : va_W} {L : ZL} {rest : List Value} {b Ln : Nat} {xs : Nat → Int32} (F : zz_F k g own cc nL fr lo) (X : zz_X k b Ln xs) (hd : decode cc pc = .ok (.arraylength, 1)) (kk : zz_W k ws (pc + 1) L (.int (nI Ln) :: rest)) : zz_W k ws pc L (.ref b :: rest) := by
  obtain ⟨p, l, e, R, s, m, args, below, meth, c, Q, A, D, nc, ns⟩ := k
  obtain ⟨hx, hb, hml, hown, hts, hK, hA, hnc, hns, hfr, hlo⟩ := F
  intro H locs ls hP hD hS hl
  obtain ⟨X1, X2, X3⟩ := X
  exact va_slen hx hb X1 X2 X3 hS hd (kk H locs ls hP hD hS hl)
theorem zz_tabIn {k : ZK} {g : ZG} {own : String} {cc : ByteArray} {nL fr lo pc : Nat} {ws : va_W} {L : ZL} {rest : List Value} {dflt lw hi : Int} {offs : Array Int} {len : Nat} {x : Int32} {off : Int} (tgt : Nat) (F : zz_F k g own cc nL fr lo) (hd : decode cc pc = .ok (.tableswitch dflt lw hi offs, len)) (h1 : ¬ x.toInt < lw) (h2 : ¬ hi < x.toInt) (ho : offs[(x.toInt - lw).toNat]? = some off) (ht : (pc : Int) + off = (tgt : Int)) (kk : zz_W k ws tgt L rest) : zz_W k ws pc L (.int x :: rest) := by
  obtain ⟨p, l, e, R, s, m, args, below, meth, c, Q, A, D, nc, ns⟩ := k
  obtain ⟨hx, hb, hml, hown, hts, hK, hA, hnc, hns, hfr, hlo⟩ := F
  intro H locs ls hP hD hS hl
  exact lv_tableIn (tgt := tgt) hx hb hd h1 h2 ho ht (kk H locs ls hP hD hS hl)
theorem zz_tabOut {k : ZK} {g : ZG} {own : String} {cc : ByteArray} {nL fr lo pc : Nat} {ws : va_W} {L : ZL} {rest : List Value} {dflt lw hi : Int} {offs : Array Int} {len : Nat} {x : Int32} (tgt : Nat) (F : zz_F k g own cc nL fr lo) (hd : decode cc pc = .ok (.tableswitch dflt lw hi offs, len)) (h : x.toInt < lw ∨ hi < x.toInt) (ht : (pc : Int) + dflt = (tgt : Int)) (kk : zz_W k ws tgt L rest) : zz_W k ws pc L (.int x :: rest) := by
  obtain ⟨p, l, e, R, s, m, args, below, meth, c, Q, A, D, nc, ns⟩ := k
  obtain ⟨hx, hb, hml, hown, hts, hK, hA, hnc, hns, hfr, hlo⟩ := F
  intro H locs ls hP hD hS hl
  exact lv_tableOut (tgt := tgt) hx hb hd h ht (kk H locs ls hP hD hS hl)
theorem zl_callXi {k : ZK} {g : ZG} {own : String} {cc : ByteArray} {nL fr lo pc : Nat} {L : ZL} {rest stk : List Value} {a : XT} {b : MT} {y : MethodName} {bytes : ByteArray} {maxL fr2 lo2 idx nA : Nat} {As : List Value} {rt : FieldType} {post : Int32 → XT → Prop} (F : zz_F k g own cc nL fr lo) (hd : decode cc pc = .ok (.invokevirtual idx, 3)) (hM : zz_Mi (zk_l k) (zk_D k) g (wX g) y bytes maxL fr2 lo2 rt a (.ref (g.1 0) :: As) post) (hG : GoodIn lw_all (wsV own idx RX0 y (ws_ y bytes maxL (some rt))))
    (hy : y.cls = RX0 ∧ y.cls ≠ "java/lang/invoke/MethodHandle" ∧ y.cls ≠ "java/lang/invoke/VarHandle" ∧ (parseMethodDescriptor y.desc).map (fun d => d.parameters.length) = some nA) (hnA : As.length = nA) (hst : stk = As.reverse ++ .ref (g.1 0) :: rest) (hrest : (rest.map fun v => v.category).sum ≤ 8) (hR : fr2 + 1 ≤ fr ∧ 8 + (maxL + 11) + lo2 ≤ lo)
    (kk : ∀ (x : Int32) (u : XT), post x u → zz_W k (wM g b ++ wX g u) (pc + 3) L (.int x :: rest)) : zz_W k (wX g a ++ wM g b) pc L stk := by
  obtain ⟨p, l, e, R, s, m, args, below, meth, c, Q, A, D, nc, ns⟩ := k
  obtain ⟨hx, hb, hml, hown, hts, hK, hA, hnc, hns, hfr, hlo⟩ := F
  intro H locs ls hP hD hS hl
  have hPc := hP.sub (ws' := wX g a) [0, 1, 2, 3, 4, 5, 6, 7, 8, 9, 10, 11, 12, 13, 14, 15, 16, 17] rfl
  have hDc := hD.sub (ws' := wX g a) [0, 1, 2, 3, 4, 5, 6, 7, 8, 9, 10, 11, 12, 13, 14, 15, 16, 17] (by decide) rfl
  have hFc := va_free (wc := wX g a) hD hS hA [0, 1, 2, 3, 4, 5, 6, 7, 8, 9, 10, 11, 12, 13, 14, 15, 16, 17] rfl
  refine va_calli (va_runV (C := RX0) (b := g.1 0) (As := As) (rest := rest) (n := nA) ⟨hx, hb, rfl, hown, hts⟩ (hM H.size) (cwV nA hts hG rfl rfl rfl hy ⟨Nat.le_trans hR.1 hfr, Nat.le_trans hR.2 hlo⟩) ⟨zz_blind, va_recv hK hPc (ci := 0) (q0 := 0) rfl rfl, fun U hU hW => ⟨rfl, by rw [hU], by rw [hU]; exact hPc, va_K.moved hW.alike hK, hDc.weaken (fun _ _ _ _ => trivial)⟩⟩ rfl hnA hl.1 hst (lv_room hrest) hd ⟨hnc, hns⟩) hS (fun q _ h => hFc q h) hFc (fun x u t H1 locs1 ht hvm hp hB hz1 hk1 hS1 => ?_)
  obtain ⟨hP1, hK1, hD1⟩ := hB
  rw [ht] at hP1
  obtain ⟨hP2, hD2⟩ := va_join (wr := wM g b) (w1 := wX g u) hP hD [0, 1, 2, 3, 4, 5, 6, 7, 8, 9, 10, 11, 12, 13, 14, 15, 16, 17] [18, 19, 20, 21, 22] rfl rfl (by decide) (by decide) hk1 hFc hP1 hD1
  exact kk x u hp H1 locs1 ls hP2 hD2 hS1 hl
theorem zl_callXv {k : ZK} {g : ZG} {own : String} {cc : ByteArray} {nL fr lo pc : Nat} {L : ZL} {rest stk : List Value} {a : XT} {b : MT} {y : MethodName} {bytes : ByteArray} {maxL fr2 lo2 idx nA : Nat} {As : List Value} {post : XT → Prop} (F : zz_F k g own cc nL fr lo) (hd : decode cc pc = .ok (.invokevirtual idx, 3)) (hM : zz_Mv (zk_l k) (zk_D k) g (wX g) y bytes maxL fr2 lo2 a (.ref (g.1 0) :: As) post) (hG : GoodIn lw_all (wsV own idx RX0 y (ws_ y bytes maxL none)))
    (hy : y.cls = RX0 ∧ y.cls ≠ "java/lang/invoke/MethodHandle" ∧ y.cls ≠ "java/lang/invoke/VarHandle" ∧ (parseMethodDescriptor y.desc).map (fun d => d.parameters.length) = some nA) (hnA : As.length = nA) (hst : stk = As.reverse ++ .ref (g.1 0) :: rest) (hrest : (rest.map fun v => v.category).sum ≤ 8) (hR : fr2 + 1 ≤ fr ∧ 8 + (maxL + 11) + lo2 ≤ lo)
    (kk : ∀ (u : XT), post u → zz_W k (wM g b ++ wX g u) (pc + 3) L (rest)) : zz_W k (wX g a ++ wM g b) pc L stk := by
  obtain ⟨p, l, e, R, s, m, args, below, meth, c, Q, A, D, nc, ns⟩ := k
  obtain ⟨hx, hb, hml, hown, hts, hK, hA, hnc, hns, hfr, hlo⟩ := F
  intro H locs ls hP hD hS hl
  have hPc := hP.sub (ws' := wX g a) [0, 1, 2, 3, 4, 5, 6, 7, 8, 9, 10, 11, 12, 13, 14, 15, 16, 17] rfl
  have hDc := hD.sub (ws' := wX g a) [0, 1, 2, 3, 4, 5, 6, 7, 8, 9, 10, 11, 12, 13, 14, 15, 16, 17] (by decide) rfl
  have hFc := va_free (wc := wX g a) hD hS hA [0, 1, 2, 3, 4, 5, 6, 7, 8, 9, 10, 11, 12, 13, 14, 15, 16, 17] rfl
  refine va_callv (va_runV (C := RX0) (b := g.1 0) (As := As) (rest := rest) (n := nA) ⟨hx, hb, rfl, hown, hts⟩ (hM H.size) (cwV nA hts hG rfl rfl rfl hy ⟨Nat.le_trans hR.1 hfr, Nat.le_trans hR.2 hlo⟩) ⟨zz_blind, va_recv hK hPc (ci := 0) (q0 := 0) rfl rfl, fun U hU hW => ⟨rfl, by rw [hU], by rw [hU]; exact hPc, va_K.moved hW.alike hK, hDc.weaken (fun _ _ _ _ => trivial)⟩⟩ rfl hnA hl.1 hst (lv_room hrest) hd ⟨hnc, hns⟩) hS (fun q _ h => hFc q h) hFc (fun u t H1 locs1 ht hvm hp hB hz1 hk1 hS1 => ?_)
  obtain ⟨hP1, hK1, hD1⟩ := hB
  rw [ht] at hP1
  obtain ⟨hP2, hD2⟩ := va_join (wr := wM g b) (w1 := wX g u) hP hD [0, 1, 2, 3, 4, 5, 6, 7, 8, 9, 10, 11, 12, 13, 14, 15, 16, 17] [18, 19, 20, 21, 22] rfl rfl (by decide) (by decide) hk1 hFc hP1 hD1
  exact kk u hp H1 locs1 ls hP2 hD2 hS1 hl
theorem zl_callMi {k : ZK} {g : ZG} {own : String} {cc : ByteArray} {nL fr lo pc : Nat} {L : ZL} {rest stk : List Value} {a : MT} {b : XT} {y : MethodName} {bytes : ByteArray} {maxL fr2 lo2 idx nA : Nat} {As : List Value} {rt : FieldType} {post : Int32 → MT → Prop} (F : zz_F k g own cc nL fr lo) (hd : decode cc pc = .ok (.invokevirtual idx, 3)) (hM : zz_Mi (zk_l k) (zk_D k) g (wM g) y bytes maxL fr2 lo2 rt a (.ref (g.1 20) :: As) post) (hG : GoodIn lw_all (wsV own idx RX1 y (ws_ y bytes maxL (some rt))))
    (hy : y.cls = RX1 ∧ y.cls ≠ "java/lang/invoke/MethodHandle" ∧ y.cls ≠ "java/lang/invoke/VarHandle" ∧ (parseMethodDescriptor y.desc).map (fun d => d.parameters.length) = some nA) (hnA : As.length = nA) (hst : stk = As.reverse ++ .ref (g.1 20) :: rest) (hrest : (rest.map fun v => v.category).sum ≤ 8) (hR : fr2 + 1 ≤ fr ∧ 8 + (maxL + 11) + lo2 ≤ lo)
    (kk : ∀ (x : Int32) (u : MT), post x u → zz_W k (wX g b ++ wM g u) (pc + 3) L (.int x :: rest)) : zz_W k (wM g a ++ wX g b) pc L stk := by
  obtain ⟨p, l, e, R, s, m, args, below, meth, c, Q, A, D, nc, ns⟩ := k
  obtain ⟨hx, hb, hml, hown, hts, hK, hA, hnc, hns, hfr, hlo⟩ := F
  intro H locs ls hP hD hS hl
  have hPc := hP.sub (ws' := wM g a) [0, 1, 2, 3, 4] rfl
  have hDc := hD.sub (ws' := wM g a) [0, 1, 2, 3, 4] (by decide) rfl
  have hFc := va_free (wc := wM g a) hD hS hA [0, 1, 2, 3, 4] rfl
  refine va_calli (va_runV (C := RX1) (b := g.1 20) (As := As) (rest := rest) (n := nA) ⟨hx, hb, rfl, hown, hts⟩ (hM H.size) (cwV nA hts hG rfl rfl rfl hy ⟨Nat.le_trans hR.1 hfr, Nat.le_trans hR.2 hlo⟩) ⟨zz_blind, va_recv hK hPc (ci := 1) (q0 := 0) rfl rfl, fun U hU hW => ⟨rfl, by rw [hU], by rw [hU]; exact hPc, va_K.moved hW.alike hK, hDc.weaken (fun _ _ _ _ => trivial)⟩⟩ rfl hnA hl.1 hst (lv_room hrest) hd ⟨hnc, hns⟩) hS (fun q _ h => hFc q h) hFc (fun x u t H1 locs1 ht hvm hp hB hz1 hk1 hS1 => ?_)
  obtain ⟨hP1, hK1, hD1⟩ := hB
  rw [ht] at hP1
  obtain ⟨hP2, hD2⟩ := va_join (wr := wX g b) (w1 := wM g u) hP hD [0, 1, 2, 3, 4] [5, 6, 7, 8, 9, 10, 11, 12, 13, 14, 15, 16, 17, 18, 19, 20, 21, 22] rfl rfl (by decide) (by decide) hk1 hFc hP1 hD1
  exact kk x u hp H1 locs1 ls hP2 hD2 hS1 hl
theorem zl_callMv {k : ZK} {g : ZG} {own : String} {cc : ByteArray} {nL fr lo pc : Nat} {L : ZL} {rest stk : List Value} {a : MT} {b : XT} {y : MethodName} {bytes : ByteArray} {maxL fr2 lo2 idx nA : Nat} {As : List Value} {post : MT → Prop} (F : zz_F k g own cc nL fr lo) (hd : decode cc pc = .ok (.invokevirtual idx, 3)) (hM : zz_Mv (zk_l k) (zk_D k) g (wM g) y bytes maxL fr2 lo2 a (.ref (g.1 20) :: As) post) (hG : GoodIn lw_all (wsV own idx RX1 y (ws_ y bytes maxL none)))
    (hy : y.cls = RX1 ∧ y.cls ≠ "java/lang/invoke/MethodHandle" ∧ y.cls ≠ "java/lang/invoke/VarHandle" ∧ (parseMethodDescriptor y.desc).map (fun d => d.parameters.length) = some nA) (hnA : As.length = nA) (hst : stk = As.reverse ++ .ref (g.1 20) :: rest) (hrest : (rest.map fun v => v.category).sum ≤ 8) (hR : fr2 + 1 ≤ fr ∧ 8 + (maxL + 11) + lo2 ≤ lo)
    (kk : ∀ (u : MT), post u → zz_W k (wX g b ++ wM g u) (pc + 3) L (rest)) : zz_W k (wM g a ++ wX g b) pc L stk := by
  obtain ⟨p, l, e, R, s, m, args, below, meth, c, Q, A, D, nc, ns⟩ := k
  obtain ⟨hx, hb, hml, hown, hts, hK, hA, hnc, hns, hfr, hlo⟩ := F
  intro H locs ls hP hD hS hl
  have hPc := hP.sub (ws' := wM g a) [0, 1, 2, 3, 4] rfl
  have hDc := hD.sub (ws' := wM g a) [0, 1, 2, 3, 4] (by decide) rfl
  have hFc := va_free (wc := wM g a) hD hS hA [0, 1, 2, 3, 4] rfl
  refine va_callv (va_runV (C := RX1) (b := g.1 20) (As := As) (rest := rest) (n := nA) ⟨hx, hb, rfl, hown, hts⟩ (hM H.size) (cwV nA hts hG rfl rfl rfl hy ⟨Nat.le_trans hR.1 hfr, Nat.le_trans hR.2 hlo⟩) ⟨zz_blind, va_recv hK hPc (ci := 1) (q0 := 0) rfl rfl, fun U hU hW => ⟨rfl, by rw [hU], by rw [hU]; exact hPc, va_K.moved hW.alike hK, hDc.weaken (fun _ _ _ _ => trivial)⟩⟩ rfl hnA hl.1 hst (lv_room hrest) hd ⟨hnc, hns⟩) hS (fun q _ h => hFc q h) hFc (fun u t H1 locs1 ht hvm hp hB hz1 hk1 hS1 => ?_)
  obtain ⟨hP1, hK1, hD1⟩ := hB
  rw [ht] at hP1
  obtain ⟨hP2, hD2⟩ := va_join (wr := wX g b) (w1 := wM g u) hP hD [0, 1, 2, 3, 4] [5, 6, 7, 8, 9, 10, 11, 12, 13, 14, 15, 16, 17, 18, 19, 20, 21, 22] rfl rfl (by decide) (by decide) hk1 hFc hP1 hD1
  exact kk u hp H1 locs1 ls hP2 hD2 hS1 hl
theorem law_more {i Ln : Nat} (hi : i < 2 ^ 29) (hL : Ln < 2 ^ 29) (h : ¬ nI Ln - nI 4 < nI i) : i + 4 ≤ Ln := by
  have h1 : (nI i).toInt ≤ (nI Ln - nI 4).toInt := Int32.le_iff_toInt_le.mp (Int32.not_lt.mp h)
  rw [nI_toInt (by omega), pk_sub_toInt (by omega) (by decide)] at h1
  omega
/-- behind a call: on with the loop -/
def law_go (k : ZK) (g : ZG) (b i : Nat) : Prop := ∀ (a : XT) (m : MT), LX a m → zz_W k (wX g a ++ wM g m) 521 [some (.ref b), some (.ref (g.1 0)), some (.ref (g.1 20)), some (.int (nI i))] []
set_option maxHeartbeats 4000000 in
theorem law_begin {k : ZK} {g : ZG} {b Ln i : Nat} {xs : Nat → Int32} {a : XT} {m : MT} (F : zz_F k g R_law code 4 8 298) (X : zz_X k b Ln xs) (hLn : Ln ≤ 256) (hi4 : i + 4 ≤ Ln) (hx : LX a m) (go : law_go k g b i) : zz_W k (wX g a ++ wM g m) 108 [some (.ref b), some (.ref (g.1 0)), some (.ref (g.1 20)), some (.int (nI i))] [] := by
  obtain ⟨sd, pl, sta, sav, pas, par, rfs, siz, bas, cel, pay, pri, fa, fb, fre, ou, un, pro, ch, msz, mst, msv, mss, mby, C, rfl, rfl, hI⟩ := hx
  refine zz_aload_n1 (pc := 108) F dL_law_108 ?_
  refine zl_callXv (nA := 0) (pc := 109) F dL_law_109 (m_begin _ _ _ _ _ _ _ _ _ _ _ _ _ _ _ _ _ _ _ _ _ _ _ _ _ _ _ C hI) (lw_V q88 q89 q90 q18 q91) (by decide +kernel) rfl rfl (Nat.le_of_ble_eq_true rfl) (by decide) (fun u1 h1 => ?_)
  refine zz_aload_n2 (pc := 112) F dL_law_112 ?_
  refine zl_callMv (nA := 0) (pc := 113) F dL_law_113 (n_begin _ _ _ _ _ _ _ _ ) (lw_V q242 q243 q244 q19 q245) (by decide +kernel) rfl rfl (Nat.le_of_ble_eq_true rfl) (by decide) (fun u2 h2 => ?_)
  subst h2
  refine zz_goto (pc := 116) 521 F dL_law_116 (by decide) ?_
  exact go _ _ h1
set_option maxHeartbeats 4000000 in
theorem law_feed {k : ZK} {g : ZG} {b Ln i : Nat} {xs : Nat → Int32} {a : XT} {m : MT} (F : zz_F k g R_law code 4 8 298) (X : zz_X k b Ln xs) (hLn : Ln ≤ 256) (hi4 : i + 4 ≤ Ln) (hx : LX a m) (go : law_go k g b i) : zz_W k (wX g a ++ wM g m) 119 [some (.ref b), some (.ref (g.1 0)), some (.ref (g.1 20)), some (.int (nI i))] [] := by
  obtain ⟨sd, pl, sta, sav, pas, par, rfs, siz, bas, cel, pay, pri, fa, fb, fre, ou, un, pro, ch, msz, mst, msv, mss, mby, C, rfl, rfl, hI⟩ := hx
  refine zz_aload_n1 (pc := 119) F dL_law_119 ?_
  refine zz_aload_n0 (pc := 120) F dL_law_120 ?_
  refine zz_iload_n3 (pc := 121) F dL_law_121 ?_
  refine zz_iconst_1 (pc := 122) F dL_law_122 ?_
  refine zz_iadd (pc := 123) F dL_law_123 ?_
  refine zz_sld (pc := 124) F X dL_law_124 (by omega) (by omega) ?_
  refine zl_callXi (nA := 1) (pc := 125) F dL_law_125 (m_feedI _ _ _ _ _ _ _ _ _ _ _ _ _ _ _ _ _ _ _ _ _ _ _ _ _ _ _ _ C hI) (lw_V q92 q93 q94 q18 q95) (by decide +kernel) rfl rfl (Nat.le_of_ble_eq_true rfl) (by decide) (fun r1 u1 h1 => ?_)
  obtain ⟨m1, hsp, hlx⟩ := h1
  refine zz_aload_n2 (pc := 128) F dL_law_128 ?_
  refine zz_aload_n0 (pc := 129) F dL_law_129 ?_
  refine zz_iload_n3 (pc := 130) F dL_law_130 ?_
  refine zz_iconst_1 (pc := 131) F dL_law_131 ?_
  refine zz_iadd (pc := 132) F dL_law_132 ?_
  refine zz_sld (pc := 133) F X dL_law_133 (by omega) (by omega) ?_
  refine zl_callMi (nA := 1) (pc := 134) F dL_law_134 (n_feed _ _ _ _ _ _ _ _ _ (I_z hI) (I_v hI) (I_s hI)) (lw_V q246 q247 q248 q19 q249) (by decide +kernel) rfl rfl (Nat.le_of_ble_eq_true rfl) (by decide) (fun r2 u2 h2 => ?_)
  obtain ⟨rfl, rfl⟩ := det_feedRun (I_z hI) hsp h2
  refine zz_icmp_eqG (pc := 137) 521 F dL_law_137 (by decide) (fun c1 => ?_) (fun c1 => absurd rfl c1)
  exact go _ _ hlx
set_option maxHeartbeats 4000000 in
theorem law_feedRun {k : ZK} {g : ZG} {b Ln i : Nat} {xs : Nat → Int32} {a : XT} {m : MT} (F : zz_F k g R_law code 4 8 298) (X : zz_X k b Ln xs) (hLn : Ln ≤ 256) (hi4 : i + 4 ≤ Ln) (hx : LX a m) (go : law_go k g b i) : zz_W k (wX g a ++ wM g m) 142 [some (.ref b), some (.ref (g.1 0)), some (.ref (g.1 20)), some (.int (nI i))] [] := by
  obtain ⟨sd, pl, sta, sav, pas, par, rfs, siz, bas, cel, pay, pri, fa, fb, fre, ou, un, pro, ch, msz, mst, msv, mss, mby, C, rfl, rfl, hI⟩ := hx
  refine zz_aload_n1 (pc := 142) F dL_law_142 ?_
  refine zz_aload_n0 (pc := 143) F dL_law_143 ?_
  refine zz_iload_n3 (pc := 144) F dL_law_144 ?_
  refine zz_iconst_1 (pc := 145) F dL_law_145 ?_
  refine zz_iadd (pc := 146) F dL_law_146 ?_
  refine zz_sld (pc := 147) F X dL_law_147 (by omega) (by omega) ?_
  refine zz_aload_n0 (pc := 148) F dL_law_148 ?_
  refine zz_iload_n3 (pc := 149) F dL_law_149 ?_
  refine zz_iconst_2 (pc := 150) F dL_law_150 ?_
  refine zz_iadd (pc := 151) F dL_law_151 ?_
  refine zz_sld (pc := 152) F X dL_law_152 (by omega) (by omega) ?_
  refine zz_aload_n0 (pc := 153) F dL_law_153 ?_
  refine zz_iload_n3 (pc := 154) F dL_law_154 ?_
  refine zz_iconst_3 (pc := 155) F dL_law_155 ?_
  refine zz_iadd (pc := 156) F dL_law_156 ?_
  refine zz_sld (pc := 157) F X dL_law_157 (by omega) (by omega) ?_
  refine zl_callXi (nA := 3) (pc := 158) F dL_law_158 (m_feedRun _ _ _ _ _ _ _ _ _ _ _ _ _ _ _ _ _ _ _ _ _ _ _ _ _ _ _ _ _ _ C hI) (lw_V q96 q97 q98 q18 q99) (by decide +kernel) rfl rfl (Nat.le_of_ble_eq_true rfl) (by decide) (fun r1 u1 h1 => ?_)
  obtain ⟨m1, hsp, hlx⟩ := h1
  refine zz_aload_n2 (pc := 161) F dL_law_161 ?_
  refine zz_aload_n0 (pc := 162) F dL_law_162 ?_
  refine zz_iload_n3 (pc := 163) F dL_law_163 ?_
  refine zz_iconst_1 (pc := 164) F dL_law_164 ?_
  refine zz_iadd (pc := 165) F dL_law_165 ?_
  refine zz_sld (pc := 166) F X dL_law_166 (by omega) (by omega) ?_
  refine zz_aload_n0 (pc := 167) F dL_law_167 ?_
  refine zz_iload_n3 (pc := 168) F dL_law_168 ?_
  refine zz_iconst_2 (pc := 169) F dL_law_169 ?_
  refine zz_iadd (pc := 170) F dL_law_170 ?_
  refine zz_sld (pc := 171) F X dL_law_171 (by omega) (by omega) ?_
  refine zz_aload_n0 (pc := 172) F dL_law_172 ?_
  refine zz_iload_n3 (pc := 173) F dL_law_173 ?_
  refine zz_iconst_3 (pc := 174) F dL_law_174 ?_
  refine zz_iadd (pc := 175) F dL_law_175 ?_
  refine zz_sld (pc := 176) F X dL_law_176 (by omega) (by omega) ?_
  refine zl_callMi (nA := 3) (pc := 177) F dL_law_177 (n_feedRun _ _ _ _ _ _ _ _ _ _ _ (I_z hI) (I_v hI) (I_s hI)) (lw_V q254 q251 q252 q19 q253) (by decide +kernel) rfl rfl (Nat.le_of_ble_eq_true rfl) (by decide) (fun r2 u2 h2 => ?_)
  obtain ⟨rfl, rfl⟩ := det_feedRun (I_z hI) hsp h2
  refine zz_icmp_eqG (pc := 180) 521 F dL_law_180 (by decide) (fun c1 => ?_) (fun c1 => absurd rfl c1)
  exact go _ _ hlx
set_option maxHeartbeats 4000000 in
theorem law_feedFrom {k : ZK} {g : ZG} {b Ln i : Nat} {xs : Nat → Int32} {a : XT} {m : MT} (F : zz_F k g R_law code 4 8 298) (X : zz_X k b Ln xs) (hLn : Ln ≤ 256) (hi4 : i + 4 ≤ Ln) (hx : LX a m) (go : law_go k g b i) : zz_W k (wX g a ++ wM g m) 185 [some (.ref b), some (.ref (g.1 0)), some (.ref (g.1 20)), some (.int (nI i))] [] := by
  obtain ⟨sd, pl, sta, sav, pas, par, rfs, siz, bas, cel, pay, pri, fa, fb, fre, ou, un, pro, ch, msz, mst, msv, mss, mby, C, rfl, rfl, hI⟩ := hx
  refine zz_aload_n1 (pc := 185) F dL_law_185 ?_
  refine zz_aload_n0 (pc := 186) F dL_law_186 ?_
  refine zz_iload_n3 (pc := 187) F dL_law_187 ?_
  refine zz_iconst_1 (pc := 188) F dL_law_188 ?_
  refine zz_iadd (pc := 189) F dL_law_189 ?_
  refine zz_sld (pc := 190) F X dL_law_190 (by omega) (by omega) ?_
  refine zz_aload_n0 (pc := 191) F dL_law_191 ?_
  refine zz_iload_n3 (pc := 192) F dL_law_192 ?_
  refine zz_iconst_2 (pc := 193) F dL_law_193 ?_
  refine zz_iadd (pc := 194) F dL_law_194 ?_
  refine zz_sld (pc := 195) F X dL_law_195 (by omega) (by omega) ?_
  refine zz_aload_n0 (pc := 196) F dL_law_196 ?_
  refine zz_iload_n3 (pc := 197) F dL_law_197 ?_
  refine zz_iconst_3 (pc := 198) F dL_law_198 ?_
  refine zz_iadd (pc := 199) F dL_law_199 ?_
  refine zz_sld (pc := 200) F X dL_law_200 (by omega) (by omega) ?_
  refine zl_callXi (nA := 3) (pc := 201) F dL_law_201 (m_feedFrom _ _ _ _ _ _ _ _ _ _ _ _ _ _ _ _ _ _ _ _ _ _ _ _ _ _ _ _ _ _ C hI) (lw_V q101 q102 q103 q18 q104) (by decide +kernel) rfl rfl (Nat.le_of_ble_eq_true rfl) (by decide) (fun r1 u1 h1 => ?_)
  obtain ⟨m1, hsp, hlx⟩ := h1
  refine zz_aload_n2 (pc := 204) F dL_law_204 ?_
  refine zz_aload_n0 (pc := 205) F dL_law_205 ?_
  refine zz_iload_n3 (pc := 206) F dL_law_206 ?_
  refine zz_iconst_1 (pc := 207) F dL_law_207 ?_
  refine zz_iadd (pc := 208) F dL_law_208 ?_
  refine zz_sld (pc := 209) F X dL_law_209 (by omega) (by omega) ?_
  refine zz_aload_n0 (pc := 210) F dL_law_210 ?_
  refine zz_iload_n3 (pc := 211) F dL_law_211 ?_
  refine zz_iconst_2 (pc := 212) F dL_law_212 ?_
  refine zz_iadd (pc := 213) F dL_law_213 ?_
  refine zz_sld (pc := 214) F X dL_law_214 (by omega) (by omega) ?_
  refine zz_aload_n0 (pc := 215) F dL_law_215 ?_
  refine zz_iload_n3 (pc := 216) F dL_law_216 ?_
  refine zz_iconst_3 (pc := 217) F dL_law_217 ?_
  refine zz_iadd (pc := 218) F dL_law_218 ?_
  refine zz_sld (pc := 219) F X dL_law_219 (by omega) (by omega) ?_
  refine zl_callMi (nA := 3) (pc := 220) F dL_law_220 (n_feedFrom _ _ _ _ _ _ _ _ _ _ _ (I_z hI) (I_v hI) (I_s hI)) (lw_V q255 q256 q257 q19 q258) (by decide +kernel) rfl rfl (Nat.le_of_ble_eq_true rfl) (by decide) (fun r2 u2 h2 => ?_)
  obtain ⟨rfl, rfl⟩ := det_feedFrom (I_s hI) hsp h2
  refine zz_icmp_eqG (pc := 223) 521 F dL_law_223 (by decide) (fun c1 => ?_) (fun c1 => absurd rfl c1)
  exact go _ _ hlx
set_option maxHeartbeats 4000000 in
theorem law_poke {k : ZK} {g : ZG} {b Ln i : Nat} {xs : Nat → Int32} {a : XT} {m : MT} (F : zz_F k g R_law code 4 8 298) (X : zz_X k b Ln xs) (hLn : Ln ≤ 256) (hi4 : i + 4 ≤ Ln) (hx : LX a m) (go : law_go k g b i) : zz_W k (wX g a ++ wM g m) 228 [some (.ref b), some (.ref (g.1 0)), some (.ref (g.1 20)), some (.int (nI i))] [] := by
  obtain ⟨sd, pl, sta, sav, pas, par, rfs, siz, bas, cel, pay, pri, fa, fb, fre, ou, un, pro, ch, msz, mst, msv, mss, mby, C, rfl, rfl, hI⟩ := hx
  refine zz_aload_n1 (pc := 228) F dL_law_228 ?_
  refine zz_aload_n0 (pc := 229) F dL_law_229 ?_
  refine zz_iload_n3 (pc := 230) F dL_law_230 ?_
  refine zz_iconst_1 (pc := 231) F dL_law_231 ?_
  refine zz_iadd (pc := 232) F dL_law_232 ?_
  refine zz_sld (pc := 233) F X dL_law_233 (by omega) (by omega) ?_
  refine zz_aload_n0 (pc := 234) F dL_law_234 ?_
  refine zz_iload_n3 (pc := 235) F dL_law_235 ?_
  refine zz_iconst_2 (pc := 236) F dL_law_236 ?_
  refine zz_iadd (pc := 237) F dL_law_237 ?_
  refine zz_sld (pc := 238) F X dL_law_238 (by omega) (by omega) ?_
  refine zl_callXi (nA := 2) (pc := 239) F dL_law_239 (m_poke _ _ _ _ _ _ _ _ _ _ _ _ _ _ _ _ _ _ _ _ _ _ _ _ _ _ _ _ _ C hI) (lw_V q128 q129 q130 q18 q131) (by decide +kernel) rfl rfl (Nat.le_of_ble_eq_true rfl) (by decide) (fun r1 u1 h1 => ?_)
  obtain ⟨m1, hsp, hlx⟩ := h1
  refine zz_aload_n2 (pc := 242) F dL_law_242 ?_
  refine zz_aload_n0 (pc := 243) F dL_law_243 ?_
  refine zz_iload_n3 (pc := 244) F dL_law_244 ?_
  refine zz_iconst_1 (pc := 245) F dL_law_245 ?_
  refine zz_iadd (pc := 246) F dL_law_246 ?_
  refine zz_sld (pc := 247) F X dL_law_247 (by omega) (by omega) ?_
  refine zz_aload_n0 (pc := 248) F dL_law_248 ?_
  refine zz_iload_n3 (pc := 249) F dL_law_249 ?_
  refine zz_iconst_2 (pc := 250) F dL_law_250 ?_
  refine zz_iadd (pc := 251) F dL_law_251 ?_
  refine zz_sld (pc := 252) F X dL_law_252 (by omega) (by omega) ?_
  refine zl_callMi (nA := 2) (pc := 253) F dL_law_253 (n_poke _ _ _ _ _ _ _ _ _ _ (I_z hI) (I_v hI) (I_s hI)) (lw_V q263 q264 q265 q19 q266) (by decide +kernel) rfl rfl (Nat.le_of_ble_eq_true rfl) (by decide) (fun r2 u2 h2 => ?_)
  obtain ⟨rfl, rfl⟩ := det_poke (I_z hI) hsp h2
  refine zz_icmp_eqG (pc := 256) 521 F dL_law_256 (by decide) (fun c1 => ?_) (fun c1 => absurd rfl c1)
  exact go _ _ hlx
set_option maxHeartbeats 4000000 in
theorem law_insert {k : ZK} {g : ZG} {b Ln i : Nat} {xs : Nat → Int32} {a : XT} {m : MT} (F : zz_F k g R_law code 4 8 298) (X : zz_X k b Ln xs) (hLn : Ln ≤ 256) (hi4 : i + 4 ≤ Ln) (hx : LX a m) (go : law_go k g b i) : zz_W k (wX g a ++ wM g m) 261 [some (.ref b), some (.ref (g.1 0)), some (.ref (g.1 20)), some (.int (nI i))] [] := by
  obtain ⟨sd, pl, sta, sav, pas, par, rfs, siz, bas, cel, pay, pri, fa, fb, fre, ou, un, pro, ch, msz, mst, msv, mss, mby, C, rfl, rfl, hI⟩ := hx
  refine zz_aload_n1 (pc := 261) F dL_law_261 ?_
  refine zz_aload_n0 (pc := 262) F dL_law_262 ?_
  refine zz_iload_n3 (pc := 263) F dL_law_263 ?_
  refine zz_iconst_1 (pc := 264) F dL_law_264 ?_
  refine zz_iadd (pc := 265) F dL_law_265 ?_
  refine zz_sld (pc := 266) F X dL_law_266 (by omega) (by omega) ?_
  refine zz_aload_n0 (pc := 267) F dL_law_267 ?_
  refine zz_iload_n3 (pc := 268) F dL_law_268 ?_
  refine zz_iconst_2 (pc := 269) F dL_law_269 ?_
  refine zz_iadd (pc := 270) F dL_law_270 ?_
  refine zz_sld (pc := 271) F X dL_law_271 (by omega) (by omega) ?_
  refine zl_callXi (nA := 2) (pc := 272) F dL_law_272 (m_insert _ _ _ _ _ _ _ _ _ _ _ _ _ _ _ _ _ _ _ _ _ _ _ _ _ _ _ _ _ C hI) (lw_V q132 q133 q134 q18 q135) (by decide +kernel) rfl rfl (Nat.le_of_ble_eq_true rfl) (by decide) (fun r1 u1 h1 => ?_)
  obtain ⟨m1, hsp, hlx⟩ := h1
  refine zz_aload_n2 (pc := 275) F dL_law_275 ?_
  refine zz_aload_n0 (pc := 276) F dL_law_276 ?_
  refine zz_iload_n3 (pc := 277) F dL_law_277 ?_
  refine zz_iconst_1 (pc := 278) F dL_law_278 ?_
  refine zz_iadd (pc := 279) F dL_law_279 ?_
  refine zz_sld (pc := 280) F X dL_law_280 (by omega) (by omega) ?_
  refine zz_aload_n0 (pc := 281) F dL_law_281 ?_
  refine zz_iload_n3 (pc := 282) F dL_law_282 ?_
  refine zz_iconst_2 (pc := 283) F dL_law_283 ?_
  refine zz_iadd (pc := 284) F dL_law_284 ?_
  refine zz_sld (pc := 285) F X dL_law_285 (by omega) (by omega) ?_
  refine zl_callMi (nA := 2) (pc := 286) F dL_law_286 (n_insert _ _ _ _ _ _ _ _ _ _ (I_z hI) (I_v hI) (I_s hI)) (lw_V q267 q268 q269 q19 q270) (by decide +kernel) rfl rfl (Nat.le_of_ble_eq_true rfl) (by decide) (fun r2 u2 h2 => ?_)
  obtain ⟨rfl, rfl⟩ := det_insert (I_z hI) hsp h2
  refine zz_icmp_eqG (pc := 289) 521 F dL_law_289 (by decide) (fun c1 => ?_) (fun c1 => absurd rfl c1)
  exact go _ _ hlx
set_option maxHeartbeats 4000000 in
theorem law_cut {k : ZK} {g : ZG} {b Ln i : Nat} {xs : Nat → Int32} {a : XT} {m : MT} (F : zz_F k g R_law code 4 8 298) (X : zz_X k b Ln xs) (hLn : Ln ≤ 256) (hi4 : i + 4 ≤ Ln) (hx : LX a m) (go : law_go k g b i) : zz_W k (wX g a ++ wM g m) 294 [some (.ref b), some (.ref (g.1 0)), some (.ref (g.1 20)), some (.int (nI i))] [] := by
  obtain ⟨sd, pl, sta, sav, pas, par, rfs, siz, bas, cel, pay, pri, fa, fb, fre, ou, un, pro, ch, msz, mst, msv, mss, mby, C, rfl, rfl, hI⟩ := hx
  refine zz_aload_n1 (pc := 294) F dL_law_294 ?_
  refine zz_aload_n0 (pc := 295) F dL_law_295 ?_
  refine zz_iload_n3 (pc := 296) F dL_law_296 ?_
  refine zz_iconst_1 (pc := 297) F dL_law_297 ?_
  refine zz_iadd (pc := 298) F dL_law_298 ?_
  refine zz_sld (pc := 299) F X dL_law_299 (by omega) (by omega) ?_
  refine zz_aload_n0 (pc := 300) F dL_law_300 ?_
  refine zz_iload_n3 (pc := 301) F dL_law_301 ?_
  refine zz_iconst_2 (pc := 302) F dL_law_302 ?_
  refine zz_iadd (pc := 303) F dL_law_303 ?_
  refine zz_sld (pc := 304) F X dL_law_304 (by omega) (by omega) ?_
  refine zl_callXi (nA := 2) (pc := 305) F dL_law_305 (m_cut _ _ _ _ _ _ _ _ _ _ _ _ _ _ _ _ _ _ _ _ _ _ _ _ _ _ _ _ _ C hI) (lw_V q136 q137 q138 q18 q139) (by decide +kernel) rfl rfl (Nat.le_of_ble_eq_true rfl) (by decide) (fun r1 u1 h1 => ?_)
  obtain ⟨m1, hsp, hlx⟩ := h1
  refine zz_aload_n2 (pc := 308) F dL_law_308 ?_
  refine zz_aload_n0 (pc := 309) F dL_law_309 ?_
  refine zz_iload_n3 (pc := 310) F dL_law_310 ?_
  refine zz_iconst_1 (pc := 311) F dL_law_311 ?_
  refine zz_iadd (pc := 312) F dL_law_312 ?_
  refine zz_sld (pc := 313) F X dL_law_313 (by omega) (by omega) ?_
  refine zz_aload_n0 (pc := 314) F dL_law_314 ?_
  refine zz_iload_n3 (pc := 315) F dL_law_315 ?_
  refine zz_iconst_2 (pc := 316) F dL_law_316 ?_
  refine zz_iadd (pc := 317) F dL_law_317 ?_
  refine zz_sld (pc := 318) F X dL_law_318 (by omega) (by omega) ?_
  refine zl_callMi (nA := 2) (pc := 319) F dL_law_319 (n_cut _ _ _ _ _ _ _ _ _ _ (I_z hI) (I_v hI) (I_s hI)) (lw_V q271 q272 q273 q19 q274) (by decide +kernel) rfl rfl (Nat.le_of_ble_eq_true rfl) (by decide) (fun r2 u2 h2 => ?_)
  obtain ⟨rfl, rfl⟩ := det_cut (I_z hI) hsp h2
  refine zz_icmp_eqG (pc := 322) 521 F dL_law_322 (by decide) (fun c1 => ?_) (fun c1 => absurd rfl c1)
  exact go _ _ hlx
set_option maxHeartbeats 4000000 in
theorem law_save {k : ZK} {g : ZG} {b Ln i : Nat} {xs : Nat → Int32} {a : XT} {m : MT} (F : zz_F k g R_law code 4 8 298) (X : zz_X k b Ln xs) (hLn : Ln ≤ 256) (hi4 : i + 4 ≤ Ln) (hx : LX a m) (go : law_go k g b i) : zz_W k (wX g a ++ wM g m) 327 [some (.ref b), some (.ref (g.1 0)), some (.ref (g.1 20)), some (.int (nI i))] [] := by
  obtain ⟨sd, pl, sta, sav, pas, par, rfs, siz, bas, cel, pay, pri, fa, fb, fre, ou, un, pro, ch, msz, mst, msv, mss, mby, C, rfl, rfl, hI⟩ := hx
  refine zz_aload_n1 (pc := 327) F dL_law_327 ?_
  refine zz_aload_n0 (pc := 328) F dL_law_328 ?_
  refine zz_iload_n3 (pc := 329) F dL_law_329 ?_
  refine zz_iconst_1 (pc := 330) F dL_law_330 ?_
  refine zz_iadd (pc := 331) F dL_law_331 ?_
  refine zz_sld (pc := 332) F X dL_law_332 (by omega) (by omega) ?_
  refine zl_callXi (nA := 1) (pc := 333) F dL_law_333 (m_save _ _ _ _ _ _ _ _ _ _ _ _ _ _ _ _ _ _ _ _ _ _ _ _ _ _ _ _ C hI) (lw_V q140 q141 q142 q18 q143) (by decide +kernel) rfl rfl (Nat.le_of_ble_eq_true rfl) (by decide) (fun r1 u1 h1 => ?_)
  obtain ⟨m1, hsp, hlx⟩ := h1
  refine zz_aload_n2 (pc := 336) F dL_law_336 ?_
  refine zz_aload_n0 (pc := 337) F dL_law_337 ?_
  refine zz_iload_n3 (pc := 338) F dL_law_338 ?_
  refine zz_iconst_1 (pc := 339) F dL_law_339 ?_
  refine zz_iadd (pc := 340) F dL_law_340 ?_
  refine zz_sld (pc := 341) F X dL_law_341 (by omega) (by omega) ?_
  refine zl_callMi (nA := 1) (pc := 342) F dL_law_342 (n_save _ _ _ _ _ _ _ _ _ (I_z hI) (I_v hI) (I_s hI)) (lw_V q275 q276 q277 q19 q278) (by decide +kernel) rfl rfl (Nat.le_of_ble_eq_true rfl) (by decide) (fun r2 u2 h2 => ?_)
  obtain ⟨rfl, rfl⟩ := det_save hsp h2
  refine zz_icmp_eqG (pc := 345) 521 F dL_law_345 (by decide) (fun c1 => ?_) (fun c1 => absurd rfl c1)
  exact go _ _ hlx
set_option maxHeartbeats 4000000 in
theorem law_drop {k : ZK} {g : ZG} {b Ln i : Nat} {xs : Nat → Int32} {a : XT} {m : MT} (F : zz_F k g R_law code 4 8 298) (X : zz_X k b Ln xs) (hLn : Ln ≤ 256) (hi4 : i + 4 ≤ Ln) (hx : LX a m) (go : law_go k g b i) : zz_W k (wX g a ++ wM g m) 350 [some (.ref b), some (.ref (g.1 0)), some (.ref (g.1 20)), some (.int (nI i))] [] := by
  obtain ⟨sd, pl, sta, sav, pas, par, rfs, siz, bas, cel, pay, pri, fa, fb, fre, ou, un, pro, ch, msz, mst, msv, mss, mby, C, rfl, rfl, hI⟩ := hx
  refine zz_aload_n1 (pc := 350) F dL_law_350 ?_
  refine zz_aload_n0 (pc := 351) F dL_law_351 ?_
  refine zz_iload_n3 (pc := 352) F dL_law_352 ?_
  refine zz_iconst_1 (pc := 353) F dL_law_353 ?_
  refine zz_iadd (pc := 354) F dL_law_354 ?_
  refine zz_sld (pc := 355) F X dL_law_355 (by omega) (by omega) ?_
  refine zl_callXi (nA := 1) (pc := 356) F dL_law_356 (m_drop _ _ _ _ _ _ _ _ _ _ _ _ _ _ _ _ _ _ _ _ _ _ _ _ _ _ _ _ C hI) (lw_V q187 q188 q189 q18 q190) (by decide +kernel) rfl rfl (Nat.le_of_ble_eq_true rfl) (by decide) (fun r1 u1 h1 => ?_)
  obtain ⟨m1, hsp, hlx⟩ := h1
  refine zz_aload_n2 (pc := 359) F dL_law_359 ?_
  refine zz_aload_n0 (pc := 360) F dL_law_360 ?_
  refine zz_iload_n3 (pc := 361) F dL_law_361 ?_
  refine zz_iconst_1 (pc := 362) F dL_law_362 ?_
  refine zz_iadd (pc := 363) F dL_law_363 ?_
  refine zz_sld (pc := 364) F X dL_law_364 (by omega) (by omega) ?_
  refine zl_callMi (nA := 1) (pc := 365) F dL_law_365 (n_drop _ _ _ _ _ _ _ _ _ (I_z hI) (I_v hI) (I_s hI)) (lw_V q279 q280 q281 q19 q282) (by decide +kernel) rfl rfl (Nat.le_of_ble_eq_true rfl) (by decide) (fun r2 u2 h2 => ?_)
  obtain ⟨rfl, rfl⟩ := det_drop hsp h2
  refine zz_icmp_eqG (pc := 368) 521 F dL_law_368 (by decide) (fun c1 => ?_) (fun c1 => absurd rfl c1)
  exact go _ _ hlx
set_option maxHeartbeats 4000000 in
theorem law_stageLength {k : ZK} {g : ZG} {b Ln i : Nat} {xs : Nat → Int32} {a : XT} {m : MT} (F : zz_F k g R_law code 4 8 298) (X : zz_X k b Ln xs) (hLn : Ln ≤ 256) (hi4 : i + 4 ≤ Ln) (hx : LX a m) (go : law_go k g b i) : zz_W k (wX g a ++ wM g m) 373 [some (.ref b), some (.ref (g.1 0)), some (.ref (g.1 20)), some (.int (nI i))] [] := by
  obtain ⟨sd, pl, sta, sav, pas, par, rfs, siz, bas, cel, pay, pri, fa, fb, fre, ou, un, pro, ch, msz, mst, msv, mss, mby, C, rfl, rfl, hI⟩ := hx
  refine zz_aload_n1 (pc := 373) F dL_law_373 ?_
  refine zl_callXi (nA := 0) (pc := 374) F dL_law_374 (m_stageLength _ _ _ _ _ _ _ _ _ _ _ _ _ _ _ _ _ _ _ _ _ _ _ _ _ _ _ C hI) (lw_V q199 q200 q201 q18 q202) (by decide +kernel) rfl rfl (Nat.le_of_ble_eq_true rfl) (by decide) (fun r1 u1 h1 => ?_)
  obtain ⟨e1, hlx⟩ := h1
  refine zz_aload_n2 (pc := 377) F dL_law_377 ?_
  refine zl_callMi (nA := 0) (pc := 378) F dL_law_378 (n_stageLength _ _ _ _ _ _ _ _ ) (lw_V q283 q284 q285 q19 q286) (by decide +kernel) rfl rfl (Nat.le_of_ble_eq_true rfl) (by decide) (fun r2 u2 h2 => ?_)
  obtain ⟨e2, rfl⟩ := h2
  subst e1 e2
  refine zz_icmp_eqG (pc := 381) 521 F dL_law_381 (by decide) (fun c1 => ?_) (fun c1 => absurd rfl c1)
  exact go _ _ hlx
set_option maxHeartbeats 4000000 in
theorem law_stageByte {k : ZK} {g : ZG} {b Ln i : Nat} {xs : Nat → Int32} {a : XT} {m : MT} (F : zz_F k g R_law code 4 8 298) (X : zz_X k b Ln xs) (hLn : Ln ≤ 256) (hi4 : i + 4 ≤ Ln) (hx : LX a m) (go : law_go k g b i) : zz_W k (wX g a ++ wM g m) 386 [some (.ref b), some (.ref (g.1 0)), some (.ref (g.1 20)), some (.int (nI i))] [] := by
  obtain ⟨sd, pl, sta, sav, pas, par, rfs, siz, bas, cel, pay, pri, fa, fb, fre, ou, un, pro, ch, msz, mst, msv, mss, mby, C, rfl, rfl, hI⟩ := hx
  refine zz_aload_n1 (pc := 386) F dL_law_386 ?_
  refine zz_aload_n0 (pc := 387) F dL_law_387 ?_
  refine zz_iload_n3 (pc := 388) F dL_law_388 ?_
  refine zz_iconst_1 (pc := 389) F dL_law_389 ?_
  refine zz_iadd (pc := 390) F dL_law_390 ?_
  refine zz_sld (pc := 391) F X dL_law_391 (by omega) (by omega) ?_
  refine zl_callXi (nA := 1) (pc := 392) F dL_law_392 (m_stageByte _ _ _ _ _ _ _ _ _ _ _ _ _ _ _ _ _ _ _ _ _ _ _ _ _ _ _ _ C hI) (lw_V q203 q204 q205 q18 q206) (by decide +kernel) rfl rfl (Nat.le_of_ble_eq_true rfl) (by decide) (fun r1 u1 h1 => ?_)
  obtain ⟨m1, hsp, hlx⟩ := h1
  refine zz_aload_n2 (pc := 395) F dL_law_395 ?_
  refine zz_aload_n0 (pc := 396) F dL_law_396 ?_
  refine zz_iload_n3 (pc := 397) F dL_law_397 ?_
  refine zz_iconst_1 (pc := 398) F dL_law_398 ?_
  refine zz_iadd (pc := 399) F dL_law_399 ?_
  refine zz_sld (pc := 400) F X dL_law_400 (by omega) (by omega) ?_
  refine zl_callMi (nA := 1) (pc := 401) F dL_law_401 (n_stageByte _ _ _ _ _ _ _ _ _ (I_z hI) (I_v hI) (I_s hI)) (lw_V q287 q288 q289 q19 q290) (by decide +kernel) rfl rfl (Nat.le_of_ble_eq_true rfl) (by decide) (fun r2 u2 h2 => ?_)
  obtain ⟨rfl, rfl⟩ := det_stageByte (I_z hI) hsp h2
  refine zz_icmp_eqG (pc := 404) 521 F dL_law_404 (by decide) (fun c1 => ?_) (fun c1 => absurd rfl c1)
  exact go _ _ hlx
set_option maxHeartbeats 4000000 in
theorem law_length {k : ZK} {g : ZG} {b Ln i : Nat} {xs : Nat → Int32} {a : XT} {m : MT} (F : zz_F k g R_law code 4 8 298) (X : zz_X k b Ln xs) (hLn : Ln ≤ 256) (hi4 : i + 4 ≤ Ln) (hx : LX a m) (go : law_go k g b i) : zz_W k (wX g a ++ wM g m) 409 [some (.ref b), some (.ref (g.1 0)), some (.ref (g.1 20)), some (.int (nI i))] [] := by
  obtain ⟨sd, pl, sta, sav, pas, par, rfs, siz, bas, cel, pay, pri, fa, fb, fre, ou, un, pro, ch, msz, mst, msv, mss, mby, C, rfl, rfl, hI⟩ := hx
  refine zz_aload_n1 (pc := 409) F dL_law_409 ?_
  refine zz_aload_n0 (pc := 410) F dL_law_410 ?_
  refine zz_iload_n3 (pc := 411) F dL_law_411 ?_
  refine zz_iconst_1 (pc := 412) F dL_law_412 ?_
  refine zz_iadd (pc := 413) F dL_law_413 ?_
  refine zz_sld (pc := 414) F X dL_law_414 (by omega) (by omega) ?_
  refine zl_callXi (nA := 1) (pc := 415) F dL_law_415 (m_lengthI _ _ _ _ _ _ _ _ _ _ _ _ _ _ _ _ _ _ _ _ _ _ _ _ _ _ _ _ C hI) (lw_V q207 q106 q107 q18 q108) (by decide +kernel) rfl rfl (Nat.le_of_ble_eq_true rfl) (by decide) (fun r1 u1 h1 => ?_)
  obtain ⟨m1, hsp, hlx⟩ := h1
  refine zz_aload_n2 (pc := 418) F dL_law_418 ?_
  refine zz_aload_n0 (pc := 419) F dL_law_419 ?_
  refine zz_iload_n3 (pc := 420) F dL_law_420 ?_
  refine zz_iconst_1 (pc := 421) F dL_law_421 ?_
  refine zz_iadd (pc := 422) F dL_law_422 ?_
  refine zz_sld (pc := 423) F X dL_law_423 (by omega) (by omega) ?_
  refine zl_callMi (nA := 1) (pc := 424) F dL_law_424 (n_length _ _ _ _ _ _ _ _ _ (I_z hI) (I_v hI) (I_s hI)) (lw_V q291 q292 q293 q19 q294) (by decide +kernel) rfl rfl (Nat.le_of_ble_eq_true rfl) (by decide) (fun r2 u2 h2 => ?_)
  obtain ⟨rfl, rfl⟩ := det_length hsp h2
  refine zz_icmp_eqG (pc := 427) 521 F dL_law_427 (by decide) (fun c1 => ?_) (fun c1 => absurd rfl c1)
  exact go _ _ hlx
set_option maxHeartbeats 4000000 in
theorem law_byteAt {k : ZK} {g : ZG} {b Ln i : Nat} {xs : Nat → Int32} {a : XT} {m : MT} (F : zz_F k g R_law code 4 8 298) (X : zz_X k b Ln xs) (hLn : Ln ≤ 256) (hi4 : i + 4 ≤ Ln) (hx : LX a m) (go : law_go k g b i) : zz_W k (wX g a ++ wM g m) 432 [some (.ref b), some (.ref (g.1 0)), some (.ref (g.1 20)), some (.int (nI i))] [] := by
  obtain ⟨sd, pl, sta, sav, pas, par, rfs, siz, bas, cel, pay, pri, fa, fb, fre, ou, un, pro, ch, msz, mst, msv, mss, mby, C, rfl, rfl, hI⟩ := hx
  refine zz_aload_n1 (pc := 432) F dL_law_432 ?_
  refine zz_aload_n0 (pc := 433) F dL_law_433 ?_
  refine zz_iload_n3 (pc := 434) F dL_law_434 ?_
  refine zz_iconst_1 (pc := 435) F dL_law_435 ?_
  refine zz_iadd (pc := 436) F dL_law_436 ?_
  refine zz_sld (pc := 437) F X dL_law_437 (by omega) (by omega) ?_
  refine zz_aload_n0 (pc := 438) F dL_law_438 ?_
  refine zz_iload_n3 (pc := 439) F dL_law_439 ?_
  refine zz_iconst_2 (pc := 440) F dL_law_440 ?_
  refine zz_iadd (pc := 441) F dL_law_441 ?_
  refine zz_sld (pc := 442) F X dL_law_442 (by omega) (by omega) ?_
  refine zl_callXi (nA := 2) (pc := 443) F dL_law_443 (m_byteAt _ _ _ _ _ _ _ _ _ _ _ _ _ _ _ _ _ _ _ _ _ _ _ _ _ _ _ _ _ C hI) (lw_V q208 q209 q210 q18 q211) (by decide +kernel) rfl rfl (Nat.le_of_ble_eq_true rfl) (by decide) (fun r1 u1 h1 => ?_)
  obtain ⟨m1, hsp, hlx⟩ := h1
  refine zz_aload_n2 (pc := 446) F dL_law_446 ?_
  refine zz_aload_n0 (pc := 447) F dL_law_447 ?_
  refine zz_iload_n3 (pc := 448) F dL_law_448 ?_
  refine zz_iconst_1 (pc := 449) F dL_law_449 ?_
  refine zz_iadd (pc := 450) F dL_law_450 ?_
  refine zz_sld (pc := 451) F X dL_law_451 (by omega) (by omega) ?_
  refine zz_aload_n0 (pc := 452) F dL_law_452 ?_
  refine zz_iload_n3 (pc := 453) F dL_law_453 ?_
  refine zz_iconst_2 (pc := 454) F dL_law_454 ?_
  refine zz_iadd (pc := 455) F dL_law_455 ?_
  refine zz_sld (pc := 456) F X dL_law_456 (by omega) (by omega) ?_
  refine zl_callMi (nA := 2) (pc := 457) F dL_law_457 (n_byteAt _ _ _ _ _ _ _ _ _ _ (I_z hI) (I_v hI) (I_s hI)) (lw_V q295 q296 q297 q19 q298) (by decide +kernel) rfl rfl (Nat.le_of_ble_eq_true rfl) (by decide) (fun r2 u2 h2 => ?_)
  obtain ⟨rfl, rfl⟩ := det_byteAt (I_s hI) hsp h2
  refine zz_icmp_eqG (pc := 460) 521 F dL_law_460 (by decide) (fun c1 => ?_) (fun c1 => absurd rfl c1)
  exact go _ _ hlx
set_option maxHeartbeats 4000000 in
theorem law_sum {k : ZK} {g : ZG} {b Ln i : Nat} {xs : Nat → Int32} {a : XT} {m : MT} (F : zz_F k g R_law code 4 8 298) (X : zz_X k b Ln xs) (hLn : Ln ≤ 256) (hi4 : i + 4 ≤ Ln) (hx : LX a m) (go : law_go k g b i) : zz_W k (wX g a ++ wM g m) 465 [some (.ref b), some (.ref (g.1 0)), some (.ref (g.1 20)), some (.int (nI i))] [] := by
  obtain ⟨sd, pl, sta, sav, pas, par, rfs, siz, bas, cel, pay, pri, fa, fb, fre, ou, un, pro, ch, msz, mst, msv, mss, mby, C, rfl, rfl, hI⟩ := hx
  refine zz_aload_n1 (pc := 465) F dL_law_465 ?_
  refine zz_aload_n0 (pc := 466) F dL_law_466 ?_
  refine zz_iload_n3 (pc := 467) F dL_law_467 ?_
  refine zz_iconst_1 (pc := 468) F dL_law_468 ?_
  refine zz_iadd (pc := 469) F dL_law_469 ?_
  refine zz_sld (pc := 470) F X dL_law_470 (by omega) (by omega) ?_
  refine zl_callXi (nA := 1) (pc := 471) F dL_law_471 (m_sum _ _ _ _ _ _ _ _ _ _ _ _ _ _ _ _ _ _ _ _ _ _ _ _ _ _ _ _ C hI) (lw_V q212 q213 q214 q18 q215) (by decide +kernel) rfl rfl (Nat.le_of_ble_eq_true rfl) (by decide) (fun r1 u1 h1 => ?_)
  obtain ⟨m1, hsp, hlx⟩ := h1
  refine zz_aload_n2 (pc := 474) F dL_law_474 ?_
  refine zz_aload_n0 (pc := 475) F dL_law_475 ?_
  refine zz_iload_n3 (pc := 476) F dL_law_476 ?_
  refine zz_iconst_1 (pc := 477) F dL_law_477 ?_
  refine zz_iadd (pc := 478) F dL_law_478 ?_
  refine zz_sld (pc := 479) F X dL_law_479 (by omega) (by omega) ?_
  refine zl_callMi (nA := 1) (pc := 480) F dL_law_480 (n_sum _ _ _ _ _ _ _ _ _ (I_z hI) (I_v hI) (I_s hI)) (lw_V q299 q300 q301 q19 q302) (by decide +kernel) rfl rfl (Nat.le_of_ble_eq_true rfl) (by decide) (fun r2 u2 h2 => ?_)
  obtain ⟨rfl, rfl⟩ := det_sum hsp h2
  refine zz_icmp_eqG (pc := 483) 521 F dL_law_483 (by decide) (fun c1 => ?_) (fun c1 => absurd rfl c1)
  exact go _ _ hlx
set_option maxHeartbeats 4000000 in
theorem law_commonStart {k : ZK} {g : ZG} {b Ln i : Nat} {xs : Nat → Int32} {a : XT} {m : MT} (F : zz_F k g R_law code 4 8 298) (X : zz_X k b Ln xs) (hLn : Ln ≤ 256) (hi4 : i + 4 ≤ Ln) (hx : LX a m) (go : law_go k g b i) : zz_W k (wX g a ++ wM g m) 488 [some (.ref b), some (.ref (g.1 0)), some (.ref (g.1 20)), some (.int (nI i))] [] := by
  obtain ⟨sd, pl, sta, sav, pas, par, rfs, siz, bas, cel, pay, pri, fa, fb, fre, ou, un, pro, ch, msz, mst, msv, mss, mby, C, rfl, rfl, hI⟩ := hx
  refine zz_aload_n1 (pc := 488) F dL_law_488 ?_
  refine zz_aload_n0 (pc := 489) F dL_law_489 ?_
  refine zz_iload_n3 (pc := 490) F dL_law_490 ?_
  refine zz_iconst_1 (pc := 491) F dL_law_491 ?_
  refine zz_iadd (pc := 492) F dL_law_492 ?_
  refine zz_sld (pc := 493) F X dL_law_493 (by omega) (by omega) ?_
  refine zz_aload_n0 (pc := 494) F dL_law_494 ?_
  refine zz_iload_n3 (pc := 495) F dL_law_495 ?_
  refine zz_iconst_2 (pc := 496) F dL_law_496 ?_
  refine zz_iadd (pc := 497) F dL_law_497 ?_
  refine zz_sld (pc := 498) F X dL_law_498 (by omega) (by omega) ?_
  refine zl_callXi (nA := 2) (pc := 499) F dL_law_499 (m_commonStart _ _ _ _ _ _ _ _ _ _ _ _ _ _ _ _ _ _ _ _ _ _ _ _ _ _ _ _ _ C hI) (lw_V q216 q217 q218 q18 q219) (by decide +kernel) rfl rfl (Nat.le_of_ble_eq_true rfl) (by decide) (fun r1 u1 h1 => ?_)
  obtain ⟨m1, hsp, hlx⟩ := h1
  refine zz_aload_n2 (pc := 502) F dL_law_502 ?_
  refine zz_aload_n0 (pc := 503) F dL_law_503 ?_
  refine zz_iload_n3 (pc := 504) F dL_law_504 ?_
  refine zz_iconst_1 (pc := 505) F dL_law_505 ?_
  refine zz_iadd (pc := 506) F dL_law_506 ?_
  refine zz_sld (pc := 507) F X dL_law_507 (by omega) (by omega) ?_
  refine zz_aload_n0 (pc := 508) F dL_law_508 ?_
  refine zz_iload_n3 (pc := 509) F dL_law_509 ?_
  refine zz_iconst_2 (pc := 510) F dL_law_510 ?_
  refine zz_iadd (pc := 511) F dL_law_511 ?_
  refine zz_sld (pc := 512) F X dL_law_512 (by omega) (by omega) ?_
  refine zl_callMi (nA := 2) (pc := 513) F dL_law_513 (n_commonStart _ _ _ _ _ _ _ _ _ _ (I_z hI) (I_v hI) (I_s hI) (I_b hI)) (lw_V q303 q304 q305 q19 q306) (by decide +kernel) rfl rfl (Nat.le_of_ble_eq_true rfl) (by decide) (fun r2 u2 h2 => ?_)
  obtain ⟨rfl, rfl⟩ := det_common hsp h2
  refine zz_icmp_eqG (pc := 516) 521 F dL_law_516 (by decide) (fun c1 => ?_) (fun c1 => absurd rfl c1)
  exact go _ _ hlx
set_option maxHeartbeats 4000000 in
/-- the law's loop, at its head -/
theorem law_loop {k : ZK} {g : ZG} {b Ln : Nat} {xs : Nat → Int32} (F : zz_F k g R_law code 4 8 298) (X : zz_X k b Ln xs) (hLn : Ln ≤ 256) (hret : ∀ (ws : va_W) (L : ZL), zz_W k ws 528 L [.int 1]) :
    ∀ (n2 i : Nat) (a : XT) (m : MT), i ≤ Ln + 4 → Ln + 4 < i + n2 → LX a m → zz_W k (wX g a ++ wM g m) 18 [some (.ref b), some (.ref (g.1 0)), some (.ref (g.1 20)), some (.int (nI i))] [] := by
  intro n2
  induction n2 with
  | zero => intro i a m h1 h2; exfalso; omega
  | succ n2 ih =>
    intro i a m hi hm hx
    refine zz_iload_n3 (pc := 18) F dL_law_18 ?_
    refine zz_aload_n0 (pc := 19) F dL_law_19 ?_
    refine zz_slen (pc := 20) F X dL_law_20 ?_
    refine zz_iconst_4 (pc := 21) F dL_law_21 ?_
    refine zz_isubG (pc := 22) F dL_law_22 ?_
    refine zz_icmp_gtG (pc := 23) 527 F dL_law_23 (by decide) (fun c1 => ?_) (fun c1 => ?_)
    · refine zz_iconst (pc := 527) (v := 1) F dL_law_527 (by decide) ?_
      exact hret _ _
    · have hi4 := law_more (by omega) (by omega) c1
      have go : law_go k g b i := by
        intro a2 m2 hx2
        refine zz_iincG3 (pc := 521) F dL_law_521 (by decide) (v2 := nI (i + 4)) (nI_add i 4) ?_
        refine zz_goto (pc := 524) 18 F dL_law_524 (by decide) ?_
        exact ih (i + 4) a2 m2 (by omega) (by omega) hx2
      refine zz_aload_n0 (pc := 26) F dL_law_26 ?_
      refine zz_iload_n3 (pc := 27) F dL_law_27 ?_
      refine zz_sld (pc := 28) F X dL_law_28 (by omega) (by omega) ?_
      refine zz_bipush_15 (pc := 29) F dL_law_29 ?_
      refine zz_iandG (pc := 31) F dL_law_31 ?_
      refine zz_top (pk_and _ 4 (by decide)) ?_
      obtain ⟨v, hv, ev⟩ : ∃ v, v < 16 ∧ v = (xs i).toBitVec.toNat % 2 ^ 4 := ⟨_, Nat.mod_lt _ (by decide), rfl⟩
      rw [← ev]
      rcases (show v = 0 ∨ v = 1 ∨ v = 2 ∨ v = 3 ∨ v = 4 ∨ v = 5 ∨ v = 6 ∨ v = 7 ∨ v = 8 ∨ v = 9 ∨ v = 10 ∨ v = 11 ∨ v = 12 ∨ v = 13 ∨ v = 14 ∨ v = 15 by omega) with e | e | e | e | e | e | e | e | e | e | e | e | e | e | e | e
      all_goals subst e
      · exact zz_tabIn (pc := 32) (off := 76) 108 F dL_law_32 (by decide) (by decide) (by decide) (by decide) (law_begin F X hLn hi4 hx go)
      · exact zz_tabIn (pc := 32) (off := 87) 119 F dL_law_32 (by decide) (by decide) (by decide) (by decide) (law_feed F X hLn hi4 hx go)
      · exact zz_tabIn (pc := 32) (off := 110) 142 F dL_law_32 (by decide) (by decide) (by decide) (by decide) (law_feedRun F X hLn hi4 hx go)
      · exact zz_tabIn (pc := 32) (off := 153) 185 F dL_law_32 (by decide) (by decide) (by decide) (by decide) (law_feedFrom F X hLn hi4 hx go)
      · exact zz_tabIn (pc := 32) (off := 196) 228 F dL_law_32 (by decide) (by decide) (by decide) (by decide) (law_poke F X hLn hi4 hx go)
      · exact zz_tabIn (pc := 32) (off := 229) 261 F dL_law_32 (by decide) (by decide) (by decide) (by decide) (law_insert F X hLn hi4 hx go)
      · exact zz_tabIn (pc := 32) (off := 262) 294 F dL_law_32 (by decide) (by decide) (by decide) (by decide) (law_cut F X hLn hi4 hx go)
      · exact zz_tabIn (pc := 32) (off := 295) 327 F dL_law_32 (by decide) (by decide) (by decide) (by decide) (law_save F X hLn hi4 hx go)
      · exact zz_tabIn (pc := 32) (off := 318) 350 F dL_law_32 (by decide) (by decide) (by decide) (by decide) (law_drop F X hLn hi4 hx go)
      · exact zz_tabIn (pc := 32) (off := 341) 373 F dL_law_32 (by decide) (by decide) (by decide) (by decide) (law_stageLength F X hLn hi4 hx go)
      · exact zz_tabIn (pc := 32) (off := 354) 386 F dL_law_32 (by decide) (by decide) (by decide) (by decide) (law_stageByte F X hLn hi4 hx go)
      · exact zz_tabIn (pc := 32) (off := 377) 409 F dL_law_32 (by decide) (by decide) (by decide) (by decide) (law_length F X hLn hi4 hx go)
      · exact zz_tabIn (pc := 32) (off := 400) 432 F dL_law_32 (by decide) (by decide) (by decide) (by decide) (law_byteAt F X hLn hi4 hx go)
      · exact zz_tabIn (pc := 32) (off := 433) 465 F dL_law_32 (by decide) (by decide) (by decide) (by decide) (law_sum F X hLn hi4 hx go)
      · exact zz_tabIn (pc := 32) (off := 456) 488 F dL_law_32 (by decide) (by decide) (by decide) (by decide) (law_commonStart F X hLn hi4 hx go)
      · exact zz_tabOut (pc := 32) 521 F dL_law_32 (by decide) (by decide) (go a m hx)
end
section
set_option maxRecDepth 100000
set_option maxHeartbeats 4000000 in
theorem whole_start {p : Program} {e : Env} {s : State} {m : MethodId} {below : List Frame} {meth : Method} {c : Code} (l : Launch) {b L : Nat} {xs : Nat → Int32} (hL : L ≤ 256) (C0 : lw_At p s m meth c b L xs) : W p l e room_1 s m #[Value.ref b] below meth c s.heap [] 0 0 (lw_Z below #[Value.ref b] s) (entryFrame m ([Value.ref b] : List Value).toArray 4) := by
  obtain ⟨hx, hb, hr, hml, hown, hts0, hX, hbl, hlocks, hgv⟩ := C0
  have hts : ∀ w ∈ lw_all, w.before #[Value.ref b] s = true := fun w h => hts0 w (lw_all_tbl h)
  obtain ⟨c0_, iS0, hKn0⟩ := u_known (C := RX0) (T := TX0) (N := 19) (n := 19) hts0 (fun w h => lw_all_tbl (in_X0 w h)) (hts _ q21)
  obtain ⟨c1_, iS1, hKn1⟩ := u_known (C := RX1) (T := TX1) (N := 5) (n := 5) hts0 (fun w h => lw_all_tbl (in_X1 w h)) (hts _ q221)
  obtain ⟨ki, hki⟩ := zz_arr (ty := .int) (fun C h => by cases h) (hts _ q86)
  obtain ⟨kz, hkz⟩ := zz_arr (ty := .boolean) (fun C h => by cases h) (hts _ q87)
  obtain ⟨D, hDK⟩ : ∃ D : va_G, ∀ (k : Nat) (q : vw_C), vwCl[k]? = some q → u_Kn s q.1 q.2.1 q.2.2 (D.1 k) (D.2 k) := by
    refine ⟨(fun k => if k = 0 then c0_ else c1_, fun k => if k = 0 then iS0 else iS1), ?_⟩
    intro k q hq
    match k, hq with
    | 0, hq => cases hq; exact hKn0
    | 1, hq => cases hq; exact hKn1
    | k + 2, hq => simp [vwCl] at hq
  have hK : va_K D vwCl [(ki, .int), (kz, .boolean)] s := by
    refine ⟨hDK, fun k q hk => ?_⟩
    match k, hk with
    | 0, hk => cases hk; exact hki
    | 1, hk => cases hk; exact hkz
    | k + 2, hk => simp at hk
  obtain ⟨A, hAe⟩ : ∃ A : Nat → Prop, A = fun q => s.heap.size ≤ q := ⟨_, rfl⟩
  have hA : ∀ q, s.heap.size ≤ q → A q := fun q h => by rw [hAe]; exact h
  have hA2 : ∀ q, A q → s.heap.size ≤ q := fun q h => by rw [hAe] at h; exact h
  have hP : va_P D vwCl [] s.heap := fun k q h => by simp at h
  have hD : va_D A [] := ⟨fun i j p q h => by simp at h, fun k q h => by simp at h⟩
  have hS : va_S A s.heap s.heap [] := va_S.rf
  have hl := lv_entry ([.ref b]) (n := 4) (Nat.le_of_ble_eq_true rfl)
  rw [lg_entry_eq]
  generalize (lg_sl ([.ref b]) ++ List.replicate (4 - (lg_sl ([.ref b])).length) Slot.unset).toArray = ls at hl ⊢
  have hl : lv_has ls 4 [(0, .ref b)] := hl
  refine va_new (ci := 0) (fs := [.int (nI 0), .null, .null, .null, .null, .null, .null, .null, .null, .null, .null, .null, .null, .null, .null, .null, .null, .int (nI 0), .null]) (C := RX0) (T := TX0) (N := 19) hx hb hts in_X0 tyX0 tyX0_ok hown (hts _ q20) (hts _ q21) (hts _ q18) hK hP hD hS hA rfl (fun j hj => by
    match j, hj with
    | 0, _ => rfl
    | 1, _ => rfl
    | 2, _ => rfl
    | 3, _ => rfl
    | 4, _ => rfl
    | 5, _ => rfl
    | 6, _ => rfl
    | 7, _ => rfl
    | 8, _ => rfl
    | 9, _ => rfl
    | 10, _ => rfl
    | 11, _ => rfl
    | 12, _ => rfl
    | 13, _ => rfl
    | 14, _ => rfl
    | 15, _ => rfl
    | 16, _ => rfl
    | 17, _ => rfl
    | 18, _ => rfl
    | j + 19, h => exact absurd h (by omega)) (by decide) (by decide) dL_law_0 (fun h0 H hP hD hS => ?_)
  have hP : va_P D vwCl [(h0, .inr (0, [.int (nI 0), .null, .null, .null, .null, .null, .null, .null, .null, .null, .null, .null, .null, .null, .null, .null, .null, .int (nI 0), .null]))] H := hP
  have hD : va_D A [(h0, .inr (0, [.int (nI 0), .null, .null, .null, .null, .null, .null, .null, .null, .null, .null, .null, .null, .null, .null, .null, .null, .int (nI 0), .null]))] := hD
  refine W.widen (k := 1) (n := 19) (by decide) (by decide) ?_
  refine lv_dup hx hb dL_law_3 rfl ?_
  have hFc := va_free (wc := [(h0, .inr (0, [.int (nI 0), .null, .null, .null, .null, .null, .null, .null, .null, .null, .null, .null, .null, .null, .null, .null, .null, .int (nI 0), .null]))]) hD hS hA [0] rfl
  refine va_callv (va_runI (As := []) (rest := [.ref h0]) ⟨hx, hb, hml, hown, hts⟩ (m_initX0 l D ki kz h0 H.size) (cwI 0 hts (lw_meth q24) rfl rfl rfl (hts _ q18) (hts _ q22) (hts _ q23) rfl (by decide +kernel) (by decide)) ⟨fun a U g mk q => by obtain ⟨q0, q1, qP, qK, qD⟩ := q; exact ⟨q0, q1, qP, va_K.moved (u := U) (U := U.calling g mk a) (Vm.Alike.refl U.vm) qK, qD⟩, fun U hU hW => ⟨rfl, by rw [hU], by rw [hU]; exact hP, va_K.moved hW.alike hK, hD.weaken (fun _ _ _ _ => trivial)⟩⟩ rfl rfl hl.1 rfl (lv_room (Nat.le_of_ble_eq_true rfl)) dL_law_4 (by decide)) hS (fun q _ h => hFc q h) hFc (fun a1 t H1 locs ht hvm hw1 hB hz1 hk1 hS => ?_)
  obtain ⟨hP1, hK1, hD1⟩ := hB
  rw [ht] at hP1
  have hw1 : a1 0 = h0 := hw1
  subst hw1
  have hP := hP1
  have hD : va_D A (wX (a1, ki, kz) X00) := hD1.weaken (fun _ q _ h => hFc q.1 h)
  refine W.widen (k := 18) (n := 2503) (by decide) (by decide) ?_
  refine lv_astore_n (lv' := [(1, .ref (a1 0)), (0, .ref b)]) hx hb dL_law_7 rfl hl (by decide) rfl (fun ls hl => ?_)
  refine va_new (ci := 1) (fs := [.null, .int (nI 0), .null, .null, .null]) (C := RX1) (T := TX1) (N := 5) hx hb hts in_X1 tyX1 tyX1_ok hown (hts _ q220) (hts _ q221) (hts _ q19) hK hP hD hS hA rfl (fun j hj => by
    match j, hj with
    | 0, _ => rfl
    | 1, _ => rfl
    | 2, _ => rfl
    | 3, _ => rfl
    | 4, _ => rfl
    | j + 5, h => exact absurd h (by omega)) (by decide) (by decide) dL_law_8 (fun h1 H hP hD hS => ?_)
  refine W.widen (k := 19) (n := 2508) (by decide) (by decide) ?_
  refine lv_dup hx hb dL_law_11 rfl ?_
  have hPc := hP.sub (ws' := [(h1, .inr (1, [.null, .int (nI 0), .null, .null, .null]))]) [18] rfl
  have hDc := hD.sub (ws' := [(h1, .inr (1, [.null, .int (nI 0), .null, .null, .null]))]) [18] (by decide) rfl
  have hFc := va_free (wc := [(h1, .inr (1, [.null, .int (nI 0), .null, .null, .null]))]) hD hS hA [18] rfl
  refine va_callv (va_runI (As := []) (rest := [.ref h1]) ⟨hx, hb, hml, hown, hts⟩ (m_initX1 l D ki kz a1 h1 H.size) (cwI 0 hts (lw_meth q224) rfl rfl rfl (hts _ q19) (hts _ q222) (hts _ q223) rfl (by decide +kernel) (by decide)) ⟨fun a U g mk q => by obtain ⟨q0, q1, qP, qK, qD⟩ := q; exact ⟨q0, q1, qP, va_K.moved (u := U) (U := U.calling g mk a) (Vm.Alike.refl U.vm) qK, qD⟩, fun U hU hW => ⟨rfl, by rw [hU], by rw [hU]; exact hPc, va_K.moved hW.alike hK, hDc.weaken (fun _ _ _ _ => trivial)⟩⟩ rfl rfl hl.1 rfl (lv_room (Nat.le_of_ble_eq_true rfl)) dL_law_12 (by decide)) hS (fun q _ h => hFc q h) hFc (fun a2 t2 H2 locs2 ht2 hvm2 hw2 hB2 hz2 hk2 hS2 => ?_)
  obtain ⟨hP2, hK2, hD2⟩ := hB2
  rw [ht2] at hP2
  obtain ⟨hw2, hw3⟩ := hw2
  subst hw2
  obtain ⟨hP3, hD3⟩ := va_join (wr := wX (a1, ki, kz) X00) (w1 := wM (a2, ki, kz) M00) hP hD [18] [0, 1, 2, 3, 4, 5, 6, 7, 8, 9, 10, 11, 12, 13, 14, 15, 16, 17] rfl rfl (by decide) (by decide) hk2 hFc hP2 hD2
  have eX : wX (a1, ki, kz) X00 = wX (a2, ki, kz) X00 := by
    unfold wX
    simp only [hw3 0 (by decide), hw3 1 (by decide), hw3 2 (by decide), hw3 3 (by decide), hw3 4 (by decide), hw3 5 (by decide), hw3 6 (by decide), hw3 7 (by decide), hw3 8 (by decide), hw3 9 (by decide), hw3 10 (by decide), hw3 11 (by decide), hw3 12 (by decide), hw3 13 (by decide), hw3 14 (by decide), hw3 15 (by decide), hw3 16 (by decide), hw3 17 (by decide), hw3 18 (by decide)]
  rw [eX] at hP3 hD3
  refine W.widen (k := 23) (n := 3192) (by decide) (by decide) ?_
  refine lv_astore_n (lv' := [(2, .ref (a2 20)), (1, .ref (a1 0)), (0, .ref b)]) hx hb dL_law_15 rfl hl (by decide) rfl (fun ls hl => ?_)
  refine lv_iconst (v := nI 0) hx hb dL_law_16 (by decide) ?_
  refine lv_istore_n (lv' := [(3, .int (nI 0)), (2, .ref (a2 20)), (1, .ref (a1 0)), (0, .ref b)]) hx hb dL_law_17 rfl hl (by decide) rfl (fun ls hl => ?_)
  have hzl : zl_has ls c.maxLocals [some (.ref b), some (.ref (a2 0)), some (.ref (a2 20)), some (.int (nI 0))] := by
    refine ⟨hl.1.trans hml.symm, hl.2.1, fun i v hi => ?_⟩
    match i, hi with
    | 0, hi => cases hi; exact ⟨rfl, lv_at hl 3 rfl⟩
    | 1, hi =>
      cases hi
      rw [hw3 0 (by decide)]
      exact ⟨rfl, lv_at hl 2 rfl⟩
    | 2, hi => cases hi; exact ⟨rfl, lv_at hl 1 rfl⟩
    | 3, hi => cases hi; exact ⟨rfl, lv_at hl 0 rfl⟩
    | i + 4, hi => simp at hi
  exact law_loop (k := (p, l, e, room_1, s, m, #[Value.ref b], below, meth, c, lw_Z below #[Value.ref b] s, A, D, 23, 3192)) (g := (a2, ki, kz)) (b := b) (Ln := L) (xs := xs) ⟨hx, hb, hml, hown, hts, hK, hA, by decide, by decide, by decide, by decide⟩ ⟨hX, hbl, fun h => absurd (hA2 b h) (Nat.not_le.mpr hbl)⟩ hL (fun ws L2 H3 locs3 ls3 _ _ hS3 _ => va_forget (fun q hq => hA2 _ (hS3.2.2 q hq)) (W.widen (k := 600000) (n := 7290000) (by decide) (by decide) (lw_ret hx hb hr hlocks dL_law_528))) (L + 5) 0 X00 M00 (by omega) (by omega) LX_0 H2 locs2 ls hP3 hD3 hS2 hzl
end
section
set_option maxHeartbeats 4000000 in
theorem lw_walk (l : Launch) (b : Addr) (xs : List Int32) : MetFree l x (headSpec (Jvm.Cond.code x code maxLocals ret :: tables_1) room_1) (lw_P b xs) (fun _ _ _ _ _ => True) lw_Q := by
  refine MetFree.of_bodyS (code := code) (maxLocals := maxLocals) (ret := ret) (by decide) ?_ ?_
  · intro args s m h hn
    obtain ⟨meth, c, h1, h2, h3, h4, h5, h6, -, -⟩ := Cond.code_spec hn (atoms_spec (ws := Jvm.Cond.code x code maxLocals ret :: tables_1) h _ List.mem_cons_self)
    exact ⟨meth, c, h1, h2, h3, h4, h5, h6⟩
  · intro p e s m args below meth c s₁ B hml0 hP _
    obtain ⟨rfl, hx, hbd, hgv⟩ := hP
    obtain ⟨scr, harrAt, hlist, hof, hsmall⟩ := hx
    obtain ⟨hcb, hkn, -, -⟩ := State.arrayAt?_spec harrAt
    have hown : s.vm.findClass R_law = some m.cls := findClass_of_methodNamed B.named
    have hts0 : ∀ c ∈ (Jvm.Cond.code x code maxLocals ret :: tables_1), c.before #[Value.ref b] s = true := atoms_spec (ws := Jvm.Cond.code x code maxLocals ret :: tables_1) B.pre
    have hts : ∀ w ∈ lw_tbl, w.before #[Value.ref b] s = true := k2_hts_sels lw_privs (fun w hw => hts0 w (List.mem_cons_of_mem _ hw)) lw_privs_ok
    have hml : c.maxLocals = 4 := B.maxLocals_eq (hts0 _ List.mem_cons_self)
    have X₀ : Stand p l e room_1 s m #[Value.ref b] below meth c s₁ [] 0 0 := Stand.of_body B
    have hh0 : s₁.heap = s.heap := by rw [B.state]; rfl
    have hsz : scr.slots.size = xs.length := by rw [← Array.length_toList, hlist, List.length_map]
    have hval : ∀ j : Nat, j < xs.length → scr.slots[j]? = some (.int (xs.getD j 0)) := fun j hj => by
      rw [← Array.getElem?_toList, hlist]
      simp [hj]
    have hbl : b < s.heap.size := (Array.getElem?_eq_some_iff.mp hcb).1
    have hX : va_X b xs.length (fun j => xs.getD j 0) s s.heap := ⟨scr, hcb, hof, hkn, hsz, hval⟩
    have K : W p l e room_1 s m #[Value.ref b] below meth c s₁.heap [] 0 0 (lw_Z below #[Value.ref b] s) (entryFrame m ([Value.ref b] : List Value).toArray 4) := by
      rw [hh0]
      exact whole_start l hbd ⟨B.exec, B.bytes, B.returns, hml, hown, hts, hX, hbl, B.notSynchronized, hgv⟩
    obtain ⟨t, a1, o, b1, b2, b3⟩ := K s₁ rfl X₀
    exact ⟨t, o, a1, b1, b2, b3⟩
theorem lw_pre_spec {args : Array Value} {s : State} (h : (Jvm.Cond.and given_1 narrow_1).before args s = true) (hr : rest_1_c.before args s = true) : ∃ (b : Addr) (xs : List Int32), lw_P b xs args s := by
  have hs := flat_of_before _ h
  have hq := flat_of_before _ hr
  have hc : (Cond.count 1).before args s = true := hs _ (by decide +kernel)
  have harr : (Cond.arrayOf (.arg 0) .int).before args s = true := hs _ (by decide +kernel)
  have hle : (Cond.le (.length (.arg 0)) (.int 256)).before args s = true := hs _ (by decide +kernel)
  have hlen : (Cond.isInt (.length (.arg 0))).before args s = true := hq _ (by decide +kernel)
  have hall : (Cond.all (.arg 0) (.isInt (.elem (.arg 0) (.index 0)))).before args s = true := hq _ (by decide +kernel)
  obtain ⟨b, xs, hb, hx⟩ := State.ints_of_pre rfl harr hlen hall
  have hsm : xs.length < 2 ^ 31 := hx.choose_spec.2.2.2
  have hev : (Term.length (.arg 0)).eval args s none [] s = some (.int xs.length.toInt32) := hx.length_eval hb
  have hv := Cond.le_ints hev (show (Term.int 256).eval args s none [] s = some (.int 256) from rfl)
  have hd : xs.length.toInt32 ≤ 256 := by
    simpa [Cond.before, Cond.holds, hv] using hle
  have hN : xs.length ≤ 256 := (Int32.ofNat_le_ofNat hsm (by decide)).mp (show Int32.ofNat xs.length ≤ Int32.ofNat 256 from hd)
  exact ⟨b, xs, Cond.one_arg hc (show args[0]? = some (.ref b) from hb), hx, hN, h⟩
theorem lw_comes (l : Launch) : Comes l x (Jvm.Cond.code x code maxLocals ret :: tables_1) room_1 (fun tb e args s => Calls_1 tb e args s ∧ rest_1 tb e args s ∧ Pre_1 tb e args s)
    (fun _ _ args s o t => lw_Q args s o t) := by
  intro p e ha hc hk s m args below hf hfit hheap happ hpre
  obtain ⟨b, xs, hP⟩ := lw_pre_spec hpre.2.2 hpre.2.1
  obtain ⟨k, o, h1, h2, h3, hQ⟩ := lw_walk l b xs p e ha hc hk s m args below hf ((Spec.applies_iff_loose hf).mp happ).1 hP trivial
  exact ⟨k, o, h1, h2, h3, hQ⟩
theorem lw_frame {s t : State} {o : Outcome} {args : Array Value} (h : Framed s o t [] 600000 7290000) :
    Framed s o t (fieldLocs frame_1_writes args s ++ arrayLocs frame_1_arrays args s ++ staticLocs frame_1_statics s) 600000 7290000 := h
theorem lw_limb (L : Cond) (hL : ∀ (args : Array Value) (s t : State), L.after args s (.returned (some (.int 1))) t = true) :
    ArmFor flags0 classFile x code maxLocals ret World_1 tables_1 room_1 Calls_1 rest_1 Pre_1
      (fun tb e a s o t => postC L tb e a s o t ∧ Framed s o t (fieldLocs frame_1_writes a s ++ arrayLocs frame_1_arrays a s ++ staticLocs frame_1_statics s) 600000 7290000) := by
  intro l _ _ _ p e ha hc hk s m args below hf hfit hheap happ hpre
  obtain ⟨k, o, h1, h2, h3, rfl, hF⟩ := lw_comes l p e ha hc hk s m args below hf hfit hheap happ hpre
  exact ⟨k, _, h1, h2, h3, hL args s _, lw_frame hF⟩
theorem i_vc : Claimed_1_1 ∧ Claimed_1_2 := ⟨lw_limb limb_1_1 (fun args s t => by simp [limb_1_1, Cond.after, Cond.holds, Cond.value]), lw_limb limb_1_2 (fun args s t => Cond.after_iff.mpr (by
  first | (rw [show limb_1_2 = Cond.eq .result (.int 1) from rfl, Cond.eq_ints (x := 1) (y := 1) rfl rfl]; simp; done) | (simp [limb_1_2, Cond.value, Term.eval]; done)))⟩
end
