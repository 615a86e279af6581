section
-- ===== PART A: goes FIRST, ahead of the names: the tables' words, and 'selects' of the private methods out of them =====
/-- a private method of a class that the tables say can be made, by its rows of tables_1 -/
def lw_okq (q : MethodName × Nat) : Prop := (q.1.cls ≠ "java/lang/invoke/MethodHandle" ∧ q.1.cls ≠ "java/lang/invoke/VarHandle") ∧ Cond.instantiable q.1.cls q.2 ∈ tables_1 ∧ Cond.privateMethod q.1 ∈ tables_1 ∧ Cond.instanceMethod q.1 ∈ tables_1
set_option maxRecDepth 100000
theorem lw_t1 {w : Cond} (h : w ∈ tables_1_1) : w ∈ tables_1 := List.mem_append_left _ h
theorem lw_t2 {w : Cond} (h : w ∈ tables_1_2) : w ∈ tables_1 := List.mem_append_right _ h
theorem lw_p0 : lw_okq (⟨"PathRanker", "rank", "(II)Z"⟩, 14) := ⟨⟨by decide +kernel, by decide +kernel⟩, lw_t1 (List.mem_of_getElem? (i := 4) rfl), lw_t1 (List.mem_of_getElem? (i := 85) rfl), lw_t1 (List.mem_of_getElem? (i := 86) rfl)⟩
theorem lw_p1 : lw_okq (⟨"PathRanker", "addCandidate", "(III)V"⟩, 14) := ⟨⟨by decide +kernel, by decide +kernel⟩, lw_t1 (List.mem_of_getElem? (i := 4) rfl), lw_t1 (List.mem_of_getElem? (i := 89) rfl), lw_t1 (List.mem_of_getElem? (i := 90) rfl)⟩
theorem lw_p2 : lw_okq (⟨"PathRanker", "measure", "(II)V"⟩, 14) := ⟨⟨by decide +kernel, by decide +kernel⟩, lw_t1 (List.mem_of_getElem? (i := 4) rfl), lw_t1 (List.mem_of_getElem? (i := 93) rfl), lw_t1 (List.mem_of_getElem? (i := 94) rfl)⟩
theorem lw_p3 : lw_okq (⟨"PathRanker", "bestNext", "(II)I"⟩, 14) := ⟨⟨by decide +kernel, by decide +kernel⟩, lw_t1 (List.mem_of_getElem? (i := 4) rfl), lw_t1 (List.mem_of_getElem? (i := 101) rfl), lw_t1 (List.mem_of_getElem? (i := 102) rfl)⟩
theorem lw_p4 : lw_okq (⟨"PathRanker", "bestCandidate", "()I"⟩, 14) := ⟨⟨by decide +kernel, by decide +kernel⟩, lw_t1 (List.mem_of_getElem? (i := 4) rfl), lw_t1 (List.mem_of_getElem? (i := 105) rfl), lw_t1 (List.mem_of_getElem? (i := 106) rfl)⟩
theorem lw_p5 : lw_okq (⟨"PathRanker", "goesBefore", "(II)Z"⟩, 14) := ⟨⟨by decide +kernel, by decide +kernel⟩, lw_t1 (List.mem_of_getElem? (i := 4) rfl), lw_t1 (List.mem_of_getElem? (i := 109) rfl), lw_t1 (List.mem_of_getElem? (i := 110) rfl)⟩
theorem lw_p6 : lw_okq (⟨"PathRanker", "wayAt", "(III)I"⟩, 14) := ⟨⟨by decide +kernel, by decide +kernel⟩, lw_t1 (List.mem_of_getElem? (i := 4) rfl), lw_t1 (List.mem_of_getElem? (i := 117) rfl), lw_t1 (List.mem_of_getElem? (i := 118) rfl)⟩
theorem lw_p7 : lw_okq (⟨"PathRanker", "placesOf", "(I)I"⟩, 14) := ⟨⟨by decide +kernel, by decide +kernel⟩, lw_t1 (List.mem_of_getElem? (i := 4) rfl), lw_t1 (List.mem_of_getElem? (i := 143) rfl), lw_t1 (List.mem_of_getElem? (i := 144) rfl)⟩
theorem lw_p8 : lw_okq (⟨"PathRankerModel", "pair", "(II)Z"⟩, 4) := ⟨⟨by decide +kernel, by decide +kernel⟩, lw_t1 (List.mem_of_getElem? (i := 155) rfl), lw_t1 (List.mem_of_getElem? (i := 178) rfl), lw_t1 (List.mem_of_getElem? (i := 179) rfl)⟩
theorem lw_p9 : lw_okq (⟨"PathRankerModel", "list", "(II)V"⟩, 4) := ⟨⟨by decide +kernel, by decide +kernel⟩, lw_t1 (List.mem_of_getElem? (i := 155) rfl), lw_t1 (List.mem_of_getElem? (i := 198) rfl), lw_t1 (List.mem_of_getElem? (i := 199) rfl)⟩
theorem lw_p10 : lw_okq (⟨"PathRankerModel", "look", "(III)V"⟩, 4) := ⟨⟨by decide +kernel, by decide +kernel⟩, lw_t1 (List.mem_of_getElem? (i := 155) rfl), lw_t1 (List.mem_of_getElem? (i := 202) rfl), lw_t1 (List.mem_of_getElem? (i := 203) rfl)⟩
theorem lw_p11 : lw_okq (⟨"PathRankerModel", "find", "(III)I"⟩, 4) := ⟨⟨by decide +kernel, by decide +kernel⟩, lw_t1 (List.mem_of_getElem? (i := 155) rfl), lw_t1 (List.mem_of_getElem? (i := 210) rfl), lw_t1 (List.mem_of_getElem? (i := 211) rfl)⟩
theorem lw_p12 : lw_okq (⟨"PathRankerModel", "rank", "(I)I"⟩, 4) := ⟨⟨by decide +kernel, by decide +kernel⟩, lw_t1 (List.mem_of_getElem? (i := 155) rfl), lw_t1 (List.mem_of_getElem? (i := 214) rfl), lw_t1 (List.mem_of_getElem? (i := 215) rfl)⟩
theorem lw_p13 : lw_okq (⟨"PathRankerModel", "before", "(II)Z"⟩, 4) := ⟨⟨by decide +kernel, by decide +kernel⟩, lw_t1 (List.mem_of_getElem? (i := 155) rfl), lw_t1 (List.mem_of_getElem? (i := 218) rfl), lw_t1 (List.mem_of_getElem? (i := 219) rfl)⟩
theorem lw_p14 : lw_okq (⟨"PathRankerModel", "digit", "(II)I"⟩, 4) := ⟨⟨by decide +kernel, by decide +kernel⟩, lw_t1 (List.mem_of_getElem? (i := 155) rfl), lw_t1 (List.mem_of_getElem? (i := 222) rfl), lw_t1 (List.mem_of_getElem? (i := 223) rfl)⟩
theorem lw_p15 : lw_okq (⟨"PathRankerModel", "sizeOf", "(II)I"⟩, 4) := ⟨⟨by decide +kernel, by decide +kernel⟩, lw_t1 (List.mem_of_getElem? (i := 155) rfl), lw_t1 (List.mem_of_getElem? (i := 230) rfl), lw_t1 (List.mem_of_getElem? (i := 231) rfl)⟩
def lw_privs_1 : List (MethodName × Nat) := [(⟨"PathRanker", "rank", "(II)Z"⟩, 14), (⟨"PathRanker", "addCandidate", "(III)V"⟩, 14), (⟨"PathRanker", "measure", "(II)V"⟩, 14), (⟨"PathRanker", "bestNext", "(II)I"⟩, 14), (⟨"PathRanker", "bestCandidate", "()I"⟩, 14), (⟨"PathRanker", "goesBefore", "(II)Z"⟩, 14), (⟨"PathRanker", "wayAt", "(III)I"⟩, 14), (⟨"PathRanker", "placesOf", "(I)I"⟩, 14), (⟨"PathRankerModel", "pair", "(II)Z"⟩, 4), (⟨"PathRankerModel", "list", "(II)V"⟩, 4), (⟨"PathRankerModel", "look", "(III)V"⟩, 4), (⟨"PathRankerModel", "find", "(III)I"⟩, 4), (⟨"PathRankerModel", "rank", "(I)I"⟩, 4), (⟨"PathRankerModel", "before", "(II)Z"⟩, 4), (⟨"PathRankerModel", "digit", "(II)I"⟩, 4), (⟨"PathRankerModel", "sizeOf", "(II)I"⟩, 4)]
theorem lw_r1 : ∀ q ∈ lw_privs_1, lw_okq q := List.forall_mem_cons.mpr ⟨lw_p0, List.forall_mem_cons.mpr ⟨lw_p1, List.forall_mem_cons.mpr ⟨lw_p2, List.forall_mem_cons.mpr ⟨lw_p3, List.forall_mem_cons.mpr ⟨lw_p4, List.forall_mem_cons.mpr ⟨lw_p5, List.forall_mem_cons.mpr ⟨lw_p6, List.forall_mem_cons.mpr ⟨lw_p7, List.forall_mem_cons.mpr ⟨lw_p8, List.forall_mem_cons.mpr ⟨lw_p9, List.forall_mem_cons.mpr ⟨lw_p10, List.forall_mem_cons.mpr ⟨lw_p11, List.forall_mem_cons.mpr ⟨lw_p12, List.forall_mem_cons.mpr ⟨lw_p13, List.forall_mem_cons.mpr ⟨lw_p14, List.forall_mem_cons.mpr ⟨lw_p15, fun _ h => absurd h List.not_mem_nil⟩⟩⟩⟩⟩⟩⟩⟩⟩⟩⟩⟩⟩⟩⟩⟩
theorem lw_p16 : lw_okq (⟨"PathRankerModel", "through", "(III)Z"⟩, 4) := ⟨⟨by decide +kernel, by decide +kernel⟩, lw_t1 (List.mem_of_getElem? (i := 155) rfl), lw_t2 (List.mem_of_getElem? (i := 12) rfl), lw_t2 (List.mem_of_getElem? (i := 13) rfl)⟩
def lw_privs_2 : List (MethodName × Nat) := [(⟨"PathRankerModel", "through", "(III)Z"⟩, 4)]
theorem lw_r2 : ∀ q ∈ lw_privs_2, lw_okq q := List.forall_mem_cons.mpr ⟨lw_p16, fun _ h => absurd h List.not_mem_nil⟩
def lw_privs : List (MethodName × Nat) := lw_privs_1 ++ (lw_privs_2)
def lw_tbl : List Cond := k2_sels lw_privs ++ tables_1
theorem lw_privs_ok : ∀ q ∈ lw_privs, lw_okq q := by
  show ∀ q ∈ lw_privs_1 ++ (lw_privs_2), lw_okq q
  exact List.forall_mem_append.mpr ⟨lw_r1, lw_r2⟩
-- ===== ONE list of words for every method: the tables' words that hold all through a run =====
def lw_all : List Cond := lw_tbl.filter goodWord
/-- a word of the tables by its place: claim/WORDS.tsv -/
theorem lw_w {w : Cond} (i : Nat) (h : lw_tbl[i]? = some w) (g : goodWord w = true) : w ∈ lw_all := List.mem_filter.mpr ⟨List.mem_of_getElem? h, g⟩
theorem lw_all_tbl {w : Cond} (h : w ∈ lw_all) : w ∈ lw_tbl := (List.mem_filter.mp h).1
theorem lw_self : GoodIn lw_all lw_all := fun w h => ⟨h, good_of_word (List.mem_filter.mp h).2⟩
/-- a class's field words, by their places -/
theorem lw_in (ws : List Cond) (ps : List Nat) (hp : ws = ps.filterMap (fun i => lw_tbl[i]?)) (hg : ws.all goodWord = true) : ∀ w ∈ ws, w ∈ lw_all := by
  intro w h
  have h1 := List.all_eq_true.mp hg w h
  rw [hp] at h
  obtain ⟨i, -, hi⟩ := List.mem_filterMap.mp h
  exact lw_w i hi h1
/-- the words of a contract for the method y with code b, L locals, answer r -/
abbrev ws_ (y : MethodName) (b : ByteArray) (L : Nat) (r : Option FieldType) : List Cond := Cond.code y b L r :: lw_all
theorem lw_meth {y : MethodName} {b : ByteArray} {L : Nat} {r : Option FieldType} (h : Cond.code y b L r ∈ lw_all) : GoodIn lw_all (ws_ y b L r) := by
  intro w hw
  rcases List.mem_cons.mp hw with e | e
  · rw [e]
    exact lw_self _ h
  · exact lw_self _ e
theorem lw_app {a c : List Cond} (ha : ∀ w ∈ a, w ∈ lw_all) (hc : GoodIn lw_all c) : GoodIn lw_all (a ++ c) := by
  intro w hw
  rcases List.mem_append.mp hw with e | e
  · exact lw_self w (ha w e)
  · exact hc w e
/-- what a call through an object asks: cwV n hts (lw_V ..) -/
theorem lw_V {own : String} {idx : Nat} {C : String} {y : MethodName} {b : ByteArray} {L : Nat} {r : Option FieldType} (h1 : Cond.methodLink own idx y ∈ lw_all) (h2 : Cond.instanceMethod y ∈ lw_all) (h3 : Cond.selects C y y ∈ lw_all) (h4 : Cond.initialized C ∈ lw_all) (h5 : Cond.code y b L r ∈ lw_all) : GoodIn lw_all (wsV own idx C y (ws_ y b L r)) := by
  refine lw_app ?_ (lw_meth h5)
  intro w hw
  simp only [List.mem_cons, List.not_mem_nil, or_false] at hw
  rcases hw with e | e | e | e
  · rw [e]; exact h1
  · rw [e]; exact h2
  · rw [e]; exact h3
  · rw [e]; exact h4
/-- what a static call asks: va_cwS n hts (lw_S ..) -/
theorem lw_S {own : String} {idx : Nat} {y : MethodName} {b : ByteArray} {L : Nat} {r : Option FieldType} (h1 : Cond.methodLink own idx y ∈ lw_all) (h2 : Cond.static y ∈ lw_all) (h3 : Cond.initialized y.cls ∈ lw_all) (h4 : Cond.code y b L r ∈ lw_all) : GoodIn lw_all (va_wsS own idx y (ws_ y b L r)) := by
  refine lw_app ?_ (lw_meth h4)
  intro w hw
  simp only [List.mem_cons, List.not_mem_nil, or_false] at hw
  rcases hw with e | e | e
  · rw [e]; exact h1
  · rw [e]; exact h2
  · rw [e]; exact h3
/-- the words of a contract for a method WITH HANDLERS (hh: its table) -/
abbrev wsW_ (y : MethodName) (b : ByteArray) (L : Nat) (r : Option FieldType) (hh : List (Nat × Nat × Nat × Nat)) : List Cond := Cond.codeWith y b L r hh :: lw_all
theorem lw_methW {y : MethodName} {b : ByteArray} {L : Nat} {r : Option FieldType} {hh : List (Nat × Nat × Nat × Nat)} (h : Cond.codeWith y b L r hh ∈ lw_all) : GoodIn lw_all (wsW_ y b L r hh) := by
  intro w hw
  rcases List.mem_cons.mp hw with e | e
  · rw [e]
    exact lw_self _ h
  · exact lw_self _ e
/-- any list of words by their places (lw_in), good -/
theorem lw_good {ws : List Cond} (h : ∀ w ∈ ws, w ∈ lw_all) : GoodIn lw_all ws := fun w hw => lw_self w (h w hw)
/-- what a call of a method with handlers asks: vx_cwVW n hts (lw_VW ..), vx_cwSW n hts (lw_SW ..) -/
theorem lw_VW {own : String} {idx : Nat} {C : String} {y : MethodName} {b : ByteArray} {L : Nat} {r : Option FieldType} {hh : List (Nat × Nat × Nat × Nat)} (h1 : Cond.methodLink own idx y ∈ lw_all) (h2 : Cond.instanceMethod y ∈ lw_all) (h3 : Cond.selects C y y ∈ lw_all) (h4 : Cond.initialized C ∈ lw_all) (h5 : Cond.codeWith y b L r hh ∈ lw_all) : GoodIn lw_all (wsV own idx C y (wsW_ y b L r hh)) := by
  refine lw_app ?_ (lw_methW h5)
  intro w hw
  simp only [List.mem_cons, List.not_mem_nil, or_false] at hw
  rcases hw with e | e | e | e
  · rw [e]; exact h1
  · rw [e]; exact h2
  · rw [e]; exact h3
  · rw [e]; exact h4
theorem lw_SW {own : String} {idx : Nat} {y : MethodName} {b : ByteArray} {L : Nat} {r : Option FieldType} {hh : List (Nat × Nat × Nat × Nat)} (h1 : Cond.methodLink own idx y ∈ lw_all) (h2 : Cond.static y ∈ lw_all) (h3 : Cond.initialized y.cls ∈ lw_all) (h4 : Cond.codeWith y b L r hh ∈ lw_all) : GoodIn lw_all (va_wsS own idx y (wsW_ y b L r hh)) := by
  refine lw_app ?_ (lw_methW h4)
  intro w hw
  simp only [List.mem_cons, List.not_mem_nil, or_false] at hw
  rcases hw with e | e | e
  · rw [e]; exact h1
  · rw [e]; exact h2
  · rw [e]; exact h3
/-- a word by its place in its run of the tables -/
theorem lw_at {r : List Cond} (hr : ∀ w ∈ r, w ∈ lw_tbl) {w : Cond} (i : Nat) (h : r[i]? = some w) : w ∈ lw_tbl := hr w (List.mem_of_getElem? h)
theorem lw_g {w : Cond} (h : w ∈ lw_tbl) (g : goodWord w = true) : w ∈ lw_all := List.mem_filter.mpr ⟨h, g⟩
theorem lw_ms : ∀ w ∈ k2_sels lw_privs, w ∈ lw_tbl := fun w h => show w ∈ k2_sels lw_privs ++ tables_1 from List.mem_append_left _ h
theorem lw_m1 : ∀ w ∈ tables_1_1, w ∈ lw_tbl := fun w h => show w ∈ k2_sels lw_privs ++ tables_1 from List.mem_append_right (k2_sels lw_privs) (show w ∈ tables_1 from List.mem_append_left _ h)
theorem lw_m2 : ∀ w ∈ tables_1_2, w ∈ lw_tbl := fun w h => show w ∈ k2_sels lw_privs ++ tables_1 from List.mem_append_right (k2_sels lw_privs) (show w ∈ tables_1 from List.mem_append_right _ h)
theorem qs0 : (Cond.selects "PathRanker" ⟨"PathRanker", "rank", "(II)Z"⟩ ⟨"PathRanker", "rank", "(II)Z"⟩) ∈ lw_all := lw_g (lw_at lw_ms 0 rfl) rfl
theorem qs1 : (Cond.selects "PathRanker" ⟨"PathRanker", "addCandidate", "(III)V"⟩ ⟨"PathRanker", "addCandidate", "(III)V"⟩) ∈ lw_all := lw_g (lw_at lw_ms 1 rfl) rfl
theorem qs2 : (Cond.selects "PathRanker" ⟨"PathRanker", "measure", "(II)V"⟩ ⟨"PathRanker", "measure", "(II)V"⟩) ∈ lw_all := lw_g (lw_at lw_ms 2 rfl) rfl
theorem qs3 : (Cond.selects "PathRanker" ⟨"PathRanker", "bestNext", "(II)I"⟩ ⟨"PathRanker", "bestNext", "(II)I"⟩) ∈ lw_all := lw_g (lw_at lw_ms 3 rfl) rfl
theorem qs4 : (Cond.selects "PathRanker" ⟨"PathRanker", "bestCandidate", "()I"⟩ ⟨"PathRanker", "bestCandidate", "()I"⟩) ∈ lw_all := lw_g (lw_at lw_ms 4 rfl) rfl
theorem qs5 : (Cond.selects "PathRanker" ⟨"PathRanker", "goesBefore", "(II)Z"⟩ ⟨"PathRanker", "goesBefore", "(II)Z"⟩) ∈ lw_all := lw_g (lw_at lw_ms 5 rfl) rfl
theorem qs6 : (Cond.selects "PathRanker" ⟨"PathRanker", "wayAt", "(III)I"⟩ ⟨"PathRanker", "wayAt", "(III)I"⟩) ∈ lw_all := lw_g (lw_at lw_ms 6 rfl) rfl
theorem qs7 : (Cond.selects "PathRanker" ⟨"PathRanker", "placesOf", "(I)I"⟩ ⟨"PathRanker", "placesOf", "(I)I"⟩) ∈ lw_all := lw_g (lw_at lw_ms 7 rfl) rfl
theorem qs8 : (Cond.selects "PathRankerModel" ⟨"PathRankerModel", "pair", "(II)Z"⟩ ⟨"PathRankerModel", "pair", "(II)Z"⟩) ∈ lw_all := lw_g (lw_at lw_ms 8 rfl) rfl
theorem qs9 : (Cond.selects "PathRankerModel" ⟨"PathRankerModel", "list", "(II)V"⟩ ⟨"PathRankerModel", "list", "(II)V"⟩) ∈ lw_all := lw_g (lw_at lw_ms 9 rfl) rfl
theorem qs10 : (Cond.selects "PathRankerModel" ⟨"PathRankerModel", "look", "(III)V"⟩ ⟨"PathRankerModel", "look", "(III)V"⟩) ∈ lw_all := lw_g (lw_at lw_ms 10 rfl) rfl
theorem qs11 : (Cond.selects "PathRankerModel" ⟨"PathRankerModel", "find", "(III)I"⟩ ⟨"PathRankerModel", "find", "(III)I"⟩) ∈ lw_all := lw_g (lw_at lw_ms 11 rfl) rfl
theorem qs12 : (Cond.selects "PathRankerModel" ⟨"PathRankerModel", "rank", "(I)I"⟩ ⟨"PathRankerModel", "rank", "(I)I"⟩) ∈ lw_all := lw_g (lw_at lw_ms 12 rfl) rfl
theorem qs13 : (Cond.selects "PathRankerModel" ⟨"PathRankerModel", "before", "(II)Z"⟩ ⟨"PathRankerModel", "before", "(II)Z"⟩) ∈ lw_all := lw_g (lw_at lw_ms 13 rfl) rfl
theorem qs14 : (Cond.selects "PathRankerModel" ⟨"PathRankerModel", "digit", "(II)I"⟩ ⟨"PathRankerModel", "digit", "(II)I"⟩) ∈ lw_all := lw_g (lw_at lw_ms 14 rfl) rfl
theorem qs15 : (Cond.selects "PathRankerModel" ⟨"PathRankerModel", "sizeOf", "(II)I"⟩ ⟨"PathRankerModel", "sizeOf", "(II)I"⟩) ∈ lw_all := lw_g (lw_at lw_ms 15 rfl) rfl
theorem qs16 : (Cond.selects "PathRankerModel" ⟨"PathRankerModel", "through", "(III)Z"⟩ ⟨"PathRankerModel", "through", "(III)Z"⟩) ∈ lw_all := lw_g (lw_at lw_ms 16 rfl) rfl
end
section
set_option maxRecDepth 100000
/-! PathRanker -/
def RX0 : String := "PathRanker"
def TX0 : u_T := fun k => match k with
  | 0 => ("PathRanker", "lengths", "[B", true)
  | 1 => ("PathRanker", "known", "Z", false)
  | 2 => ("PathRanker", "from", "I", false)
  | 3 => ("PathRanker", "to", "I", false)
  | 4 => ("PathRanker", "wayCount", "I", false)
  | 5 => ("PathRanker", "rankedCount", "I", false)
  | 6 => ("PathRanker", "places", "[B", true)
  | 7 => ("PathRanker", "sizes", "[B", true)
  | 8 => ("PathRanker", "wayLength", "[S", true)
  | 9 => ("PathRanker", "partsAt", "[B", true)
  | 10 => ("PathRanker", "barred", "[B", true)
  | 11 => ("PathRanker", "rankOf", "[B", true)
  | 12 => ("PathRanker", "rankedWay", "[B", true)
  | _ => ("PathRanker", "distance", "[I", true)
def tyX0 : Nat → FieldType := fun k => match k with
  | 0 => .array .byte
  | 1 => .boolean
  | 2 => .int
  | 3 => .int
  | 4 => .int
  | 5 => .int
  | 6 => .array .byte
  | 7 => .array .byte
  | 8 => .array .short
  | 9 => .array .byte
  | 10 => .array .byte
  | 11 => .array .byte
  | 12 => .array .byte
  | _ => .array .int
abbrev wsX00 : List Cond := u_ws RX0 TX0 14
set_option maxRecDepth 100000 in
theorem nmX0 : ∀ a, a < 14 → ∀ b, b < 14 → a ≠ b → (TX0 a).2.1 ≠ (TX0 b).2.1 := by decide +kernel
set_option maxRecDepth 100000 in
theorem tyX0_ok : ∀ k, k < 14 → parseFieldDescriptor (TX0 k).2.2.1 = some (tyX0 k) := by decide +kernel
abbrev cX0_init : ByteArray := prog_1_method_1_code
def yX0_init : MethodName := ⟨RX0, "<init>", "()V"⟩
theorem dX0_init_0 : decode cX0_init 0 = .ok (.aload_n 0, 1) := by decide +kernel
theorem dX0_init_1 : decode cX0_init 1 = .ok (.invokespecial 1, 3) := by decide +kernel
theorem dX0_init_4 : decode cX0_init 4 = .ok (.aload_n 0, 1) := by decide +kernel
theorem dX0_init_5 : decode cX0_init 5 = .ok (.bipush 36, 2) := by decide +kernel
theorem dX0_init_7 : decode cX0_init 7 = .ok (.newarray .byte, 2) := by decide +kernel
theorem dX0_init_9 : decode cX0_init 9 = .ok (.putfield 7, 3) := by decide +kernel
theorem dX0_init_12 : decode cX0_init 12 = .ok (.aload_n 0, 1) := by decide +kernel
theorem dX0_init_13 : decode cX0_init 13 = .ok (.sipush 396, 3) := by decide +kernel
theorem dX0_init_16 : decode cX0_init 16 = .ok (.newarray .byte, 2) := by decide +kernel
theorem dX0_init_18 : decode cX0_init 18 = .ok (.putfield 13, 3) := by decide +kernel
theorem dX0_init_21 : decode cX0_init 21 = .ok (.aload_n 0, 1) := by decide +kernel
theorem dX0_init_22 : decode cX0_init 22 = .ok (.bipush 66, 2) := by decide +kernel
theorem dX0_init_24 : decode cX0_init 24 = .ok (.newarray .byte, 2) := by decide +kernel
theorem dX0_init_26 : decode cX0_init 26 = .ok (.putfield 16, 3) := by decide +kernel
theorem dX0_init_29 : decode cX0_init 29 = .ok (.aload_n 0, 1) := by decide +kernel
theorem dX0_init_30 : decode cX0_init 30 = .ok (.bipush 66, 2) := by decide +kernel
theorem dX0_init_32 : decode cX0_init 32 = .ok (.newarray .short, 2) := by decide +kernel
theorem dX0_init_34 : decode cX0_init 34 = .ok (.putfield 19, 3) := by decide +kernel
theorem dX0_init_37 : decode cX0_init 37 = .ok (.aload_n 0, 1) := by decide +kernel
theorem dX0_init_38 : decode cX0_init 38 = .ok (.bipush 66, 2) := by decide +kernel
theorem dX0_init_40 : decode cX0_init 40 = .ok (.newarray .byte, 2) := by decide +kernel
theorem dX0_init_42 : decode cX0_init 42 = .ok (.putfield 23, 3) := by decide +kernel
theorem dX0_init_45 : decode cX0_init 45 = .ok (.aload_n 0, 1) := by decide +kernel
theorem dX0_init_46 : decode cX0_init 46 = .ok (.bipush 66, 2) := by decide +kernel
theorem dX0_init_48 : decode cX0_init 48 = .ok (.newarray .byte, 2) := by decide +kernel
theorem dX0_init_50 : decode cX0_init 50 = .ok (.putfield 26, 3) := by decide +kernel
theorem dX0_init_53 : decode cX0_init 53 = .ok (.aload_n 0, 1) := by decide +kernel
theorem dX0_init_54 : decode cX0_init 54 = .ok (.bipush 66, 2) := by decide +kernel
theorem dX0_init_56 : decode cX0_init 56 = .ok (.newarray .byte, 2) := by decide +kernel
theorem dX0_init_58 : decode cX0_init 58 = .ok (.putfield 29, 3) := by decide +kernel
theorem dX0_init_61 : decode cX0_init 61 = .ok (.aload_n 0, 1) := by decide +kernel
theorem dX0_init_62 : decode cX0_init 62 = .ok (.bipush 66, 2) := by decide +kernel
theorem dX0_init_64 : decode cX0_init 64 = .ok (.newarray .byte, 2) := by decide +kernel
theorem dX0_init_66 : decode cX0_init 66 = .ok (.putfield 32, 3) := by decide +kernel
theorem dX0_init_69 : decode cX0_init 69 = .ok (.aload_n 0, 1) := by decide +kernel
theorem dX0_init_70 : decode cX0_init 70 = .ok (.bipush 6, 2) := by decide +kernel
theorem dX0_init_72 : decode cX0_init 72 = .ok (.newarray .int, 2) := by decide +kernel
theorem dX0_init_74 : decode cX0_init 74 = .ok (.putfield 35, 3) := by decide +kernel
theorem dX0_init_77 : decode cX0_init 77 = .ok (.return_, 1) := by decide +kernel
abbrev cX0_build : ByteArray := prog_1_method_5_code
def yX0_build : MethodName := ⟨RX0, "build", "(III)Z"⟩
theorem dX0_build_0 : decode cX0_build 0 = .ok (.iload_n 1, 1) := by decide +kernel
theorem dX0_build_1 : decode cX0_build 1 = .ok (.iload_n 2, 1) := by decide +kernel
theorem dX0_build_2 : decode cX0_build 2 = .ok (.invokestatic 43, 3) := by decide +kernel
theorem dX0_build_5 : decode cX0_build 5 = .ok (.ifCond .eq 14, 3) := by decide +kernel
theorem dX0_build_8 : decode cX0_build 8 = .ok (.iload_n 3, 1) := by decide +kernel
theorem dX0_build_9 : decode cX0_build 9 = .ok (.iconst 1, 1) := by decide +kernel
theorem dX0_build_10 : decode cX0_build 10 = .ok (.if_icmp .lt 9, 3) := by decide +kernel
theorem dX0_build_13 : decode cX0_build 13 = .ok (.iload_n 3, 1) := by decide +kernel
theorem dX0_build_14 : decode cX0_build 14 = .ok (.bipush 20, 2) := by decide +kernel
theorem dX0_build_16 : decode cX0_build 16 = .ok (.if_icmp .le 5, 3) := by decide +kernel
theorem dX0_build_19 : decode cX0_build 19 = .ok (.iconst 0, 1) := by decide +kernel
theorem dX0_build_20 : decode cX0_build 20 = .ok (.ireturn, 1) := by decide +kernel
theorem dX0_build_21 : decode cX0_build 21 = .ok (.aload_n 0, 1) := by decide +kernel
theorem dX0_build_22 : decode cX0_build 22 = .ok (.getfield 7, 3) := by decide +kernel
theorem dX0_build_25 : decode cX0_build 25 = .ok (.iload_n 1, 1) := by decide +kernel
theorem dX0_build_26 : decode cX0_build 26 = .ok (.bipush 6, 2) := by decide +kernel
theorem dX0_build_28 : decode cX0_build 28 = .ok (.imul, 1) := by decide +kernel
theorem dX0_build_29 : decode cX0_build 29 = .ok (.iload_n 2, 1) := by decide +kernel
theorem dX0_build_30 : decode cX0_build 30 = .ok (.iadd, 1) := by decide +kernel
theorem dX0_build_31 : decode cX0_build 31 = .ok (.iload_n 3, 1) := by decide +kernel
theorem dX0_build_32 : decode cX0_build 32 = .ok (.i2b, 1) := by decide +kernel
theorem dX0_build_33 : decode cX0_build 33 = .ok (.bastore, 1) := by decide +kernel
theorem dX0_build_34 : decode cX0_build 34 = .ok (.aload_n 0, 1) := by decide +kernel
theorem dX0_build_35 : decode cX0_build 35 = .ok (.iconst 0, 1) := by decide +kernel
theorem dX0_build_36 : decode cX0_build 36 = .ok (.putfield 47, 3) := by decide +kernel
theorem dX0_build_39 : decode cX0_build 39 = .ok (.iconst 1, 1) := by decide +kernel
theorem dX0_build_40 : decode cX0_build 40 = .ok (.ireturn, 1) := by decide +kernel
abbrev cX0_isPair : ByteArray := prog_1_method_3_code
def yX0_isPair : MethodName := ⟨RX0, "isPair", "(II)Z"⟩
theorem dX0_isPair_0 : decode cX0_isPair 0 = .ok (.iload_n 0, 1) := by decide +kernel
theorem dX0_isPair_1 : decode cX0_isPair 1 = .ok (.invokestatic 39, 3) := by decide +kernel
theorem dX0_isPair_4 : decode cX0_isPair 4 = .ok (.ifCond .eq 19, 3) := by decide +kernel
theorem dX0_isPair_7 : decode cX0_isPair 7 = .ok (.iload_n 1, 1) := by decide +kernel
theorem dX0_isPair_8 : decode cX0_isPair 8 = .ok (.invokestatic 39, 3) := by decide +kernel
theorem dX0_isPair_11 : decode cX0_isPair 11 = .ok (.ifCond .eq 12, 3) := by decide +kernel
theorem dX0_isPair_14 : decode cX0_isPair 14 = .ok (.iload_n 0, 1) := by decide +kernel
theorem dX0_isPair_15 : decode cX0_isPair 15 = .ok (.iload_n 1, 1) := by decide +kernel
theorem dX0_isPair_16 : decode cX0_isPair 16 = .ok (.if_icmp .eq 7, 3) := by decide +kernel
theorem dX0_isPair_19 : decode cX0_isPair 19 = .ok (.iconst 1, 1) := by decide +kernel
theorem dX0_isPair_20 : decode cX0_isPair 20 = .ok (.goto 4, 3) := by decide +kernel
theorem dX0_isPair_23 : decode cX0_isPair 23 = .ok (.iconst 0, 1) := by decide +kernel
theorem dX0_isPair_24 : decode cX0_isPair 24 = .ok (.ireturn, 1) := by decide +kernel
abbrev cX0_isPlace : ByteArray := prog_1_method_2_code
def yX0_isPlace : MethodName := ⟨RX0, "isPlace", "(I)Z"⟩
theorem dX0_isPlace_0 : decode cX0_isPlace 0 = .ok (.iload_n 0, 1) := by decide +kernel
theorem dX0_isPlace_1 : decode cX0_isPlace 1 = .ok (.ifCond .lt 13, 3) := by decide +kernel
theorem dX0_isPlace_4 : decode cX0_isPlace 4 = .ok (.iload_n 0, 1) := by decide +kernel
theorem dX0_isPlace_5 : decode cX0_isPlace 5 = .ok (.bipush 6, 2) := by decide +kernel
theorem dX0_isPlace_7 : decode cX0_isPlace 7 = .ok (.if_icmp .ge 7, 3) := by decide +kernel
theorem dX0_isPlace_10 : decode cX0_isPlace 10 = .ok (.iconst 1, 1) := by decide +kernel
theorem dX0_isPlace_11 : decode cX0_isPlace 11 = .ok (.goto 4, 3) := by decide +kernel
theorem dX0_isPlace_14 : decode cX0_isPlace 14 = .ok (.iconst 0, 1) := by decide +kernel
theorem dX0_isPlace_15 : decode cX0_isPlace 15 = .ok (.ireturn, 1) := by decide +kernel
abbrev cX0_close : ByteArray := prog_1_method_6_code
def yX0_close : MethodName := ⟨RX0, "close", "(II)Z"⟩
theorem dX0_close_0 : decode cX0_close 0 = .ok (.aload_n 0, 1) := by decide +kernel
theorem dX0_close_1 : decode cX0_close 1 = .ok (.iload_n 1, 1) := by decide +kernel
theorem dX0_close_2 : decode cX0_close 2 = .ok (.iload_n 2, 1) := by decide +kernel
theorem dX0_close_3 : decode cX0_close 3 = .ok (.invokevirtual 51, 3) := by decide +kernel
theorem dX0_close_6 : decode cX0_close 6 = .ok (.ifCond .ge 5, 3) := by decide +kernel
theorem dX0_close_9 : decode cX0_close 9 = .ok (.iconst 0, 1) := by decide +kernel
theorem dX0_close_10 : decode cX0_close 10 = .ok (.ireturn, 1) := by decide +kernel
theorem dX0_close_11 : decode cX0_close 11 = .ok (.aload_n 0, 1) := by decide +kernel
theorem dX0_close_12 : decode cX0_close 12 = .ok (.getfield 7, 3) := by decide +kernel
theorem dX0_close_15 : decode cX0_close 15 = .ok (.iload_n 1, 1) := by decide +kernel
theorem dX0_close_16 : decode cX0_close 16 = .ok (.bipush 6, 2) := by decide +kernel
theorem dX0_close_18 : decode cX0_close 18 = .ok (.imul, 1) := by decide +kernel
theorem dX0_close_19 : decode cX0_close 19 = .ok (.iload_n 2, 1) := by decide +kernel
theorem dX0_close_20 : decode cX0_close 20 = .ok (.iadd, 1) := by decide +kernel
theorem dX0_close_21 : decode cX0_close 21 = .ok (.iconst 0, 1) := by decide +kernel
theorem dX0_close_22 : decode cX0_close 22 = .ok (.bastore, 1) := by decide +kernel
theorem dX0_close_23 : decode cX0_close 23 = .ok (.aload_n 0, 1) := by decide +kernel
theorem dX0_close_24 : decode cX0_close 24 = .ok (.iconst 0, 1) := by decide +kernel
theorem dX0_close_25 : decode cX0_close 25 = .ok (.putfield 47, 3) := by decide +kernel
theorem dX0_close_28 : decode cX0_close 28 = .ok (.iconst 1, 1) := by decide +kernel
theorem dX0_close_29 : decode cX0_close 29 = .ok (.ireturn, 1) := by decide +kernel
abbrev cX0_road : ByteArray := prog_1_method_7_code
def yX0_road : MethodName := ⟨RX0, "road", "(II)I"⟩
theorem dX0_road_0 : decode cX0_road 0 = .ok (.iload_n 1, 1) := by decide +kernel
theorem dX0_road_1 : decode cX0_road 1 = .ok (.iload_n 2, 1) := by decide +kernel
theorem dX0_road_2 : decode cX0_road 2 = .ok (.invokestatic 43, 3) := by decide +kernel
theorem dX0_road_5 : decode cX0_road 5 = .ok (.ifCond .eq 31, 3) := by decide +kernel
theorem dX0_road_8 : decode cX0_road 8 = .ok (.aload_n 0, 1) := by decide +kernel
theorem dX0_road_9 : decode cX0_road 9 = .ok (.getfield 7, 3) := by decide +kernel
theorem dX0_road_12 : decode cX0_road 12 = .ok (.iload_n 1, 1) := by decide +kernel
theorem dX0_road_13 : decode cX0_road 13 = .ok (.bipush 6, 2) := by decide +kernel
theorem dX0_road_15 : decode cX0_road 15 = .ok (.imul, 1) := by decide +kernel
theorem dX0_road_16 : decode cX0_road 16 = .ok (.iload_n 2, 1) := by decide +kernel
theorem dX0_road_17 : decode cX0_road 17 = .ok (.iadd, 1) := by decide +kernel
theorem dX0_road_18 : decode cX0_road 18 = .ok (.baload, 1) := by decide +kernel
theorem dX0_road_19 : decode cX0_road 19 = .ok (.ifCond .le 17, 3) := by decide +kernel
theorem dX0_road_22 : decode cX0_road 22 = .ok (.aload_n 0, 1) := by decide +kernel
theorem dX0_road_23 : decode cX0_road 23 = .ok (.getfield 7, 3) := by decide +kernel
theorem dX0_road_26 : decode cX0_road 26 = .ok (.iload_n 1, 1) := by decide +kernel
theorem dX0_road_27 : decode cX0_road 27 = .ok (.bipush 6, 2) := by decide +kernel
theorem dX0_road_29 : decode cX0_road 29 = .ok (.imul, 1) := by decide +kernel
theorem dX0_road_30 : decode cX0_road 30 = .ok (.iload_n 2, 1) := by decide +kernel
theorem dX0_road_31 : decode cX0_road 31 = .ok (.iadd, 1) := by decide +kernel
theorem dX0_road_32 : decode cX0_road 32 = .ok (.baload, 1) := by decide +kernel
theorem dX0_road_33 : decode cX0_road 33 = .ok (.goto 4, 3) := by decide +kernel
theorem dX0_road_36 : decode cX0_road 36 = .ok (.iconst (-1), 1) := by decide +kernel
theorem dX0_road_37 : decode cX0_road 37 = .ok (.ireturn, 1) := by decide +kernel
abbrev cX0_roads : ByteArray := prog_1_method_8_code
def yX0_roads : MethodName := ⟨RX0, "roads", "()I"⟩
theorem dX0_roads_0 : decode cX0_roads 0 = .ok (.iconst 0, 1) := by decide +kernel
theorem dX0_roads_1 : decode cX0_roads 1 = .ok (.istore_n 1, 1) := by decide +kernel
theorem dX0_roads_2 : decode cX0_roads 2 = .ok (.iconst 0, 1) := by decide +kernel
theorem dX0_roads_3 : decode cX0_roads 3 = .ok (.istore_n 2, 1) := by decide +kernel
theorem dX0_roads_4 : decode cX0_roads 4 = .ok (.iload_n 2, 1) := by decide +kernel
theorem dX0_roads_5 : decode cX0_roads 5 = .ok (.bipush 36, 2) := by decide +kernel
theorem dX0_roads_7 : decode cX0_roads 7 = .ok (.if_icmp .ge 26, 3) := by decide +kernel
theorem dX0_roads_10 : decode cX0_roads 10 = .ok (.iload_n 1, 1) := by decide +kernel
theorem dX0_roads_11 : decode cX0_roads 11 = .ok (.aload_n 0, 1) := by decide +kernel
theorem dX0_roads_12 : decode cX0_roads 12 = .ok (.getfield 7, 3) := by decide +kernel
theorem dX0_roads_15 : decode cX0_roads 15 = .ok (.iload_n 2, 1) := by decide +kernel
theorem dX0_roads_16 : decode cX0_roads 16 = .ok (.baload, 1) := by decide +kernel
theorem dX0_roads_17 : decode cX0_roads 17 = .ok (.ifCond .le 7, 3) := by decide +kernel
theorem dX0_roads_20 : decode cX0_roads 20 = .ok (.iconst 1, 1) := by decide +kernel
theorem dX0_roads_21 : decode cX0_roads 21 = .ok (.goto 4, 3) := by decide +kernel
theorem dX0_roads_24 : decode cX0_roads 24 = .ok (.iconst 0, 1) := by decide +kernel
theorem dX0_roads_25 : decode cX0_roads 25 = .ok (.iadd, 1) := by decide +kernel
theorem dX0_roads_26 : decode cX0_roads 26 = .ok (.istore_n 1, 1) := by decide +kernel
theorem dX0_roads_27 : decode cX0_roads 27 = .ok (.iinc 2 1, 3) := by decide +kernel
theorem dX0_roads_30 : decode cX0_roads 30 = .ok (.goto (-26), 3) := by decide +kernel
theorem dX0_roads_33 : decode cX0_roads 33 = .ok (.iload_n 1, 1) := by decide +kernel
theorem dX0_roads_34 : decode cX0_roads 34 = .ok (.ireturn, 1) := by decide +kernel
abbrev cX0_ways : ByteArray := prog_1_method_17_code
def yX0_ways : MethodName := ⟨RX0, "ways", "(II)I"⟩
theorem dX0_ways_0 : decode cX0_ways 0 = .ok (.aload_n 0, 1) := by decide +kernel
theorem dX0_ways_1 : decode cX0_ways 1 = .ok (.iload_n 1, 1) := by decide +kernel
theorem dX0_ways_2 : decode cX0_ways 2 = .ok (.iload_n 2, 1) := by decide +kernel
theorem dX0_ways_3 : decode cX0_ways 3 = .ok (.invokevirtual 90, 3) := by decide +kernel
theorem dX0_ways_6 : decode cX0_ways 6 = .ok (.ifCond .eq 10, 3) := by decide +kernel
theorem dX0_ways_9 : decode cX0_ways 9 = .ok (.aload_n 0, 1) := by decide +kernel
theorem dX0_ways_10 : decode cX0_ways 10 = .ok (.getfield 79, 3) := by decide +kernel
theorem dX0_ways_13 : decode cX0_ways 13 = .ok (.goto 4, 3) := by decide +kernel
theorem dX0_ways_16 : decode cX0_ways 16 = .ok (.iconst 0, 1) := by decide +kernel
theorem dX0_ways_17 : decode cX0_ways 17 = .ok (.ireturn, 1) := by decide +kernel
abbrev cX0_rank : ByteArray := prog_1_method_14_code
def yX0_rank : MethodName := ⟨RX0, "rank", "(II)Z"⟩
theorem dX0_rank_0 : decode cX0_rank 0 = .ok (.iload_n 1, 1) := by decide +kernel
theorem dX0_rank_1 : decode cX0_rank 1 = .ok (.iload_n 2, 1) := by decide +kernel
theorem dX0_rank_2 : decode cX0_rank 2 = .ok (.invokestatic 43, 3) := by decide +kernel
theorem dX0_rank_5 : decode cX0_rank 5 = .ok (.ifCond .ne 5, 3) := by decide +kernel
theorem dX0_rank_8 : decode cX0_rank 8 = .ok (.iconst 0, 1) := by decide +kernel
theorem dX0_rank_9 : decode cX0_rank 9 = .ok (.ireturn, 1) := by decide +kernel
theorem dX0_rank_10 : decode cX0_rank 10 = .ok (.aload_n 0, 1) := by decide +kernel
theorem dX0_rank_11 : decode cX0_rank 11 = .ok (.getfield 47, 3) := by decide +kernel
theorem dX0_rank_14 : decode cX0_rank 14 = .ok (.ifCond .eq 21, 3) := by decide +kernel
theorem dX0_rank_17 : decode cX0_rank 17 = .ok (.aload_n 0, 1) := by decide +kernel
theorem dX0_rank_18 : decode cX0_rank 18 = .ok (.getfield 76, 3) := by decide +kernel
theorem dX0_rank_21 : decode cX0_rank 21 = .ok (.iload_n 1, 1) := by decide +kernel
theorem dX0_rank_22 : decode cX0_rank 22 = .ok (.if_icmp .ne 13, 3) := by decide +kernel
theorem dX0_rank_25 : decode cX0_rank 25 = .ok (.aload_n 0, 1) := by decide +kernel
theorem dX0_rank_26 : decode cX0_rank 26 = .ok (.getfield 59, 3) := by decide +kernel
theorem dX0_rank_29 : decode cX0_rank 29 = .ok (.iload_n 2, 1) := by decide +kernel
theorem dX0_rank_30 : decode cX0_rank 30 = .ok (.if_icmp .ne 5, 3) := by decide +kernel
theorem dX0_rank_33 : decode cX0_rank 33 = .ok (.iconst 1, 1) := by decide +kernel
theorem dX0_rank_34 : decode cX0_rank 34 = .ok (.ireturn, 1) := by decide +kernel
theorem dX0_rank_35 : decode cX0_rank 35 = .ok (.aload_n 0, 1) := by decide +kernel
theorem dX0_rank_36 : decode cX0_rank 36 = .ok (.iconst 1, 1) := by decide +kernel
theorem dX0_rank_37 : decode cX0_rank 37 = .ok (.putfield 47, 3) := by decide +kernel
theorem dX0_rank_40 : decode cX0_rank 40 = .ok (.aload_n 0, 1) := by decide +kernel
theorem dX0_rank_41 : decode cX0_rank 41 = .ok (.iload_n 1, 1) := by decide +kernel
theorem dX0_rank_42 : decode cX0_rank 42 = .ok (.putfield 76, 3) := by decide +kernel
theorem dX0_rank_45 : decode cX0_rank 45 = .ok (.aload_n 0, 1) := by decide +kernel
theorem dX0_rank_46 : decode cX0_rank 46 = .ok (.iload_n 2, 1) := by decide +kernel
theorem dX0_rank_47 : decode cX0_rank 47 = .ok (.putfield 59, 3) := by decide +kernel
theorem dX0_rank_50 : decode cX0_rank 50 = .ok (.aload_n 0, 1) := by decide +kernel
theorem dX0_rank_51 : decode cX0_rank 51 = .ok (.iconst 0, 1) := by decide +kernel
theorem dX0_rank_52 : decode cX0_rank 52 = .ok (.putfield 70, 3) := by decide +kernel
theorem dX0_rank_55 : decode cX0_rank 55 = .ok (.aload_n 0, 1) := by decide +kernel
theorem dX0_rank_56 : decode cX0_rank 56 = .ok (.iconst 0, 1) := by decide +kernel
theorem dX0_rank_57 : decode cX0_rank 57 = .ok (.putfield 79, 3) := by decide +kernel
theorem dX0_rank_60 : decode cX0_rank 60 = .ok (.aload_n 0, 1) := by decide +kernel
theorem dX0_rank_61 : decode cX0_rank 61 = .ok (.getfield 13, 3) := by decide +kernel
theorem dX0_rank_64 : decode cX0_rank 64 = .ok (.iconst 0, 1) := by decide +kernel
theorem dX0_rank_65 : decode cX0_rank 65 = .ok (.iload_n 1, 1) := by decide +kernel
theorem dX0_rank_66 : decode cX0_rank 66 = .ok (.i2b, 1) := by decide +kernel
theorem dX0_rank_67 : decode cX0_rank 67 = .ok (.bastore, 1) := by decide +kernel
theorem dX0_rank_68 : decode cX0_rank 68 = .ok (.aload_n 0, 1) := by decide +kernel
theorem dX0_rank_69 : decode cX0_rank 69 = .ok (.iconst 0, 1) := by decide +kernel
theorem dX0_rank_70 : decode cX0_rank 70 = .ok (.iconst 0, 1) := by decide +kernel
theorem dX0_rank_71 : decode cX0_rank 71 = .ok (.iconst 0, 1) := by decide +kernel
theorem dX0_rank_72 : decode cX0_rank 72 = .ok (.invokevirtual 82, 3) := by decide +kernel
theorem dX0_rank_75 : decode cX0_rank 75 = .ok (.iconst 0, 1) := by decide +kernel
theorem dX0_rank_76 : decode cX0_rank 76 = .ok (.istore_n 3, 1) := by decide +kernel
theorem dX0_rank_77 : decode cX0_rank 77 = .ok (.iload_n 3, 1) := by decide +kernel
theorem dX0_rank_78 : decode cX0_rank 78 = .ok (.bipush 66, 2) := by decide +kernel
theorem dX0_rank_80 : decode cX0_rank 80 = .ok (.if_icmp .ge 142, 3) := by decide +kernel
theorem dX0_rank_83 : decode cX0_rank 83 = .ok (.aload_n 0, 1) := by decide +kernel
theorem dX0_rank_84 : decode cX0_rank 84 = .ok (.invokevirtual 86, 3) := by decide +kernel
theorem dX0_rank_87 : decode cX0_rank 87 = .ok (.istore 4, 2) := by decide +kernel
theorem dX0_rank_89 : decode cX0_rank 89 = .ok (.iload 4, 2) := by decide +kernel
theorem dX0_rank_91 : decode cX0_rank 91 = .ok (.ifCond .ge 5, 3) := by decide +kernel
theorem dX0_rank_94 : decode cX0_rank 94 = .ok (.iconst 1, 1) := by decide +kernel
theorem dX0_rank_95 : decode cX0_rank 95 = .ok (.ireturn, 1) := by decide +kernel
theorem dX0_rank_96 : decode cX0_rank 96 = .ok (.aload_n 0, 1) := by decide +kernel
theorem dX0_rank_97 : decode cX0_rank 97 = .ok (.getfield 29, 3) := by decide +kernel
theorem dX0_rank_100 : decode cX0_rank 100 = .ok (.iload 4, 2) := by decide +kernel
theorem dX0_rank_102 : decode cX0_rank 102 = .ok (.aload_n 0, 1) := by decide +kernel
theorem dX0_rank_103 : decode cX0_rank 103 = .ok (.getfield 79, 3) := by decide +kernel
theorem dX0_rank_106 : decode cX0_rank 106 = .ok (.i2b, 1) := by decide +kernel
theorem dX0_rank_107 : decode cX0_rank 107 = .ok (.bastore, 1) := by decide +kernel
theorem dX0_rank_108 : decode cX0_rank 108 = .ok (.aload_n 0, 1) := by decide +kernel
theorem dX0_rank_109 : decode cX0_rank 109 = .ok (.getfield 32, 3) := by decide +kernel
theorem dX0_rank_112 : decode cX0_rank 112 = .ok (.aload_n 0, 1) := by decide +kernel
theorem dX0_rank_113 : decode cX0_rank 113 = .ok (.getfield 79, 3) := by decide +kernel
theorem dX0_rank_116 : decode cX0_rank 116 = .ok (.iload 4, 2) := by decide +kernel
theorem dX0_rank_118 : decode cX0_rank 118 = .ok (.i2b, 1) := by decide +kernel
theorem dX0_rank_119 : decode cX0_rank 119 = .ok (.bastore, 1) := by decide +kernel
theorem dX0_rank_120 : decode cX0_rank 120 = .ok (.aload_n 0, 1) := by decide +kernel
theorem dX0_rank_121 : decode cX0_rank 121 = .ok (.dup, 1) := by decide +kernel
theorem dX0_rank_122 : decode cX0_rank 122 = .ok (.getfield 79, 3) := by decide +kernel
theorem dX0_rank_125 : decode cX0_rank 125 = .ok (.iconst 1, 1) := by decide +kernel
theorem dX0_rank_126 : decode cX0_rank 126 = .ok (.iadd, 1) := by decide +kernel
theorem dX0_rank_127 : decode cX0_rank 127 = .ok (.putfield 79, 3) := by decide +kernel
theorem dX0_rank_130 : decode cX0_rank 130 = .ok (.aload_n 0, 1) := by decide +kernel
theorem dX0_rank_131 : decode cX0_rank 131 = .ok (.getfield 23, 3) := by decide +kernel
theorem dX0_rank_134 : decode cX0_rank 134 = .ok (.iload 4, 2) := by decide +kernel
theorem dX0_rank_136 : decode cX0_rank 136 = .ok (.baload, 1) := by decide +kernel
theorem dX0_rank_137 : decode cX0_rank 137 = .ok (.istore 5, 2) := by decide +kernel
theorem dX0_rank_139 : decode cX0_rank 139 = .ok (.iload 5, 2) := by decide +kernel
theorem dX0_rank_141 : decode cX0_rank 141 = .ok (.aload_n 0, 1) := by decide +kernel
theorem dX0_rank_142 : decode cX0_rank 142 = .ok (.getfield 16, 3) := by decide +kernel
theorem dX0_rank_145 : decode cX0_rank 145 = .ok (.iload 4, 2) := by decide +kernel
theorem dX0_rank_147 : decode cX0_rank 147 = .ok (.baload, 1) := by decide +kernel
theorem dX0_rank_148 : decode cX0_rank 148 = .ok (.iconst 1, 1) := by decide +kernel
theorem dX0_rank_149 : decode cX0_rank 149 = .ok (.isub, 1) := by decide +kernel
theorem dX0_rank_150 : decode cX0_rank 150 = .ok (.if_icmp .ge 66, 3) := by decide +kernel
theorem dX0_rank_153 : decode cX0_rank 153 = .ok (.iload 5, 2) := by decide +kernel
theorem dX0_rank_155 : decode cX0_rank 155 = .ok (.aload_n 0, 1) := by decide +kernel
theorem dX0_rank_156 : decode cX0_rank 156 = .ok (.getfield 23, 3) := by decide +kernel
theorem dX0_rank_159 : decode cX0_rank 159 = .ok (.iload 4, 2) := by decide +kernel
theorem dX0_rank_161 : decode cX0_rank 161 = .ok (.baload, 1) := by decide +kernel
theorem dX0_rank_162 : decode cX0_rank 162 = .ok (.if_icmp .ne 13, 3) := by decide +kernel
theorem dX0_rank_165 : decode cX0_rank 165 = .ok (.aload_n 0, 1) := by decide +kernel
theorem dX0_rank_166 : decode cX0_rank 166 = .ok (.getfield 26, 3) := by decide +kernel
theorem dX0_rank_169 : decode cX0_rank 169 = .ok (.iload 4, 2) := by decide +kernel
theorem dX0_rank_171 : decode cX0_rank 171 = .ok (.baload, 1) := by decide +kernel
theorem dX0_rank_172 : decode cX0_rank 172 = .ok (.goto 4, 3) := by decide +kernel
theorem dX0_rank_175 : decode cX0_rank 175 = .ok (.iconst 0, 1) := by decide +kernel
theorem dX0_rank_176 : decode cX0_rank 176 = .ok (.istore 6, 2) := by decide +kernel
theorem dX0_rank_178 : decode cX0_rank 178 = .ok (.aload_n 0, 1) := by decide +kernel
theorem dX0_rank_179 : decode cX0_rank 179 = .ok (.getfield 13, 3) := by decide +kernel
theorem dX0_rank_182 : decode cX0_rank 182 = .ok (.iload 4, 2) := by decide +kernel
theorem dX0_rank_184 : decode cX0_rank 184 = .ok (.bipush 6, 2) := by decide +kernel
theorem dX0_rank_186 : decode cX0_rank 186 = .ok (.imul, 1) := by decide +kernel
theorem dX0_rank_187 : decode cX0_rank 187 = .ok (.iload 5, 2) := by decide +kernel
theorem dX0_rank_189 : decode cX0_rank 189 = .ok (.iadd, 1) := by decide +kernel
theorem dX0_rank_190 : decode cX0_rank 190 = .ok (.iconst 1, 1) := by decide +kernel
theorem dX0_rank_191 : decode cX0_rank 191 = .ok (.iadd, 1) := by decide +kernel
theorem dX0_rank_192 : decode cX0_rank 192 = .ok (.baload, 1) := by decide +kernel
theorem dX0_rank_193 : decode cX0_rank 193 = .ok (.istore 7, 2) := by decide +kernel
theorem dX0_rank_195 : decode cX0_rank 195 = .ok (.aload_n 0, 1) := by decide +kernel
theorem dX0_rank_196 : decode cX0_rank 196 = .ok (.iload 4, 2) := by decide +kernel
theorem dX0_rank_198 : decode cX0_rank 198 = .ok (.iload 5, 2) := by decide +kernel
theorem dX0_rank_200 : decode cX0_rank 200 = .ok (.iload 6, 2) := by decide +kernel
theorem dX0_rank_202 : decode cX0_rank 202 = .ok (.iconst 1, 1) := by decide +kernel
theorem dX0_rank_203 : decode cX0_rank 203 = .ok (.iload 7, 2) := by decide +kernel
theorem dX0_rank_205 : decode cX0_rank 205 = .ok (.ishl, 1) := by decide +kernel
theorem dX0_rank_206 : decode cX0_rank 206 = .ok (.ior, 1) := by decide +kernel
theorem dX0_rank_207 : decode cX0_rank 207 = .ok (.invokevirtual 82, 3) := by decide +kernel
theorem dX0_rank_210 : decode cX0_rank 210 = .ok (.iinc 5 1, 3) := by decide +kernel
theorem dX0_rank_213 : decode cX0_rank 213 = .ok (.goto (-74), 3) := by decide +kernel
theorem dX0_rank_216 : decode cX0_rank 216 = .ok (.iinc 3 1, 3) := by decide +kernel
theorem dX0_rank_219 : decode cX0_rank 219 = .ok (.goto (-142), 3) := by decide +kernel
theorem dX0_rank_222 : decode cX0_rank 222 = .ok (.iconst 1, 1) := by decide +kernel
theorem dX0_rank_223 : decode cX0_rank 223 = .ok (.ireturn, 1) := by decide +kernel
abbrev cX0_addCandidate : ByteArray := prog_1_method_11_code
def yX0_addCandidate : MethodName := ⟨RX0, "addCandidate", "(III)V"⟩
theorem dX0_addCandidate_0 : decode cX0_addCandidate 0 = .ok (.iconst 0, 1) := by decide +kernel
theorem dX0_addCandidate_1 : decode cX0_addCandidate 1 = .ok (.istore 4, 2) := by decide +kernel
theorem dX0_addCandidate_3 : decode cX0_addCandidate 3 = .ok (.iconst 0, 1) := by decide +kernel
theorem dX0_addCandidate_4 : decode cX0_addCandidate 4 = .ok (.istore 5, 2) := by decide +kernel
theorem dX0_addCandidate_6 : decode cX0_addCandidate 6 = .ok (.iload 5, 2) := by decide +kernel
theorem dX0_addCandidate_8 : decode cX0_addCandidate 8 = .ok (.iload_n 2, 1) := by decide +kernel
theorem dX0_addCandidate_9 : decode cX0_addCandidate 9 = .ok (.if_icmp .gt 28, 3) := by decide +kernel
theorem dX0_addCandidate_12 : decode cX0_addCandidate 12 = .ok (.iload 4, 2) := by decide +kernel
theorem dX0_addCandidate_14 : decode cX0_addCandidate 14 = .ok (.iconst 1, 1) := by decide +kernel
theorem dX0_addCandidate_15 : decode cX0_addCandidate 15 = .ok (.aload_n 0, 1) := by decide +kernel
theorem dX0_addCandidate_16 : decode cX0_addCandidate 16 = .ok (.getfield 13, 3) := by decide +kernel
theorem dX0_addCandidate_19 : decode cX0_addCandidate 19 = .ok (.iload_n 1, 1) := by decide +kernel
theorem dX0_addCandidate_20 : decode cX0_addCandidate 20 = .ok (.bipush 6, 2) := by decide +kernel
theorem dX0_addCandidate_22 : decode cX0_addCandidate 22 = .ok (.imul, 1) := by decide +kernel
theorem dX0_addCandidate_23 : decode cX0_addCandidate 23 = .ok (.iload 5, 2) := by decide +kernel
theorem dX0_addCandidate_25 : decode cX0_addCandidate 25 = .ok (.iadd, 1) := by decide +kernel
theorem dX0_addCandidate_26 : decode cX0_addCandidate 26 = .ok (.baload, 1) := by decide +kernel
theorem dX0_addCandidate_27 : decode cX0_addCandidate 27 = .ok (.ishl, 1) := by decide +kernel
theorem dX0_addCandidate_28 : decode cX0_addCandidate 28 = .ok (.ior, 1) := by decide +kernel
theorem dX0_addCandidate_29 : decode cX0_addCandidate 29 = .ok (.istore 4, 2) := by decide +kernel
theorem dX0_addCandidate_31 : decode cX0_addCandidate 31 = .ok (.iinc 5 1, 3) := by decide +kernel
theorem dX0_addCandidate_34 : decode cX0_addCandidate 34 = .ok (.goto (-28), 3) := by decide +kernel
theorem dX0_addCandidate_37 : decode cX0_addCandidate 37 = .ok (.aload_n 0, 1) := by decide +kernel
theorem dX0_addCandidate_38 : decode cX0_addCandidate 38 = .ok (.getfield 13, 3) := by decide +kernel
theorem dX0_addCandidate_41 : decode cX0_addCandidate 41 = .ok (.iload_n 1, 1) := by decide +kernel
theorem dX0_addCandidate_42 : decode cX0_addCandidate 42 = .ok (.bipush 6, 2) := by decide +kernel
theorem dX0_addCandidate_44 : decode cX0_addCandidate 44 = .ok (.imul, 1) := by decide +kernel
theorem dX0_addCandidate_45 : decode cX0_addCandidate 45 = .ok (.iload_n 2, 1) := by decide +kernel
theorem dX0_addCandidate_46 : decode cX0_addCandidate 46 = .ok (.iadd, 1) := by decide +kernel
theorem dX0_addCandidate_47 : decode cX0_addCandidate 47 = .ok (.baload, 1) := by decide +kernel
theorem dX0_addCandidate_48 : decode cX0_addCandidate 48 = .ok (.istore 5, 2) := by decide +kernel
theorem dX0_addCandidate_50 : decode cX0_addCandidate 50 = .ok (.aload_n 0, 1) := by decide +kernel
theorem dX0_addCandidate_51 : decode cX0_addCandidate 51 = .ok (.aload_n 0, 1) := by decide +kernel
theorem dX0_addCandidate_52 : decode cX0_addCandidate 52 = .ok (.getfield 59, 3) := by decide +kernel
theorem dX0_addCandidate_55 : decode cX0_addCandidate 55 = .ok (.iload 4, 2) := by decide +kernel
theorem dX0_addCandidate_57 : decode cX0_addCandidate 57 = .ok (.invokevirtual 63, 3) := by decide +kernel
theorem dX0_addCandidate_60 : decode cX0_addCandidate 60 = .ok (.aload_n 0, 1) := by decide +kernel
theorem dX0_addCandidate_61 : decode cX0_addCandidate 61 = .ok (.iload 5, 2) := by decide +kernel
theorem dX0_addCandidate_63 : decode cX0_addCandidate 63 = .ok (.iload 4, 2) := by decide +kernel
theorem dX0_addCandidate_65 : decode cX0_addCandidate 65 = .ok (.iload_n 3, 1) := by decide +kernel
theorem dX0_addCandidate_66 : decode cX0_addCandidate 66 = .ok (.ior, 1) := by decide +kernel
theorem dX0_addCandidate_67 : decode cX0_addCandidate 67 = .ok (.invokevirtual 67, 3) := by decide +kernel
theorem dX0_addCandidate_70 : decode cX0_addCandidate 70 = .ok (.istore 6, 2) := by decide +kernel
theorem dX0_addCandidate_72 : decode cX0_addCandidate 72 = .ok (.iload 6, 2) := by decide +kernel
theorem dX0_addCandidate_74 : decode cX0_addCandidate 74 = .ok (.ifCond .lt 12, 3) := by decide +kernel
theorem dX0_addCandidate_77 : decode cX0_addCandidate 77 = .ok (.aload_n 0, 1) := by decide +kernel
theorem dX0_addCandidate_78 : decode cX0_addCandidate 78 = .ok (.getfield 70, 3) := by decide +kernel
theorem dX0_addCandidate_81 : decode cX0_addCandidate 81 = .ok (.bipush 66, 2) := by decide +kernel
theorem dX0_addCandidate_83 : decode cX0_addCandidate 83 = .ok (.if_icmp .lt 4, 3) := by decide +kernel
theorem dX0_addCandidate_86 : decode cX0_addCandidate 86 = .ok (.return_, 1) := by decide +kernel
theorem dX0_addCandidate_87 : decode cX0_addCandidate 87 = .ok (.aload_n 0, 1) := by decide +kernel
theorem dX0_addCandidate_88 : decode cX0_addCandidate 88 = .ok (.getfield 70, 3) := by decide +kernel
theorem dX0_addCandidate_91 : decode cX0_addCandidate 91 = .ok (.istore 7, 2) := by decide +kernel
theorem dX0_addCandidate_93 : decode cX0_addCandidate 93 = .ok (.iconst 0, 1) := by decide +kernel
theorem dX0_addCandidate_94 : decode cX0_addCandidate 94 = .ok (.istore 8, 2) := by decide +kernel
theorem dX0_addCandidate_96 : decode cX0_addCandidate 96 = .ok (.iconst 0, 1) := by decide +kernel
theorem dX0_addCandidate_97 : decode cX0_addCandidate 97 = .ok (.istore 9, 2) := by decide +kernel
theorem dX0_addCandidate_99 : decode cX0_addCandidate 99 = .ok (.iload 9, 2) := by decide +kernel
theorem dX0_addCandidate_101 : decode cX0_addCandidate 101 = .ok (.iload_n 2, 1) := by decide +kernel
theorem dX0_addCandidate_102 : decode cX0_addCandidate 102 = .ok (.if_icmp .gt 83, 3) := by decide +kernel
theorem dX0_addCandidate_105 : decode cX0_addCandidate 105 = .ok (.aload_n 0, 1) := by decide +kernel
theorem dX0_addCandidate_106 : decode cX0_addCandidate 106 = .ok (.getfield 13, 3) := by decide +kernel
theorem dX0_addCandidate_109 : decode cX0_addCandidate 109 = .ok (.iload 7, 2) := by decide +kernel
theorem dX0_addCandidate_111 : decode cX0_addCandidate 111 = .ok (.bipush 6, 2) := by decide +kernel
theorem dX0_addCandidate_113 : decode cX0_addCandidate 113 = .ok (.imul, 1) := by decide +kernel
theorem dX0_addCandidate_114 : decode cX0_addCandidate 114 = .ok (.iload 9, 2) := by decide +kernel
theorem dX0_addCandidate_116 : decode cX0_addCandidate 116 = .ok (.iadd, 1) := by decide +kernel
theorem dX0_addCandidate_117 : decode cX0_addCandidate 117 = .ok (.aload_n 0, 1) := by decide +kernel
theorem dX0_addCandidate_118 : decode cX0_addCandidate 118 = .ok (.getfield 13, 3) := by decide +kernel
theorem dX0_addCandidate_121 : decode cX0_addCandidate 121 = .ok (.iload_n 1, 1) := by decide +kernel
theorem dX0_addCandidate_122 : decode cX0_addCandidate 122 = .ok (.bipush 6, 2) := by decide +kernel
theorem dX0_addCandidate_124 : decode cX0_addCandidate 124 = .ok (.imul, 1) := by decide +kernel
theorem dX0_addCandidate_125 : decode cX0_addCandidate 125 = .ok (.iload 9, 2) := by decide +kernel
theorem dX0_addCandidate_127 : decode cX0_addCandidate 127 = .ok (.iadd, 1) := by decide +kernel
theorem dX0_addCandidate_128 : decode cX0_addCandidate 128 = .ok (.baload, 1) := by decide +kernel
theorem dX0_addCandidate_129 : decode cX0_addCandidate 129 = .ok (.bastore, 1) := by decide +kernel
theorem dX0_addCandidate_130 : decode cX0_addCandidate 130 = .ok (.iload 8, 2) := by decide +kernel
theorem dX0_addCandidate_132 : decode cX0_addCandidate 132 = .ok (.iload 9, 2) := by decide +kernel
theorem dX0_addCandidate_134 : decode cX0_addCandidate 134 = .ok (.ifCond .le 41, 3) := by decide +kernel
theorem dX0_addCandidate_137 : decode cX0_addCandidate 137 = .ok (.aload_n 0, 1) := by decide +kernel
theorem dX0_addCandidate_138 : decode cX0_addCandidate 138 = .ok (.getfield 7, 3) := by decide +kernel
theorem dX0_addCandidate_141 : decode cX0_addCandidate 141 = .ok (.aload_n 0, 1) := by decide +kernel
theorem dX0_addCandidate_142 : decode cX0_addCandidate 142 = .ok (.getfield 13, 3) := by decide +kernel
theorem dX0_addCandidate_145 : decode cX0_addCandidate 145 = .ok (.iload_n 1, 1) := by decide +kernel
theorem dX0_addCandidate_146 : decode cX0_addCandidate 146 = .ok (.bipush 6, 2) := by decide +kernel
theorem dX0_addCandidate_148 : decode cX0_addCandidate 148 = .ok (.imul, 1) := by decide +kernel
theorem dX0_addCandidate_149 : decode cX0_addCandidate 149 = .ok (.iload 9, 2) := by decide +kernel
theorem dX0_addCandidate_151 : decode cX0_addCandidate 151 = .ok (.iadd, 1) := by decide +kernel
theorem dX0_addCandidate_152 : decode cX0_addCandidate 152 = .ok (.iconst 1, 1) := by decide +kernel
theorem dX0_addCandidate_153 : decode cX0_addCandidate 153 = .ok (.isub, 1) := by decide +kernel
theorem dX0_addCandidate_154 : decode cX0_addCandidate 154 = .ok (.baload, 1) := by decide +kernel
theorem dX0_addCandidate_155 : decode cX0_addCandidate 155 = .ok (.bipush 6, 2) := by decide +kernel
theorem dX0_addCandidate_157 : decode cX0_addCandidate 157 = .ok (.imul, 1) := by decide +kernel
theorem dX0_addCandidate_158 : decode cX0_addCandidate 158 = .ok (.aload_n 0, 1) := by decide +kernel
end
section
set_option maxRecDepth 100000
theorem dX0_addCandidate_159 : decode cX0_addCandidate 159 = .ok (.getfield 13, 3) := by decide +kernel
theorem dX0_addCandidate_162 : decode cX0_addCandidate 162 = .ok (.iload_n 1, 1) := by decide +kernel
theorem dX0_addCandidate_163 : decode cX0_addCandidate 163 = .ok (.bipush 6, 2) := by decide +kernel
theorem dX0_addCandidate_165 : decode cX0_addCandidate 165 = .ok (.imul, 1) := by decide +kernel
theorem dX0_addCandidate_166 : decode cX0_addCandidate 166 = .ok (.iload 9, 2) := by decide +kernel
theorem dX0_addCandidate_168 : decode cX0_addCandidate 168 = .ok (.iadd, 1) := by decide +kernel
theorem dX0_addCandidate_169 : decode cX0_addCandidate 169 = .ok (.baload, 1) := by decide +kernel
theorem dX0_addCandidate_170 : decode cX0_addCandidate 170 = .ok (.iadd, 1) := by decide +kernel
theorem dX0_addCandidate_171 : decode cX0_addCandidate 171 = .ok (.baload, 1) := by decide +kernel
theorem dX0_addCandidate_172 : decode cX0_addCandidate 172 = .ok (.goto 4, 3) := by decide +kernel
theorem dX0_addCandidate_175 : decode cX0_addCandidate 175 = .ok (.iconst 0, 1) := by decide +kernel
theorem dX0_addCandidate_176 : decode cX0_addCandidate 176 = .ok (.iadd, 1) := by decide +kernel
theorem dX0_addCandidate_177 : decode cX0_addCandidate 177 = .ok (.istore 8, 2) := by decide +kernel
theorem dX0_addCandidate_179 : decode cX0_addCandidate 179 = .ok (.iinc 9 1, 3) := by decide +kernel
theorem dX0_addCandidate_182 : decode cX0_addCandidate 182 = .ok (.goto (-83), 3) := by decide +kernel
theorem dX0_addCandidate_185 : decode cX0_addCandidate 185 = .ok (.iload_n 2, 1) := by decide +kernel
theorem dX0_addCandidate_186 : decode cX0_addCandidate 186 = .ok (.iconst 1, 1) := by decide +kernel
theorem dX0_addCandidate_187 : decode cX0_addCandidate 187 = .ok (.iadd, 1) := by decide +kernel
theorem dX0_addCandidate_188 : decode cX0_addCandidate 188 = .ok (.istore 9, 2) := by decide +kernel
theorem dX0_addCandidate_190 : decode cX0_addCandidate 190 = .ok (.iconst 0, 1) := by decide +kernel
theorem dX0_addCandidate_191 : decode cX0_addCandidate 191 = .ok (.istore 10, 2) := by decide +kernel
theorem dX0_addCandidate_193 : decode cX0_addCandidate 193 = .ok (.iload 10, 2) := by decide +kernel
theorem dX0_addCandidate_195 : decode cX0_addCandidate 195 = .ok (.bipush 6, 2) := by decide +kernel
theorem dX0_addCandidate_197 : decode cX0_addCandidate 197 = .ok (.if_icmp .ge 78, 3) := by decide +kernel
theorem dX0_addCandidate_200 : decode cX0_addCandidate 200 = .ok (.iload 6, 2) := by decide +kernel
theorem dX0_addCandidate_202 : decode cX0_addCandidate 202 = .ok (.ifCond .lt 73, 3) := by decide +kernel
theorem dX0_addCandidate_205 : decode cX0_addCandidate 205 = .ok (.iload 8, 2) := by decide +kernel
theorem dX0_addCandidate_207 : decode cX0_addCandidate 207 = .ok (.aload_n 0, 1) := by decide +kernel
theorem dX0_addCandidate_208 : decode cX0_addCandidate 208 = .ok (.getfield 7, 3) := by decide +kernel
theorem dX0_addCandidate_211 : decode cX0_addCandidate 211 = .ok (.iload 5, 2) := by decide +kernel
theorem dX0_addCandidate_213 : decode cX0_addCandidate 213 = .ok (.bipush 6, 2) := by decide +kernel
theorem dX0_addCandidate_215 : decode cX0_addCandidate 215 = .ok (.imul, 1) := by decide +kernel
theorem dX0_addCandidate_216 : decode cX0_addCandidate 216 = .ok (.iload 6, 2) := by decide +kernel
theorem dX0_addCandidate_218 : decode cX0_addCandidate 218 = .ok (.iadd, 1) := by decide +kernel
theorem dX0_addCandidate_219 : decode cX0_addCandidate 219 = .ok (.baload, 1) := by decide +kernel
theorem dX0_addCandidate_220 : decode cX0_addCandidate 220 = .ok (.iadd, 1) := by decide +kernel
theorem dX0_addCandidate_221 : decode cX0_addCandidate 221 = .ok (.istore 8, 2) := by decide +kernel
theorem dX0_addCandidate_223 : decode cX0_addCandidate 223 = .ok (.aload_n 0, 1) := by decide +kernel
theorem dX0_addCandidate_224 : decode cX0_addCandidate 224 = .ok (.getfield 13, 3) := by decide +kernel
theorem dX0_addCandidate_227 : decode cX0_addCandidate 227 = .ok (.iload 7, 2) := by decide +kernel
theorem dX0_addCandidate_229 : decode cX0_addCandidate 229 = .ok (.bipush 6, 2) := by decide +kernel
theorem dX0_addCandidate_231 : decode cX0_addCandidate 231 = .ok (.imul, 1) := by decide +kernel
theorem dX0_addCandidate_232 : decode cX0_addCandidate 232 = .ok (.iload 9, 2) := by decide +kernel
theorem dX0_addCandidate_234 : decode cX0_addCandidate 234 = .ok (.iadd, 1) := by decide +kernel
theorem dX0_addCandidate_235 : decode cX0_addCandidate 235 = .ok (.iload 6, 2) := by decide +kernel
theorem dX0_addCandidate_237 : decode cX0_addCandidate 237 = .ok (.i2b, 1) := by decide +kernel
theorem dX0_addCandidate_238 : decode cX0_addCandidate 238 = .ok (.bastore, 1) := by decide +kernel
theorem dX0_addCandidate_239 : decode cX0_addCandidate 239 = .ok (.iinc 9 1, 3) := by decide +kernel
theorem dX0_addCandidate_242 : decode cX0_addCandidate 242 = .ok (.iload 6, 2) := by decide +kernel
theorem dX0_addCandidate_244 : decode cX0_addCandidate 244 = .ok (.istore 5, 2) := by decide +kernel
theorem dX0_addCandidate_246 : decode cX0_addCandidate 246 = .ok (.iload 5, 2) := by decide +kernel
theorem dX0_addCandidate_248 : decode cX0_addCandidate 248 = .ok (.aload_n 0, 1) := by decide +kernel
theorem dX0_addCandidate_249 : decode cX0_addCandidate 249 = .ok (.getfield 59, 3) := by decide +kernel
theorem dX0_addCandidate_252 : decode cX0_addCandidate 252 = .ok (.if_icmp .ne 7, 3) := by decide +kernel
theorem dX0_addCandidate_255 : decode cX0_addCandidate 255 = .ok (.iconst (-1), 1) := by decide +kernel
theorem dX0_addCandidate_256 : decode cX0_addCandidate 256 = .ok (.goto 11, 3) := by decide +kernel
theorem dX0_addCandidate_259 : decode cX0_addCandidate 259 = .ok (.aload_n 0, 1) := by decide +kernel
theorem dX0_addCandidate_260 : decode cX0_addCandidate 260 = .ok (.iload 5, 2) := by decide +kernel
theorem dX0_addCandidate_262 : decode cX0_addCandidate 262 = .ok (.iload 4, 2) := by decide +kernel
theorem dX0_addCandidate_264 : decode cX0_addCandidate 264 = .ok (.invokevirtual 67, 3) := by decide +kernel
theorem dX0_addCandidate_267 : decode cX0_addCandidate 267 = .ok (.istore 6, 2) := by decide +kernel
theorem dX0_addCandidate_269 : decode cX0_addCandidate 269 = .ok (.iinc 10 1, 3) := by decide +kernel
theorem dX0_addCandidate_272 : decode cX0_addCandidate 272 = .ok (.goto (-79), 3) := by decide +kernel
theorem dX0_addCandidate_275 : decode cX0_addCandidate 275 = .ok (.aload_n 0, 1) := by decide +kernel
theorem dX0_addCandidate_276 : decode cX0_addCandidate 276 = .ok (.getfield 16, 3) := by decide +kernel
theorem dX0_addCandidate_279 : decode cX0_addCandidate 279 = .ok (.iload 7, 2) := by decide +kernel
theorem dX0_addCandidate_281 : decode cX0_addCandidate 281 = .ok (.iload 9, 2) := by decide +kernel
theorem dX0_addCandidate_283 : decode cX0_addCandidate 283 = .ok (.i2b, 1) := by decide +kernel
theorem dX0_addCandidate_284 : decode cX0_addCandidate 284 = .ok (.bastore, 1) := by decide +kernel
theorem dX0_addCandidate_285 : decode cX0_addCandidate 285 = .ok (.aload_n 0, 1) := by decide +kernel
theorem dX0_addCandidate_286 : decode cX0_addCandidate 286 = .ok (.getfield 19, 3) := by decide +kernel
theorem dX0_addCandidate_289 : decode cX0_addCandidate 289 = .ok (.iload 7, 2) := by decide +kernel
theorem dX0_addCandidate_291 : decode cX0_addCandidate 291 = .ok (.iload 8, 2) := by decide +kernel
theorem dX0_addCandidate_293 : decode cX0_addCandidate 293 = .ok (.i2s, 1) := by decide +kernel
theorem dX0_addCandidate_294 : decode cX0_addCandidate 294 = .ok (.sastore, 1) := by decide +kernel
theorem dX0_addCandidate_295 : decode cX0_addCandidate 295 = .ok (.aload_n 0, 1) := by decide +kernel
theorem dX0_addCandidate_296 : decode cX0_addCandidate 296 = .ok (.getfield 23, 3) := by decide +kernel
theorem dX0_addCandidate_299 : decode cX0_addCandidate 299 = .ok (.iload 7, 2) := by decide +kernel
theorem dX0_addCandidate_301 : decode cX0_addCandidate 301 = .ok (.iload_n 2, 1) := by decide +kernel
theorem dX0_addCandidate_302 : decode cX0_addCandidate 302 = .ok (.i2b, 1) := by decide +kernel
theorem dX0_addCandidate_303 : decode cX0_addCandidate 303 = .ok (.bastore, 1) := by decide +kernel
theorem dX0_addCandidate_304 : decode cX0_addCandidate 304 = .ok (.aload_n 0, 1) := by decide +kernel
theorem dX0_addCandidate_305 : decode cX0_addCandidate 305 = .ok (.getfield 26, 3) := by decide +kernel
theorem dX0_addCandidate_308 : decode cX0_addCandidate 308 = .ok (.iload 7, 2) := by decide +kernel
theorem dX0_addCandidate_310 : decode cX0_addCandidate 310 = .ok (.iload_n 3, 1) := by decide +kernel
theorem dX0_addCandidate_311 : decode cX0_addCandidate 311 = .ok (.i2b, 1) := by decide +kernel
theorem dX0_addCandidate_312 : decode cX0_addCandidate 312 = .ok (.bastore, 1) := by decide +kernel
theorem dX0_addCandidate_313 : decode cX0_addCandidate 313 = .ok (.aload_n 0, 1) := by decide +kernel
theorem dX0_addCandidate_314 : decode cX0_addCandidate 314 = .ok (.getfield 29, 3) := by decide +kernel
theorem dX0_addCandidate_317 : decode cX0_addCandidate 317 = .ok (.iload 7, 2) := by decide +kernel
theorem dX0_addCandidate_319 : decode cX0_addCandidate 319 = .ok (.iconst (-1), 1) := by decide +kernel
theorem dX0_addCandidate_320 : decode cX0_addCandidate 320 = .ok (.bastore, 1) := by decide +kernel
theorem dX0_addCandidate_321 : decode cX0_addCandidate 321 = .ok (.aload_n 0, 1) := by decide +kernel
theorem dX0_addCandidate_322 : decode cX0_addCandidate 322 = .ok (.dup, 1) := by decide +kernel
theorem dX0_addCandidate_323 : decode cX0_addCandidate 323 = .ok (.getfield 70, 3) := by decide +kernel
theorem dX0_addCandidate_326 : decode cX0_addCandidate 326 = .ok (.iconst 1, 1) := by decide +kernel
theorem dX0_addCandidate_327 : decode cX0_addCandidate 327 = .ok (.iadd, 1) := by decide +kernel
theorem dX0_addCandidate_328 : decode cX0_addCandidate 328 = .ok (.putfield 70, 3) := by decide +kernel
theorem dX0_addCandidate_331 : decode cX0_addCandidate 331 = .ok (.return_, 1) := by decide +kernel
abbrev cX0_measure : ByteArray := prog_1_method_9_code
def yX0_measure : MethodName := ⟨RX0, "measure", "(II)V"⟩
theorem dX0_measure_0 : decode cX0_measure 0 = .ok (.iconst 0, 1) := by decide +kernel
theorem dX0_measure_1 : decode cX0_measure 1 = .ok (.istore_n 3, 1) := by decide +kernel
theorem dX0_measure_2 : decode cX0_measure 2 = .ok (.iload_n 3, 1) := by decide +kernel
theorem dX0_measure_3 : decode cX0_measure 3 = .ok (.bipush 6, 2) := by decide +kernel
theorem dX0_measure_5 : decode cX0_measure 5 = .ok (.if_icmp .ge 26, 3) := by decide +kernel
theorem dX0_measure_8 : decode cX0_measure 8 = .ok (.aload_n 0, 1) := by decide +kernel
theorem dX0_measure_9 : decode cX0_measure 9 = .ok (.getfield 35, 3) := by decide +kernel
theorem dX0_measure_12 : decode cX0_measure 12 = .ok (.iload_n 3, 1) := by decide +kernel
theorem dX0_measure_13 : decode cX0_measure 13 = .ok (.iload_n 3, 1) := by decide +kernel
theorem dX0_measure_14 : decode cX0_measure 14 = .ok (.iload_n 1, 1) := by decide +kernel
theorem dX0_measure_15 : decode cX0_measure 15 = .ok (.if_icmp .ne 7, 3) := by decide +kernel
theorem dX0_measure_18 : decode cX0_measure 18 = .ok (.iconst 0, 1) := by decide +kernel
theorem dX0_measure_19 : decode cX0_measure 19 = .ok (.goto 5, 3) := by decide +kernel
theorem dX0_measure_22 : decode cX0_measure 22 = .ok (.ldc 55, 2) := by decide +kernel
theorem dX0_measure_24 : decode cX0_measure 24 = .ok (.iastore, 1) := by decide +kernel
theorem dX0_measure_25 : decode cX0_measure 25 = .ok (.iinc 3 1, 3) := by decide +kernel
theorem dX0_measure_28 : decode cX0_measure 28 = .ok (.goto (-26), 3) := by decide +kernel
theorem dX0_measure_31 : decode cX0_measure 31 = .ok (.iconst 0, 1) := by decide +kernel
theorem dX0_measure_32 : decode cX0_measure 32 = .ok (.istore_n 3, 1) := by decide +kernel
theorem dX0_measure_33 : decode cX0_measure 33 = .ok (.iload_n 3, 1) := by decide +kernel
theorem dX0_measure_34 : decode cX0_measure 34 = .ok (.bipush 6, 2) := by decide +kernel
theorem dX0_measure_36 : decode cX0_measure 36 = .ok (.if_icmp .ge 146, 3) := by decide +kernel
theorem dX0_measure_39 : decode cX0_measure 39 = .ok (.iconst 0, 1) := by decide +kernel
theorem dX0_measure_40 : decode cX0_measure 40 = .ok (.istore 4, 2) := by decide +kernel
theorem dX0_measure_42 : decode cX0_measure 42 = .ok (.iload 4, 2) := by decide +kernel
theorem dX0_measure_44 : decode cX0_measure 44 = .ok (.bipush 6, 2) := by decide +kernel
theorem dX0_measure_46 : decode cX0_measure 46 = .ok (.if_icmp .ge 130, 3) := by decide +kernel
theorem dX0_measure_49 : decode cX0_measure 49 = .ok (.iconst 0, 1) := by decide +kernel
theorem dX0_measure_50 : decode cX0_measure 50 = .ok (.istore 5, 2) := by decide +kernel
theorem dX0_measure_52 : decode cX0_measure 52 = .ok (.iload 5, 2) := by decide +kernel
theorem dX0_measure_54 : decode cX0_measure 54 = .ok (.bipush 6, 2) := by decide +kernel
theorem dX0_measure_56 : decode cX0_measure 56 = .ok (.if_icmp .ge 114, 3) := by decide +kernel
theorem dX0_measure_59 : decode cX0_measure 59 = .ok (.aload_n 0, 1) := by decide +kernel
theorem dX0_measure_60 : decode cX0_measure 60 = .ok (.getfield 7, 3) := by decide +kernel
theorem dX0_measure_63 : decode cX0_measure 63 = .ok (.iload 4, 2) := by decide +kernel
theorem dX0_measure_65 : decode cX0_measure 65 = .ok (.bipush 6, 2) := by decide +kernel
theorem dX0_measure_67 : decode cX0_measure 67 = .ok (.imul, 1) := by decide +kernel
theorem dX0_measure_68 : decode cX0_measure 68 = .ok (.iload 5, 2) := by decide +kernel
theorem dX0_measure_70 : decode cX0_measure 70 = .ok (.iadd, 1) := by decide +kernel
theorem dX0_measure_71 : decode cX0_measure 71 = .ok (.baload, 1) := by decide +kernel
theorem dX0_measure_72 : decode cX0_measure 72 = .ok (.ifCond .le 25, 3) := by decide +kernel
theorem dX0_measure_75 : decode cX0_measure 75 = .ok (.iload_n 2, 1) := by decide +kernel
theorem dX0_measure_76 : decode cX0_measure 76 = .ok (.iload 4, 2) := by decide +kernel
theorem dX0_measure_78 : decode cX0_measure 78 = .ok (.invokestatic 56, 3) := by decide +kernel
theorem dX0_measure_81 : decode cX0_measure 81 = .ok (.ifCond .ne 16, 3) := by decide +kernel
theorem dX0_measure_84 : decode cX0_measure 84 = .ok (.iload_n 2, 1) := by decide +kernel
theorem dX0_measure_85 : decode cX0_measure 85 = .ok (.iload 5, 2) := by decide +kernel
theorem dX0_measure_87 : decode cX0_measure 87 = .ok (.invokestatic 56, 3) := by decide +kernel
theorem dX0_measure_90 : decode cX0_measure 90 = .ok (.ifCond .ne 7, 3) := by decide +kernel
theorem dX0_measure_93 : decode cX0_measure 93 = .ok (.iconst 1, 1) := by decide +kernel
theorem dX0_measure_94 : decode cX0_measure 94 = .ok (.goto 4, 3) := by decide +kernel
theorem dX0_measure_97 : decode cX0_measure 97 = .ok (.iconst 0, 1) := by decide +kernel
theorem dX0_measure_98 : decode cX0_measure 98 = .ok (.istore 6, 2) := by decide +kernel
theorem dX0_measure_100 : decode cX0_measure 100 = .ok (.iload 6, 2) := by decide +kernel
theorem dX0_measure_102 : decode cX0_measure 102 = .ok (.ifCond .eq 62, 3) := by decide +kernel
theorem dX0_measure_105 : decode cX0_measure 105 = .ok (.aload_n 0, 1) := by decide +kernel
theorem dX0_measure_106 : decode cX0_measure 106 = .ok (.getfield 35, 3) := by decide +kernel
theorem dX0_measure_109 : decode cX0_measure 109 = .ok (.iload 5, 2) := by decide +kernel
theorem dX0_measure_111 : decode cX0_measure 111 = .ok (.iaload, 1) := by decide +kernel
theorem dX0_measure_112 : decode cX0_measure 112 = .ok (.aload_n 0, 1) := by decide +kernel
theorem dX0_measure_113 : decode cX0_measure 113 = .ok (.getfield 7, 3) := by decide +kernel
theorem dX0_measure_116 : decode cX0_measure 116 = .ok (.iload 4, 2) := by decide +kernel
theorem dX0_measure_118 : decode cX0_measure 118 = .ok (.bipush 6, 2) := by decide +kernel
theorem dX0_measure_120 : decode cX0_measure 120 = .ok (.imul, 1) := by decide +kernel
theorem dX0_measure_121 : decode cX0_measure 121 = .ok (.iload 5, 2) := by decide +kernel
theorem dX0_measure_123 : decode cX0_measure 123 = .ok (.iadd, 1) := by decide +kernel
theorem dX0_measure_124 : decode cX0_measure 124 = .ok (.baload, 1) := by decide +kernel
theorem dX0_measure_125 : decode cX0_measure 125 = .ok (.iadd, 1) := by decide +kernel
theorem dX0_measure_126 : decode cX0_measure 126 = .ok (.aload_n 0, 1) := by decide +kernel
theorem dX0_measure_127 : decode cX0_measure 127 = .ok (.getfield 35, 3) := by decide +kernel
theorem dX0_measure_130 : decode cX0_measure 130 = .ok (.iload 4, 2) := by decide +kernel
theorem dX0_measure_132 : decode cX0_measure 132 = .ok (.iaload, 1) := by decide +kernel
theorem dX0_measure_133 : decode cX0_measure 133 = .ok (.if_icmp .ge 31, 3) := by decide +kernel
theorem dX0_measure_136 : decode cX0_measure 136 = .ok (.aload_n 0, 1) := by decide +kernel
theorem dX0_measure_137 : decode cX0_measure 137 = .ok (.getfield 35, 3) := by decide +kernel
theorem dX0_measure_140 : decode cX0_measure 140 = .ok (.iload 4, 2) := by decide +kernel
theorem dX0_measure_142 : decode cX0_measure 142 = .ok (.aload_n 0, 1) := by decide +kernel
theorem dX0_measure_143 : decode cX0_measure 143 = .ok (.getfield 35, 3) := by decide +kernel
theorem dX0_measure_146 : decode cX0_measure 146 = .ok (.iload 5, 2) := by decide +kernel
theorem dX0_measure_148 : decode cX0_measure 148 = .ok (.iaload, 1) := by decide +kernel
theorem dX0_measure_149 : decode cX0_measure 149 = .ok (.aload_n 0, 1) := by decide +kernel
theorem dX0_measure_150 : decode cX0_measure 150 = .ok (.getfield 7, 3) := by decide +kernel
theorem dX0_measure_153 : decode cX0_measure 153 = .ok (.iload 4, 2) := by decide +kernel
theorem dX0_measure_155 : decode cX0_measure 155 = .ok (.bipush 6, 2) := by decide +kernel
theorem dX0_measure_157 : decode cX0_measure 157 = .ok (.imul, 1) := by decide +kernel
theorem dX0_measure_158 : decode cX0_measure 158 = .ok (.iload 5, 2) := by decide +kernel
theorem dX0_measure_160 : decode cX0_measure 160 = .ok (.iadd, 1) := by decide +kernel
theorem dX0_measure_161 : decode cX0_measure 161 = .ok (.baload, 1) := by decide +kernel
theorem dX0_measure_162 : decode cX0_measure 162 = .ok (.iadd, 1) := by decide +kernel
theorem dX0_measure_163 : decode cX0_measure 163 = .ok (.iastore, 1) := by decide +kernel
theorem dX0_measure_164 : decode cX0_measure 164 = .ok (.iinc 5 1, 3) := by decide +kernel
theorem dX0_measure_167 : decode cX0_measure 167 = .ok (.goto (-115), 3) := by decide +kernel
theorem dX0_measure_170 : decode cX0_measure 170 = .ok (.iinc 4 1, 3) := by decide +kernel
theorem dX0_measure_173 : decode cX0_measure 173 = .ok (.goto (-131), 3) := by decide +kernel
theorem dX0_measure_176 : decode cX0_measure 176 = .ok (.iinc 3 1, 3) := by decide +kernel
theorem dX0_measure_179 : decode cX0_measure 179 = .ok (.goto (-146), 3) := by decide +kernel
theorem dX0_measure_182 : decode cX0_measure 182 = .ok (.return_, 1) := by decide +kernel
abbrev cX0_in : ByteArray := prog_1_method_4_code
def yX0_in : MethodName := ⟨RX0, "in", "(II)Z"⟩
theorem dX0_in_0 : decode cX0_in 0 = .ok (.iload_n 0, 1) := by decide +kernel
theorem dX0_in_1 : decode cX0_in 1 = .ok (.iload_n 1, 1) := by decide +kernel
theorem dX0_in_2 : decode cX0_in 2 = .ok (.ishr, 1) := by decide +kernel
theorem dX0_in_3 : decode cX0_in 3 = .ok (.iconst 1, 1) := by decide +kernel
theorem dX0_in_4 : decode cX0_in 4 = .ok (.iand, 1) := by decide +kernel
theorem dX0_in_5 : decode cX0_in 5 = .ok (.ifCond .eq 7, 3) := by decide +kernel
theorem dX0_in_8 : decode cX0_in 8 = .ok (.iconst 1, 1) := by decide +kernel
theorem dX0_in_9 : decode cX0_in 9 = .ok (.goto 4, 3) := by decide +kernel
theorem dX0_in_12 : decode cX0_in 12 = .ok (.iconst 0, 1) := by decide +kernel
theorem dX0_in_13 : decode cX0_in 13 = .ok (.ireturn, 1) := by decide +kernel
abbrev cX0_bestNext : ByteArray := prog_1_method_10_code
def yX0_bestNext : MethodName := ⟨RX0, "bestNext", "(II)I"⟩
theorem dX0_bestNext_0 : decode cX0_bestNext 0 = .ok (.iconst (-1), 1) := by decide +kernel
theorem dX0_bestNext_1 : decode cX0_bestNext 1 = .ok (.istore_n 3, 1) := by decide +kernel
theorem dX0_bestNext_2 : decode cX0_bestNext 2 = .ok (.ldc 55, 2) := by decide +kernel
theorem dX0_bestNext_4 : decode cX0_bestNext 4 = .ok (.istore 4, 2) := by decide +kernel
theorem dX0_bestNext_6 : decode cX0_bestNext 6 = .ok (.iconst 0, 1) := by decide +kernel
theorem dX0_bestNext_7 : decode cX0_bestNext 7 = .ok (.istore 5, 2) := by decide +kernel
theorem dX0_bestNext_9 : decode cX0_bestNext 9 = .ok (.iload 5, 2) := by decide +kernel
theorem dX0_bestNext_11 : decode cX0_bestNext 11 = .ok (.bipush 6, 2) := by decide +kernel
theorem dX0_bestNext_13 : decode cX0_bestNext 13 = .ok (.if_icmp .ge 107, 3) := by decide +kernel
theorem dX0_bestNext_16 : decode cX0_bestNext 16 = .ok (.aload_n 0, 1) := by decide +kernel
theorem dX0_bestNext_17 : decode cX0_bestNext 17 = .ok (.getfield 7, 3) := by decide +kernel
theorem dX0_bestNext_20 : decode cX0_bestNext 20 = .ok (.iload_n 1, 1) := by decide +kernel
theorem dX0_bestNext_21 : decode cX0_bestNext 21 = .ok (.bipush 6, 2) := by decide +kernel
theorem dX0_bestNext_23 : decode cX0_bestNext 23 = .ok (.imul, 1) := by decide +kernel
theorem dX0_bestNext_24 : decode cX0_bestNext 24 = .ok (.iload 5, 2) := by decide +kernel
theorem dX0_bestNext_26 : decode cX0_bestNext 26 = .ok (.iadd, 1) := by decide +kernel
theorem dX0_bestNext_27 : decode cX0_bestNext 27 = .ok (.baload, 1) := by decide +kernel
theorem dX0_bestNext_28 : decode cX0_bestNext 28 = .ok (.ifCond .le 28, 3) := by decide +kernel
theorem dX0_bestNext_31 : decode cX0_bestNext 31 = .ok (.iload_n 2, 1) := by decide +kernel
theorem dX0_bestNext_32 : decode cX0_bestNext 32 = .ok (.iload 5, 2) := by decide +kernel
theorem dX0_bestNext_34 : decode cX0_bestNext 34 = .ok (.invokestatic 56, 3) := by decide +kernel
theorem dX0_bestNext_37 : decode cX0_bestNext 37 = .ok (.ifCond .ne 19, 3) := by decide +kernel
theorem dX0_bestNext_40 : decode cX0_bestNext 40 = .ok (.aload_n 0, 1) := by decide +kernel
theorem dX0_bestNext_41 : decode cX0_bestNext 41 = .ok (.getfield 35, 3) := by decide +kernel
theorem dX0_bestNext_44 : decode cX0_bestNext 44 = .ok (.iload 5, 2) := by decide +kernel
theorem dX0_bestNext_46 : decode cX0_bestNext 46 = .ok (.iaload, 1) := by decide +kernel
theorem dX0_bestNext_47 : decode cX0_bestNext 47 = .ok (.ldc 55, 2) := by decide +kernel
theorem dX0_bestNext_49 : decode cX0_bestNext 49 = .ok (.if_icmp .ge 7, 3) := by decide +kernel
theorem dX0_bestNext_52 : decode cX0_bestNext 52 = .ok (.iconst 1, 1) := by decide +kernel
theorem dX0_bestNext_53 : decode cX0_bestNext 53 = .ok (.goto 4, 3) := by decide +kernel
theorem dX0_bestNext_56 : decode cX0_bestNext 56 = .ok (.iconst 0, 1) := by decide +kernel
theorem dX0_bestNext_57 : decode cX0_bestNext 57 = .ok (.istore 6, 2) := by decide +kernel
theorem dX0_bestNext_59 : decode cX0_bestNext 59 = .ok (.iload 6, 2) := by decide +kernel
theorem dX0_bestNext_61 : decode cX0_bestNext 61 = .ok (.ifCond .eq 53, 3) := by decide +kernel
theorem dX0_bestNext_64 : decode cX0_bestNext 64 = .ok (.aload_n 0, 1) := by decide +kernel
theorem dX0_bestNext_65 : decode cX0_bestNext 65 = .ok (.getfield 35, 3) := by decide +kernel
theorem dX0_bestNext_68 : decode cX0_bestNext 68 = .ok (.iload 5, 2) := by decide +kernel
theorem dX0_bestNext_70 : decode cX0_bestNext 70 = .ok (.iaload, 1) := by decide +kernel
theorem dX0_bestNext_71 : decode cX0_bestNext 71 = .ok (.aload_n 0, 1) := by decide +kernel
theorem dX0_bestNext_72 : decode cX0_bestNext 72 = .ok (.getfield 7, 3) := by decide +kernel
theorem dX0_bestNext_75 : decode cX0_bestNext 75 = .ok (.iload_n 1, 1) := by decide +kernel
theorem dX0_bestNext_76 : decode cX0_bestNext 76 = .ok (.bipush 6, 2) := by decide +kernel
theorem dX0_bestNext_78 : decode cX0_bestNext 78 = .ok (.imul, 1) := by decide +kernel
theorem dX0_bestNext_79 : decode cX0_bestNext 79 = .ok (.iload 5, 2) := by decide +kernel
theorem dX0_bestNext_81 : decode cX0_bestNext 81 = .ok (.iadd, 1) := by decide +kernel
theorem dX0_bestNext_82 : decode cX0_bestNext 82 = .ok (.baload, 1) := by decide +kernel
theorem dX0_bestNext_83 : decode cX0_bestNext 83 = .ok (.iadd, 1) := by decide +kernel
theorem dX0_bestNext_84 : decode cX0_bestNext 84 = .ok (.iload 4, 2) := by decide +kernel
theorem dX0_bestNext_86 : decode cX0_bestNext 86 = .ok (.if_icmp .ge 28, 3) := by decide +kernel
theorem dX0_bestNext_89 : decode cX0_bestNext 89 = .ok (.iload 5, 2) := by decide +kernel
theorem dX0_bestNext_91 : decode cX0_bestNext 91 = .ok (.istore_n 3, 1) := by decide +kernel
theorem dX0_bestNext_92 : decode cX0_bestNext 92 = .ok (.aload_n 0, 1) := by decide +kernel
theorem dX0_bestNext_93 : decode cX0_bestNext 93 = .ok (.getfield 35, 3) := by decide +kernel
theorem dX0_bestNext_96 : decode cX0_bestNext 96 = .ok (.iload 5, 2) := by decide +kernel
theorem dX0_bestNext_98 : decode cX0_bestNext 98 = .ok (.iaload, 1) := by decide +kernel
theorem dX0_bestNext_99 : decode cX0_bestNext 99 = .ok (.aload_n 0, 1) := by decide +kernel
theorem dX0_bestNext_100 : decode cX0_bestNext 100 = .ok (.getfield 7, 3) := by decide +kernel
theorem dX0_bestNext_103 : decode cX0_bestNext 103 = .ok (.iload_n 1, 1) := by decide +kernel
theorem dX0_bestNext_104 : decode cX0_bestNext 104 = .ok (.bipush 6, 2) := by decide +kernel
theorem dX0_bestNext_106 : decode cX0_bestNext 106 = .ok (.imul, 1) := by decide +kernel
theorem dX0_bestNext_107 : decode cX0_bestNext 107 = .ok (.iload 5, 2) := by decide +kernel
theorem dX0_bestNext_109 : decode cX0_bestNext 109 = .ok (.iadd, 1) := by decide +kernel
theorem dX0_bestNext_110 : decode cX0_bestNext 110 = .ok (.baload, 1) := by decide +kernel
theorem dX0_bestNext_111 : decode cX0_bestNext 111 = .ok (.iadd, 1) := by decide +kernel
theorem dX0_bestNext_112 : decode cX0_bestNext 112 = .ok (.istore 4, 2) := by decide +kernel
theorem dX0_bestNext_114 : decode cX0_bestNext 114 = .ok (.iinc 5 1, 3) := by decide +kernel
theorem dX0_bestNext_117 : decode cX0_bestNext 117 = .ok (.goto (-108), 3) := by decide +kernel
theorem dX0_bestNext_120 : decode cX0_bestNext 120 = .ok (.iload_n 3, 1) := by decide +kernel
theorem dX0_bestNext_121 : decode cX0_bestNext 121 = .ok (.ireturn, 1) := by decide +kernel
abbrev cX0_bestCandidate : ByteArray := prog_1_method_13_code
def yX0_bestCandidate : MethodName := ⟨RX0, "bestCandidate", "()I"⟩
theorem dX0_bestCandidate_0 : decode cX0_bestCandidate 0 = .ok (.iconst (-1), 1) := by decide +kernel
theorem dX0_bestCandidate_1 : decode cX0_bestCandidate 1 = .ok (.istore_n 1, 1) := by decide +kernel
theorem dX0_bestCandidate_2 : decode cX0_bestCandidate 2 = .ok (.iconst 0, 1) := by decide +kernel
theorem dX0_bestCandidate_3 : decode cX0_bestCandidate 3 = .ok (.istore_n 2, 1) := by decide +kernel
theorem dX0_bestCandidate_4 : decode cX0_bestCandidate 4 = .ok (.iload_n 2, 1) := by decide +kernel
theorem dX0_bestCandidate_5 : decode cX0_bestCandidate 5 = .ok (.aload_n 0, 1) := by decide +kernel
theorem dX0_bestCandidate_6 : decode cX0_bestCandidate 6 = .ok (.getfield 70, 3) := by decide +kernel
theorem dX0_bestCandidate_9 : decode cX0_bestCandidate 9 = .ok (.if_icmp .ge 33, 3) := by decide +kernel
theorem dX0_bestCandidate_12 : decode cX0_bestCandidate 12 = .ok (.aload_n 0, 1) := by decide +kernel
theorem dX0_bestCandidate_13 : decode cX0_bestCandidate 13 = .ok (.getfield 29, 3) := by decide +kernel
theorem dX0_bestCandidate_16 : decode cX0_bestCandidate 16 = .ok (.iload_n 2, 1) := by decide +kernel
theorem dX0_bestCandidate_17 : decode cX0_bestCandidate 17 = .ok (.baload, 1) := by decide +kernel
theorem dX0_bestCandidate_18 : decode cX0_bestCandidate 18 = .ok (.ifCond .ge 18, 3) := by decide +kernel
theorem dX0_bestCandidate_21 : decode cX0_bestCandidate 21 = .ok (.iload_n 1, 1) := by decide +kernel
theorem dX0_bestCandidate_22 : decode cX0_bestCandidate 22 = .ok (.ifCond .lt 12, 3) := by decide +kernel
theorem dX0_bestCandidate_25 : decode cX0_bestCandidate 25 = .ok (.aload_n 0, 1) := by decide +kernel
theorem dX0_bestCandidate_26 : decode cX0_bestCandidate 26 = .ok (.iload_n 2, 1) := by decide +kernel
theorem dX0_bestCandidate_27 : decode cX0_bestCandidate 27 = .ok (.iload_n 1, 1) := by decide +kernel
theorem dX0_bestCandidate_28 : decode cX0_bestCandidate 28 = .ok (.invokevirtual 73, 3) := by decide +kernel
theorem dX0_bestCandidate_31 : decode cX0_bestCandidate 31 = .ok (.ifCond .eq 5, 3) := by decide +kernel
theorem dX0_bestCandidate_34 : decode cX0_bestCandidate 34 = .ok (.iload_n 2, 1) := by decide +kernel
theorem dX0_bestCandidate_35 : decode cX0_bestCandidate 35 = .ok (.istore_n 1, 1) := by decide +kernel
theorem dX0_bestCandidate_36 : decode cX0_bestCandidate 36 = .ok (.iinc 2 1, 3) := by decide +kernel
theorem dX0_bestCandidate_39 : decode cX0_bestCandidate 39 = .ok (.goto (-35), 3) := by decide +kernel
theorem dX0_bestCandidate_42 : decode cX0_bestCandidate 42 = .ok (.iload_n 1, 1) := by decide +kernel
theorem dX0_bestCandidate_43 : decode cX0_bestCandidate 43 = .ok (.ireturn, 1) := by decide +kernel
abbrev cX0_goesBefore : ByteArray := prog_1_method_12_code
def yX0_goesBefore : MethodName := ⟨RX0, "goesBefore", "(II)Z"⟩
theorem dX0_goesBefore_0 : decode cX0_goesBefore 0 = .ok (.aload_n 0, 1) := by decide +kernel
theorem dX0_goesBefore_1 : decode cX0_goesBefore 1 = .ok (.getfield 19, 3) := by decide +kernel
theorem dX0_goesBefore_4 : decode cX0_goesBefore 4 = .ok (.iload_n 1, 1) := by decide +kernel
theorem dX0_goesBefore_5 : decode cX0_goesBefore 5 = .ok (.saload, 1) := by decide +kernel
theorem dX0_goesBefore_6 : decode cX0_goesBefore 6 = .ok (.aload_n 0, 1) := by decide +kernel
theorem dX0_goesBefore_7 : decode cX0_goesBefore 7 = .ok (.getfield 19, 3) := by decide +kernel
theorem dX0_goesBefore_10 : decode cX0_goesBefore 10 = .ok (.iload_n 2, 1) := by decide +kernel
theorem dX0_goesBefore_11 : decode cX0_goesBefore 11 = .ok (.saload, 1) := by decide +kernel
theorem dX0_goesBefore_12 : decode cX0_goesBefore 12 = .ok (.if_icmp .eq 24, 3) := by decide +kernel
theorem dX0_goesBefore_15 : decode cX0_goesBefore 15 = .ok (.aload_n 0, 1) := by decide +kernel
theorem dX0_goesBefore_16 : decode cX0_goesBefore 16 = .ok (.getfield 19, 3) := by decide +kernel
theorem dX0_goesBefore_19 : decode cX0_goesBefore 19 = .ok (.iload_n 1, 1) := by decide +kernel
theorem dX0_goesBefore_20 : decode cX0_goesBefore 20 = .ok (.saload, 1) := by decide +kernel
theorem dX0_goesBefore_21 : decode cX0_goesBefore 21 = .ok (.aload_n 0, 1) := by decide +kernel
theorem dX0_goesBefore_22 : decode cX0_goesBefore 22 = .ok (.getfield 19, 3) := by decide +kernel
theorem dX0_goesBefore_25 : decode cX0_goesBefore 25 = .ok (.iload_n 2, 1) := by decide +kernel
theorem dX0_goesBefore_26 : decode cX0_goesBefore 26 = .ok (.saload, 1) := by decide +kernel
theorem dX0_goesBefore_27 : decode cX0_goesBefore 27 = .ok (.if_icmp .ge 7, 3) := by decide +kernel
theorem dX0_goesBefore_30 : decode cX0_goesBefore 30 = .ok (.iconst 1, 1) := by decide +kernel
theorem dX0_goesBefore_31 : decode cX0_goesBefore 31 = .ok (.goto 4, 3) := by decide +kernel
theorem dX0_goesBefore_34 : decode cX0_goesBefore 34 = .ok (.iconst 0, 1) := by decide +kernel
theorem dX0_goesBefore_35 : decode cX0_goesBefore 35 = .ok (.ireturn, 1) := by decide +kernel
theorem dX0_goesBefore_36 : decode cX0_goesBefore 36 = .ok (.iconst 0, 1) := by decide +kernel
theorem dX0_goesBefore_37 : decode cX0_goesBefore 37 = .ok (.istore_n 3, 1) := by decide +kernel
theorem dX0_goesBefore_38 : decode cX0_goesBefore 38 = .ok (.iload_n 3, 1) := by decide +kernel
theorem dX0_goesBefore_39 : decode cX0_goesBefore 39 = .ok (.bipush 6, 2) := by decide +kernel
theorem dX0_goesBefore_41 : decode cX0_goesBefore 41 = .ok (.if_icmp .ge 65, 3) := by decide +kernel
theorem dX0_goesBefore_44 : decode cX0_goesBefore 44 = .ok (.aload_n 0, 1) := by decide +kernel
theorem dX0_goesBefore_45 : decode cX0_goesBefore 45 = .ok (.getfield 13, 3) := by decide +kernel
theorem dX0_goesBefore_48 : decode cX0_goesBefore 48 = .ok (.iload_n 1, 1) := by decide +kernel
theorem dX0_goesBefore_49 : decode cX0_goesBefore 49 = .ok (.bipush 6, 2) := by decide +kernel
theorem dX0_goesBefore_51 : decode cX0_goesBefore 51 = .ok (.imul, 1) := by decide +kernel
theorem dX0_goesBefore_52 : decode cX0_goesBefore 52 = .ok (.iload_n 3, 1) := by decide +kernel
theorem dX0_goesBefore_53 : decode cX0_goesBefore 53 = .ok (.iadd, 1) := by decide +kernel
theorem dX0_goesBefore_54 : decode cX0_goesBefore 54 = .ok (.baload, 1) := by decide +kernel
theorem dX0_goesBefore_55 : decode cX0_goesBefore 55 = .ok (.aload_n 0, 1) := by decide +kernel
theorem dX0_goesBefore_56 : decode cX0_goesBefore 56 = .ok (.getfield 13, 3) := by decide +kernel
theorem dX0_goesBefore_59 : decode cX0_goesBefore 59 = .ok (.iload_n 2, 1) := by decide +kernel
theorem dX0_goesBefore_60 : decode cX0_goesBefore 60 = .ok (.bipush 6, 2) := by decide +kernel
theorem dX0_goesBefore_62 : decode cX0_goesBefore 62 = .ok (.imul, 1) := by decide +kernel
theorem dX0_goesBefore_63 : decode cX0_goesBefore 63 = .ok (.iload_n 3, 1) := by decide +kernel
theorem dX0_goesBefore_64 : decode cX0_goesBefore 64 = .ok (.iadd, 1) := by decide +kernel
theorem dX0_goesBefore_65 : decode cX0_goesBefore 65 = .ok (.baload, 1) := by decide +kernel
theorem dX0_goesBefore_66 : decode cX0_goesBefore 66 = .ok (.if_icmp .eq 34, 3) := by decide +kernel
theorem dX0_goesBefore_69 : decode cX0_goesBefore 69 = .ok (.aload_n 0, 1) := by decide +kernel
theorem dX0_goesBefore_70 : decode cX0_goesBefore 70 = .ok (.getfield 13, 3) := by decide +kernel
theorem dX0_goesBefore_73 : decode cX0_goesBefore 73 = .ok (.iload_n 1, 1) := by decide +kernel
theorem dX0_goesBefore_74 : decode cX0_goesBefore 74 = .ok (.bipush 6, 2) := by decide +kernel
theorem dX0_goesBefore_76 : decode cX0_goesBefore 76 = .ok (.imul, 1) := by decide +kernel
theorem dX0_goesBefore_77 : decode cX0_goesBefore 77 = .ok (.iload_n 3, 1) := by decide +kernel
theorem dX0_goesBefore_78 : decode cX0_goesBefore 78 = .ok (.iadd, 1) := by decide +kernel
theorem dX0_goesBefore_79 : decode cX0_goesBefore 79 = .ok (.baload, 1) := by decide +kernel
theorem dX0_goesBefore_80 : decode cX0_goesBefore 80 = .ok (.aload_n 0, 1) := by decide +kernel
theorem dX0_goesBefore_81 : decode cX0_goesBefore 81 = .ok (.getfield 13, 3) := by decide +kernel
theorem dX0_goesBefore_84 : decode cX0_goesBefore 84 = .ok (.iload_n 2, 1) := by decide +kernel
theorem dX0_goesBefore_85 : decode cX0_goesBefore 85 = .ok (.bipush 6, 2) := by decide +kernel
theorem dX0_goesBefore_87 : decode cX0_goesBefore 87 = .ok (.imul, 1) := by decide +kernel
theorem dX0_goesBefore_88 : decode cX0_goesBefore 88 = .ok (.iload_n 3, 1) := by decide +kernel
theorem dX0_goesBefore_89 : decode cX0_goesBefore 89 = .ok (.iadd, 1) := by decide +kernel
theorem dX0_goesBefore_90 : decode cX0_goesBefore 90 = .ok (.baload, 1) := by decide +kernel
theorem dX0_goesBefore_91 : decode cX0_goesBefore 91 = .ok (.if_icmp .ge 7, 3) := by decide +kernel
theorem dX0_goesBefore_94 : decode cX0_goesBefore 94 = .ok (.iconst 1, 1) := by decide +kernel
theorem dX0_goesBefore_95 : decode cX0_goesBefore 95 = .ok (.goto 4, 3) := by decide +kernel
theorem dX0_goesBefore_98 : decode cX0_goesBefore 98 = .ok (.iconst 0, 1) := by decide +kernel
theorem dX0_goesBefore_99 : decode cX0_goesBefore 99 = .ok (.ireturn, 1) := by decide +kernel
theorem dX0_goesBefore_100 : decode cX0_goesBefore 100 = .ok (.iinc 3 1, 3) := by decide +kernel
theorem dX0_goesBefore_103 : decode cX0_goesBefore 103 = .ok (.goto (-65), 3) := by decide +kernel
theorem dX0_goesBefore_106 : decode cX0_goesBefore 106 = .ok (.iconst 0, 1) := by decide +kernel
theorem dX0_goesBefore_107 : decode cX0_goesBefore 107 = .ok (.ireturn, 1) := by decide +kernel
abbrev cX0_length : ByteArray := prog_1_method_18_code
def yX0_length : MethodName := ⟨RX0, "length", "(III)I"⟩
theorem dX0_length_0 : decode cX0_length 0 = .ok (.aload_n 0, 1) := by decide +kernel
theorem dX0_length_1 : decode cX0_length 1 = .ok (.iload_n 1, 1) := by decide +kernel
theorem dX0_length_2 : decode cX0_length 2 = .ok (.iload_n 2, 1) := by decide +kernel
theorem dX0_length_3 : decode cX0_length 3 = .ok (.iload_n 3, 1) := by decide +kernel
theorem dX0_length_4 : decode cX0_length 4 = .ok (.invokevirtual 93, 3) := by decide +kernel
theorem dX0_length_7 : decode cX0_length 7 = .ok (.istore 4, 2) := by decide +kernel
theorem dX0_length_9 : decode cX0_length 9 = .ok (.iload 4, 2) := by decide +kernel
theorem dX0_length_11 : decode cX0_length 11 = .ok (.ifCond .ge 7, 3) := by decide +kernel
theorem dX0_length_14 : decode cX0_length 14 = .ok (.iconst (-1), 1) := by decide +kernel
theorem dX0_length_15 : decode cX0_length 15 = .ok (.goto 10, 3) := by decide +kernel
theorem dX0_length_18 : decode cX0_length 18 = .ok (.aload_n 0, 1) := by decide +kernel
theorem dX0_length_19 : decode cX0_length 19 = .ok (.getfield 19, 3) := by decide +kernel
theorem dX0_length_22 : decode cX0_length 22 = .ok (.iload 4, 2) := by decide +kernel
theorem dX0_length_24 : decode cX0_length 24 = .ok (.saload, 1) := by decide +kernel
theorem dX0_length_25 : decode cX0_length 25 = .ok (.ireturn, 1) := by decide +kernel
abbrev cX0_wayAt : ByteArray := prog_1_method_15_code
def yX0_wayAt : MethodName := ⟨RX0, "wayAt", "(III)I"⟩
theorem dX0_wayAt_0 : decode cX0_wayAt 0 = .ok (.aload_n 0, 1) := by decide +kernel
theorem dX0_wayAt_1 : decode cX0_wayAt 1 = .ok (.iload_n 1, 1) := by decide +kernel
theorem dX0_wayAt_2 : decode cX0_wayAt 2 = .ok (.iload_n 2, 1) := by decide +kernel
theorem dX0_wayAt_3 : decode cX0_wayAt 3 = .ok (.invokevirtual 90, 3) := by decide +kernel
theorem dX0_wayAt_6 : decode cX0_wayAt 6 = .ok (.ifCond .eq 24, 3) := by decide +kernel
theorem dX0_wayAt_9 : decode cX0_wayAt 9 = .ok (.iload_n 3, 1) := by decide +kernel
theorem dX0_wayAt_10 : decode cX0_wayAt 10 = .ok (.ifCond .lt 20, 3) := by decide +kernel
theorem dX0_wayAt_13 : decode cX0_wayAt 13 = .ok (.iload_n 3, 1) := by decide +kernel
theorem dX0_wayAt_14 : decode cX0_wayAt 14 = .ok (.aload_n 0, 1) := by decide +kernel
theorem dX0_wayAt_15 : decode cX0_wayAt 15 = .ok (.getfield 79, 3) := by decide +kernel
theorem dX0_wayAt_18 : decode cX0_wayAt 18 = .ok (.if_icmp .ge 12, 3) := by decide +kernel
theorem dX0_wayAt_21 : decode cX0_wayAt 21 = .ok (.aload_n 0, 1) := by decide +kernel
theorem dX0_wayAt_22 : decode cX0_wayAt 22 = .ok (.getfield 32, 3) := by decide +kernel
theorem dX0_wayAt_25 : decode cX0_wayAt 25 = .ok (.iload_n 3, 1) := by decide +kernel
theorem dX0_wayAt_26 : decode cX0_wayAt 26 = .ok (.baload, 1) := by decide +kernel
theorem dX0_wayAt_27 : decode cX0_wayAt 27 = .ok (.goto 4, 3) := by decide +kernel
end
section
set_option maxRecDepth 100000
theorem dX0_wayAt_30 : decode cX0_wayAt 30 = .ok (.iconst (-1), 1) := by decide +kernel
theorem dX0_wayAt_31 : decode cX0_wayAt 31 = .ok (.ireturn, 1) := by decide +kernel
abbrev cX0_place : ByteArray := prog_1_method_19_code
def yX0_place : MethodName := ⟨RX0, "place", "(IIII)I"⟩
theorem dX0_place_0 : decode cX0_place 0 = .ok (.aload_n 0, 1) := by decide +kernel
theorem dX0_place_1 : decode cX0_place 1 = .ok (.iload_n 1, 1) := by decide +kernel
theorem dX0_place_2 : decode cX0_place 2 = .ok (.iload_n 2, 1) := by decide +kernel
theorem dX0_place_3 : decode cX0_place 3 = .ok (.iload_n 3, 1) := by decide +kernel
theorem dX0_place_4 : decode cX0_place 4 = .ok (.invokevirtual 93, 3) := by decide +kernel
theorem dX0_place_7 : decode cX0_place 7 = .ok (.istore 5, 2) := by decide +kernel
theorem dX0_place_9 : decode cX0_place 9 = .ok (.iload 5, 2) := by decide +kernel
theorem dX0_place_11 : decode cX0_place 11 = .ok (.ifCond .lt 20, 3) := by decide +kernel
theorem dX0_place_14 : decode cX0_place 14 = .ok (.iload 4, 2) := by decide +kernel
theorem dX0_place_16 : decode cX0_place 16 = .ok (.ifCond .lt 15, 3) := by decide +kernel
theorem dX0_place_19 : decode cX0_place 19 = .ok (.iload 4, 2) := by decide +kernel
theorem dX0_place_21 : decode cX0_place 21 = .ok (.aload_n 0, 1) := by decide +kernel
theorem dX0_place_22 : decode cX0_place 22 = .ok (.getfield 16, 3) := by decide +kernel
theorem dX0_place_25 : decode cX0_place 25 = .ok (.iload 5, 2) := by decide +kernel
theorem dX0_place_27 : decode cX0_place 27 = .ok (.baload, 1) := by decide +kernel
theorem dX0_place_28 : decode cX0_place 28 = .ok (.if_icmp .lt 7, 3) := by decide +kernel
theorem dX0_place_31 : decode cX0_place 31 = .ok (.iconst (-1), 1) := by decide +kernel
theorem dX0_place_32 : decode cX0_place 32 = .ok (.goto 16, 3) := by decide +kernel
theorem dX0_place_35 : decode cX0_place 35 = .ok (.aload_n 0, 1) := by decide +kernel
theorem dX0_place_36 : decode cX0_place 36 = .ok (.getfield 13, 3) := by decide +kernel
theorem dX0_place_39 : decode cX0_place 39 = .ok (.iload 5, 2) := by decide +kernel
theorem dX0_place_41 : decode cX0_place 41 = .ok (.bipush 6, 2) := by decide +kernel
theorem dX0_place_43 : decode cX0_place 43 = .ok (.imul, 1) := by decide +kernel
theorem dX0_place_44 : decode cX0_place 44 = .ok (.iload 4, 2) := by decide +kernel
theorem dX0_place_46 : decode cX0_place 46 = .ok (.iadd, 1) := by decide +kernel
theorem dX0_place_47 : decode cX0_place 47 = .ok (.baload, 1) := by decide +kernel
theorem dX0_place_48 : decode cX0_place 48 = .ok (.ireturn, 1) := by decide +kernel
abbrev cX0_size : ByteArray := prog_1_method_20_code
def yX0_size : MethodName := ⟨RX0, "size", "(III)I"⟩
theorem dX0_size_0 : decode cX0_size 0 = .ok (.aload_n 0, 1) := by decide +kernel
theorem dX0_size_1 : decode cX0_size 1 = .ok (.iload_n 1, 1) := by decide +kernel
theorem dX0_size_2 : decode cX0_size 2 = .ok (.iload_n 2, 1) := by decide +kernel
theorem dX0_size_3 : decode cX0_size 3 = .ok (.iload_n 3, 1) := by decide +kernel
theorem dX0_size_4 : decode cX0_size 4 = .ok (.invokevirtual 93, 3) := by decide +kernel
theorem dX0_size_7 : decode cX0_size 7 = .ok (.istore 4, 2) := by decide +kernel
theorem dX0_size_9 : decode cX0_size 9 = .ok (.iload 4, 2) := by decide +kernel
theorem dX0_size_11 : decode cX0_size 11 = .ok (.ifCond .ge 7, 3) := by decide +kernel
theorem dX0_size_14 : decode cX0_size 14 = .ok (.iconst (-1), 1) := by decide +kernel
theorem dX0_size_15 : decode cX0_size 15 = .ok (.goto 10, 3) := by decide +kernel
theorem dX0_size_18 : decode cX0_size 18 = .ok (.aload_n 0, 1) := by decide +kernel
theorem dX0_size_19 : decode cX0_size 19 = .ok (.getfield 16, 3) := by decide +kernel
theorem dX0_size_22 : decode cX0_size 22 = .ok (.iload 4, 2) := by decide +kernel
theorem dX0_size_24 : decode cX0_size 24 = .ok (.baload, 1) := by decide +kernel
theorem dX0_size_25 : decode cX0_size 25 = .ok (.ireturn, 1) := by decide +kernel
abbrev cX0_within : ByteArray := prog_1_method_21_code
def yX0_within : MethodName := ⟨RX0, "within", "(III)I"⟩
theorem dX0_within_0 : decode cX0_within 0 = .ok (.aload_n 0, 1) := by decide +kernel
theorem dX0_within_1 : decode cX0_within 1 = .ok (.iload_n 1, 1) := by decide +kernel
theorem dX0_within_2 : decode cX0_within 2 = .ok (.iload_n 2, 1) := by decide +kernel
theorem dX0_within_3 : decode cX0_within 3 = .ok (.invokevirtual 90, 3) := by decide +kernel
theorem dX0_within_6 : decode cX0_within 6 = .ok (.ifCond .ne 5, 3) := by decide +kernel
theorem dX0_within_9 : decode cX0_within 9 = .ok (.iconst 0, 1) := by decide +kernel
theorem dX0_within_10 : decode cX0_within 10 = .ok (.ireturn, 1) := by decide +kernel
theorem dX0_within_11 : decode cX0_within 11 = .ok (.iconst 0, 1) := by decide +kernel
theorem dX0_within_12 : decode cX0_within 12 = .ok (.istore 4, 2) := by decide +kernel
theorem dX0_within_14 : decode cX0_within 14 = .ok (.iload 4, 2) := by decide +kernel
theorem dX0_within_16 : decode cX0_within 16 = .ok (.aload_n 0, 1) := by decide +kernel
theorem dX0_within_17 : decode cX0_within 17 = .ok (.getfield 79, 3) := by decide +kernel
theorem dX0_within_20 : decode cX0_within 20 = .ok (.if_icmp .ge 25, 3) := by decide +kernel
theorem dX0_within_23 : decode cX0_within 23 = .ok (.aload_n 0, 1) := by decide +kernel
theorem dX0_within_24 : decode cX0_within 24 = .ok (.getfield 19, 3) := by decide +kernel
theorem dX0_within_27 : decode cX0_within 27 = .ok (.aload_n 0, 1) := by decide +kernel
theorem dX0_within_28 : decode cX0_within 28 = .ok (.getfield 32, 3) := by decide +kernel
theorem dX0_within_31 : decode cX0_within 31 = .ok (.iload 4, 2) := by decide +kernel
theorem dX0_within_33 : decode cX0_within 33 = .ok (.baload, 1) := by decide +kernel
theorem dX0_within_34 : decode cX0_within 34 = .ok (.saload, 1) := by decide +kernel
theorem dX0_within_35 : decode cX0_within 35 = .ok (.iload_n 3, 1) := by decide +kernel
theorem dX0_within_36 : decode cX0_within 36 = .ok (.if_icmp .gt 9, 3) := by decide +kernel
theorem dX0_within_39 : decode cX0_within 39 = .ok (.iinc 4 1, 3) := by decide +kernel
theorem dX0_within_42 : decode cX0_within 42 = .ok (.goto (-28), 3) := by decide +kernel
theorem dX0_within_45 : decode cX0_within 45 = .ok (.iload 4, 2) := by decide +kernel
theorem dX0_within_47 : decode cX0_within 47 = .ok (.ireturn, 1) := by decide +kernel
abbrev cX0_shortest : ByteArray := prog_1_method_22_code
def yX0_shortest : MethodName := ⟨RX0, "shortest", "(II)I"⟩
theorem dX0_shortest_0 : decode cX0_shortest 0 = .ok (.aload_n 0, 1) := by decide +kernel
theorem dX0_shortest_1 : decode cX0_shortest 1 = .ok (.iload_n 1, 1) := by decide +kernel
theorem dX0_shortest_2 : decode cX0_shortest 2 = .ok (.iload_n 2, 1) := by decide +kernel
theorem dX0_shortest_3 : decode cX0_shortest 3 = .ok (.iconst 0, 1) := by decide +kernel
theorem dX0_shortest_4 : decode cX0_shortest 4 = .ok (.invokevirtual 97, 3) := by decide +kernel
theorem dX0_shortest_7 : decode cX0_shortest 7 = .ok (.istore_n 3, 1) := by decide +kernel
theorem dX0_shortest_8 : decode cX0_shortest 8 = .ok (.iload_n 3, 1) := by decide +kernel
theorem dX0_shortest_9 : decode cX0_shortest 9 = .ok (.ifCond .ge 7, 3) := by decide +kernel
theorem dX0_shortest_12 : decode cX0_shortest 12 = .ok (.iconst 0, 1) := by decide +kernel
theorem dX0_shortest_13 : decode cX0_shortest 13 = .ok (.goto 10, 3) := by decide +kernel
theorem dX0_shortest_16 : decode cX0_shortest 16 = .ok (.aload_n 0, 1) := by decide +kernel
theorem dX0_shortest_17 : decode cX0_shortest 17 = .ok (.iload_n 1, 1) := by decide +kernel
theorem dX0_shortest_18 : decode cX0_shortest 18 = .ok (.iload_n 2, 1) := by decide +kernel
theorem dX0_shortest_19 : decode cX0_shortest 19 = .ok (.iload_n 3, 1) := by decide +kernel
theorem dX0_shortest_20 : decode cX0_shortest 20 = .ok (.invokevirtual 100, 3) := by decide +kernel
theorem dX0_shortest_23 : decode cX0_shortest 23 = .ok (.ireturn, 1) := by decide +kernel
abbrev cX0_musts : ByteArray := prog_1_method_23_code
def yX0_musts : MethodName := ⟨RX0, "musts", "(II)I"⟩
theorem dX0_musts_0 : decode cX0_musts 0 = .ok (.aload_n 0, 1) := by decide +kernel
theorem dX0_musts_1 : decode cX0_musts 1 = .ok (.iload_n 1, 1) := by decide +kernel
theorem dX0_musts_2 : decode cX0_musts 2 = .ok (.iload_n 2, 1) := by decide +kernel
theorem dX0_musts_3 : decode cX0_musts 3 = .ok (.invokevirtual 90, 3) := by decide +kernel
theorem dX0_musts_6 : decode cX0_musts 6 = .ok (.ifCond .eq 10, 3) := by decide +kernel
theorem dX0_musts_9 : decode cX0_musts 9 = .ok (.aload_n 0, 1) := by decide +kernel
theorem dX0_musts_10 : decode cX0_musts 10 = .ok (.getfield 79, 3) := by decide +kernel
theorem dX0_musts_13 : decode cX0_musts 13 = .ok (.ifCond .ne 5, 3) := by decide +kernel
theorem dX0_musts_16 : decode cX0_musts 16 = .ok (.iconst 0, 1) := by decide +kernel
theorem dX0_musts_17 : decode cX0_musts 17 = .ok (.ireturn, 1) := by decide +kernel
theorem dX0_musts_18 : decode cX0_musts 18 = .ok (.bipush 63, 2) := by decide +kernel
theorem dX0_musts_20 : decode cX0_musts 20 = .ok (.iconst 1, 1) := by decide +kernel
theorem dX0_musts_21 : decode cX0_musts 21 = .ok (.iload_n 1, 1) := by decide +kernel
theorem dX0_musts_22 : decode cX0_musts 22 = .ok (.ishl, 1) := by decide +kernel
theorem dX0_musts_23 : decode cX0_musts 23 = .ok (.iconst 1, 1) := by decide +kernel
theorem dX0_musts_24 : decode cX0_musts 24 = .ok (.iload_n 2, 1) := by decide +kernel
theorem dX0_musts_25 : decode cX0_musts 25 = .ok (.ishl, 1) := by decide +kernel
theorem dX0_musts_26 : decode cX0_musts 26 = .ok (.ior, 1) := by decide +kernel
theorem dX0_musts_27 : decode cX0_musts 27 = .ok (.iconst (-1), 1) := by decide +kernel
theorem dX0_musts_28 : decode cX0_musts 28 = .ok (.ixor, 1) := by decide +kernel
theorem dX0_musts_29 : decode cX0_musts 29 = .ok (.iand, 1) := by decide +kernel
theorem dX0_musts_30 : decode cX0_musts 30 = .ok (.istore_n 3, 1) := by decide +kernel
theorem dX0_musts_31 : decode cX0_musts 31 = .ok (.iconst 0, 1) := by decide +kernel
theorem dX0_musts_32 : decode cX0_musts 32 = .ok (.istore 4, 2) := by decide +kernel
theorem dX0_musts_34 : decode cX0_musts 34 = .ok (.iload 4, 2) := by decide +kernel
theorem dX0_musts_36 : decode cX0_musts 36 = .ok (.aload_n 0, 1) := by decide +kernel
theorem dX0_musts_37 : decode cX0_musts 37 = .ok (.getfield 79, 3) := by decide +kernel
theorem dX0_musts_40 : decode cX0_musts 40 = .ok (.if_icmp .ge 23, 3) := by decide +kernel
theorem dX0_musts_43 : decode cX0_musts 43 = .ok (.iload_n 3, 1) := by decide +kernel
theorem dX0_musts_44 : decode cX0_musts 44 = .ok (.aload_n 0, 1) := by decide +kernel
theorem dX0_musts_45 : decode cX0_musts 45 = .ok (.aload_n 0, 1) := by decide +kernel
theorem dX0_musts_46 : decode cX0_musts 46 = .ok (.getfield 32, 3) := by decide +kernel
theorem dX0_musts_49 : decode cX0_musts 49 = .ok (.iload 4, 2) := by decide +kernel
theorem dX0_musts_51 : decode cX0_musts 51 = .ok (.baload, 1) := by decide +kernel
theorem dX0_musts_52 : decode cX0_musts 52 = .ok (.invokevirtual 103, 3) := by decide +kernel
theorem dX0_musts_55 : decode cX0_musts 55 = .ok (.iand, 1) := by decide +kernel
theorem dX0_musts_56 : decode cX0_musts 56 = .ok (.istore_n 3, 1) := by decide +kernel
theorem dX0_musts_57 : decode cX0_musts 57 = .ok (.iinc 4 1, 3) := by decide +kernel
theorem dX0_musts_60 : decode cX0_musts 60 = .ok (.goto (-26), 3) := by decide +kernel
theorem dX0_musts_63 : decode cX0_musts 63 = .ok (.iload_n 3, 1) := by decide +kernel
theorem dX0_musts_64 : decode cX0_musts 64 = .ok (.ireturn, 1) := by decide +kernel
abbrev cX0_placesOf : ByteArray := prog_1_method_16_code
def yX0_placesOf : MethodName := ⟨RX0, "placesOf", "(I)I"⟩
theorem dX0_placesOf_0 : decode cX0_placesOf 0 = .ok (.iconst 0, 1) := by decide +kernel
theorem dX0_placesOf_1 : decode cX0_placesOf 1 = .ok (.istore_n 2, 1) := by decide +kernel
theorem dX0_placesOf_2 : decode cX0_placesOf 2 = .ok (.iconst 0, 1) := by decide +kernel
theorem dX0_placesOf_3 : decode cX0_placesOf 3 = .ok (.istore_n 3, 1) := by decide +kernel
theorem dX0_placesOf_4 : decode cX0_placesOf 4 = .ok (.iload_n 3, 1) := by decide +kernel
theorem dX0_placesOf_5 : decode cX0_placesOf 5 = .ok (.aload_n 0, 1) := by decide +kernel
theorem dX0_placesOf_6 : decode cX0_placesOf 6 = .ok (.getfield 16, 3) := by decide +kernel
theorem dX0_placesOf_9 : decode cX0_placesOf 9 = .ok (.iload_n 1, 1) := by decide +kernel
theorem dX0_placesOf_10 : decode cX0_placesOf 10 = .ok (.baload, 1) := by decide +kernel
theorem dX0_placesOf_11 : decode cX0_placesOf 11 = .ok (.if_icmp .ge 25, 3) := by decide +kernel
theorem dX0_placesOf_14 : decode cX0_placesOf 14 = .ok (.iload_n 2, 1) := by decide +kernel
theorem dX0_placesOf_15 : decode cX0_placesOf 15 = .ok (.iconst 1, 1) := by decide +kernel
theorem dX0_placesOf_16 : decode cX0_placesOf 16 = .ok (.aload_n 0, 1) := by decide +kernel
theorem dX0_placesOf_17 : decode cX0_placesOf 17 = .ok (.getfield 13, 3) := by decide +kernel
theorem dX0_placesOf_20 : decode cX0_placesOf 20 = .ok (.iload_n 1, 1) := by decide +kernel
theorem dX0_placesOf_21 : decode cX0_placesOf 21 = .ok (.bipush 6, 2) := by decide +kernel
theorem dX0_placesOf_23 : decode cX0_placesOf 23 = .ok (.imul, 1) := by decide +kernel
theorem dX0_placesOf_24 : decode cX0_placesOf 24 = .ok (.iload_n 3, 1) := by decide +kernel
theorem dX0_placesOf_25 : decode cX0_placesOf 25 = .ok (.iadd, 1) := by decide +kernel
theorem dX0_placesOf_26 : decode cX0_placesOf 26 = .ok (.baload, 1) := by decide +kernel
theorem dX0_placesOf_27 : decode cX0_placesOf 27 = .ok (.ishl, 1) := by decide +kernel
theorem dX0_placesOf_28 : decode cX0_placesOf 28 = .ok (.ior, 1) := by decide +kernel
theorem dX0_placesOf_29 : decode cX0_placesOf 29 = .ok (.istore_n 2, 1) := by decide +kernel
theorem dX0_placesOf_30 : decode cX0_placesOf 30 = .ok (.iinc 3 1, 3) := by decide +kernel
theorem dX0_placesOf_33 : decode cX0_placesOf 33 = .ok (.goto (-29), 3) := by decide +kernel
theorem dX0_placesOf_36 : decode cX0_placesOf 36 = .ok (.iload_n 2, 1) := by decide +kernel
theorem dX0_placesOf_37 : decode cX0_placesOf 37 = .ok (.ireturn, 1) := by decide +kernel
abbrev cX0_firstAvoiding : ByteArray := prog_1_method_24_code
def yX0_firstAvoiding : MethodName := ⟨RX0, "firstAvoiding", "(III)I"⟩
theorem dX0_firstAvoiding_0 : decode cX0_firstAvoiding 0 = .ok (.iload_n 3, 1) := by decide +kernel
theorem dX0_firstAvoiding_1 : decode cX0_firstAvoiding 1 = .ok (.invokestatic 39, 3) := by decide +kernel
theorem dX0_firstAvoiding_4 : decode cX0_firstAvoiding 4 = .ok (.ifCond .eq 22, 3) := by decide +kernel
theorem dX0_firstAvoiding_7 : decode cX0_firstAvoiding 7 = .ok (.iload_n 3, 1) := by decide +kernel
theorem dX0_firstAvoiding_8 : decode cX0_firstAvoiding 8 = .ok (.iload_n 1, 1) := by decide +kernel
theorem dX0_firstAvoiding_9 : decode cX0_firstAvoiding 9 = .ok (.if_icmp .eq 17, 3) := by decide +kernel
theorem dX0_firstAvoiding_12 : decode cX0_firstAvoiding 12 = .ok (.iload_n 3, 1) := by decide +kernel
theorem dX0_firstAvoiding_13 : decode cX0_firstAvoiding 13 = .ok (.iload_n 2, 1) := by decide +kernel
theorem dX0_firstAvoiding_14 : decode cX0_firstAvoiding 14 = .ok (.if_icmp .eq 12, 3) := by decide +kernel
theorem dX0_firstAvoiding_17 : decode cX0_firstAvoiding 17 = .ok (.aload_n 0, 1) := by decide +kernel
theorem dX0_firstAvoiding_18 : decode cX0_firstAvoiding 18 = .ok (.iload_n 1, 1) := by decide +kernel
theorem dX0_firstAvoiding_19 : decode cX0_firstAvoiding 19 = .ok (.iload_n 2, 1) := by decide +kernel
theorem dX0_firstAvoiding_20 : decode cX0_firstAvoiding 20 = .ok (.invokevirtual 90, 3) := by decide +kernel
theorem dX0_firstAvoiding_23 : decode cX0_firstAvoiding 23 = .ok (.ifCond .ne 5, 3) := by decide +kernel
theorem dX0_firstAvoiding_26 : decode cX0_firstAvoiding 26 = .ok (.iconst (-1), 1) := by decide +kernel
theorem dX0_firstAvoiding_27 : decode cX0_firstAvoiding 27 = .ok (.ireturn, 1) := by decide +kernel
theorem dX0_firstAvoiding_28 : decode cX0_firstAvoiding 28 = .ok (.iconst 0, 1) := by decide +kernel
theorem dX0_firstAvoiding_29 : decode cX0_firstAvoiding 29 = .ok (.istore 4, 2) := by decide +kernel
theorem dX0_firstAvoiding_31 : decode cX0_firstAvoiding 31 = .ok (.iload 4, 2) := by decide +kernel
theorem dX0_firstAvoiding_33 : decode cX0_firstAvoiding 33 = .ok (.aload_n 0, 1) := by decide +kernel
theorem dX0_firstAvoiding_34 : decode cX0_firstAvoiding 34 = .ok (.getfield 79, 3) := by decide +kernel
theorem dX0_firstAvoiding_37 : decode cX0_firstAvoiding 37 = .ok (.if_icmp .ge 34, 3) := by decide +kernel
theorem dX0_firstAvoiding_40 : decode cX0_firstAvoiding 40 = .ok (.aload_n 0, 1) := by decide +kernel
theorem dX0_firstAvoiding_41 : decode cX0_firstAvoiding 41 = .ok (.aload_n 0, 1) := by decide +kernel
theorem dX0_firstAvoiding_42 : decode cX0_firstAvoiding 42 = .ok (.getfield 32, 3) := by decide +kernel
theorem dX0_firstAvoiding_45 : decode cX0_firstAvoiding 45 = .ok (.iload 4, 2) := by decide +kernel
theorem dX0_firstAvoiding_47 : decode cX0_firstAvoiding 47 = .ok (.baload, 1) := by decide +kernel
theorem dX0_firstAvoiding_48 : decode cX0_firstAvoiding 48 = .ok (.invokevirtual 103, 3) := by decide +kernel
theorem dX0_firstAvoiding_51 : decode cX0_firstAvoiding 51 = .ok (.istore 5, 2) := by decide +kernel
theorem dX0_firstAvoiding_53 : decode cX0_firstAvoiding 53 = .ok (.iload 5, 2) := by decide +kernel
theorem dX0_firstAvoiding_55 : decode cX0_firstAvoiding 55 = .ok (.iload_n 3, 1) := by decide +kernel
theorem dX0_firstAvoiding_56 : decode cX0_firstAvoiding 56 = .ok (.invokestatic 56, 3) := by decide +kernel
theorem dX0_firstAvoiding_59 : decode cX0_firstAvoiding 59 = .ok (.ifCond .ne 6, 3) := by decide +kernel
theorem dX0_firstAvoiding_62 : decode cX0_firstAvoiding 62 = .ok (.iload 4, 2) := by decide +kernel
theorem dX0_firstAvoiding_64 : decode cX0_firstAvoiding 64 = .ok (.ireturn, 1) := by decide +kernel
theorem dX0_firstAvoiding_65 : decode cX0_firstAvoiding 65 = .ok (.iinc 4 1, 3) := by decide +kernel
theorem dX0_firstAvoiding_68 : decode cX0_firstAvoiding 68 = .ok (.goto (-37), 3) := by decide +kernel
theorem dX0_firstAvoiding_71 : decode cX0_firstAvoiding 71 = .ok (.iconst (-1), 1) := by decide +kernel
theorem dX0_firstAvoiding_72 : decode cX0_firstAvoiding 72 = .ok (.ireturn, 1) := by decide +kernel
abbrev cX0_detour : ByteArray := prog_1_method_25_code
def yX0_detour : MethodName := ⟨RX0, "detour", "(IIII)I"⟩
theorem dX0_detour_0 : decode cX0_detour 0 = .ok (.iload_n 1, 1) := by decide +kernel
theorem dX0_detour_1 : decode cX0_detour 1 = .ok (.iload_n 2, 1) := by decide +kernel
theorem dX0_detour_2 : decode cX0_detour 2 = .ok (.invokestatic 43, 3) := by decide +kernel
theorem dX0_detour_5 : decode cX0_detour 5 = .ok (.ifCond .eq 13, 3) := by decide +kernel
theorem dX0_detour_8 : decode cX0_detour 8 = .ok (.aload_n 0, 1) := by decide +kernel
theorem dX0_detour_9 : decode cX0_detour 9 = .ok (.iload_n 3, 1) := by decide +kernel
theorem dX0_detour_10 : decode cX0_detour 10 = .ok (.iload 4, 2) := by decide +kernel
theorem dX0_detour_12 : decode cX0_detour 12 = .ok (.invokevirtual 51, 3) := by decide +kernel
theorem dX0_detour_15 : decode cX0_detour 15 = .ok (.ifCond .ge 5, 3) := by decide +kernel
theorem dX0_detour_18 : decode cX0_detour 18 = .ok (.iconst 0, 1) := by decide +kernel
theorem dX0_detour_19 : decode cX0_detour 19 = .ok (.ireturn, 1) := by decide +kernel
theorem dX0_detour_20 : decode cX0_detour 20 = .ok (.aload_n 0, 1) := by decide +kernel
theorem dX0_detour_21 : decode cX0_detour 21 = .ok (.iload_n 2, 1) := by decide +kernel
theorem dX0_detour_22 : decode cX0_detour 22 = .ok (.iconst 0, 1) := by decide +kernel
theorem dX0_detour_23 : decode cX0_detour 23 = .ok (.invokevirtual 63, 3) := by decide +kernel
theorem dX0_detour_26 : decode cX0_detour 26 = .ok (.aload_n 0, 1) := by decide +kernel
theorem dX0_detour_27 : decode cX0_detour 27 = .ok (.getfield 35, 3) := by decide +kernel
theorem dX0_detour_30 : decode cX0_detour 30 = .ok (.iload_n 1, 1) := by decide +kernel
theorem dX0_detour_31 : decode cX0_detour 31 = .ok (.iaload, 1) := by decide +kernel
theorem dX0_detour_32 : decode cX0_detour 32 = .ok (.istore 5, 2) := by decide +kernel
theorem dX0_detour_34 : decode cX0_detour 34 = .ok (.aload_n 0, 1) := by decide +kernel
theorem dX0_detour_35 : decode cX0_detour 35 = .ok (.getfield 7, 3) := by decide +kernel
theorem dX0_detour_38 : decode cX0_detour 38 = .ok (.iload_n 3, 1) := by decide +kernel
theorem dX0_detour_39 : decode cX0_detour 39 = .ok (.bipush 6, 2) := by decide +kernel
theorem dX0_detour_41 : decode cX0_detour 41 = .ok (.imul, 1) := by decide +kernel
theorem dX0_detour_42 : decode cX0_detour 42 = .ok (.iload 4, 2) := by decide +kernel
theorem dX0_detour_44 : decode cX0_detour 44 = .ok (.iadd, 1) := by decide +kernel
theorem dX0_detour_45 : decode cX0_detour 45 = .ok (.baload, 1) := by decide +kernel
theorem dX0_detour_46 : decode cX0_detour 46 = .ok (.istore 6, 2) := by decide +kernel
theorem dX0_detour_48 : decode cX0_detour 48 = .ok (.aload_n 0, 1) := by decide +kernel
theorem dX0_detour_49 : decode cX0_detour 49 = .ok (.getfield 7, 3) := by decide +kernel
theorem dX0_detour_52 : decode cX0_detour 52 = .ok (.iload_n 3, 1) := by decide +kernel
theorem dX0_detour_53 : decode cX0_detour 53 = .ok (.bipush 6, 2) := by decide +kernel
theorem dX0_detour_55 : decode cX0_detour 55 = .ok (.imul, 1) := by decide +kernel
theorem dX0_detour_56 : decode cX0_detour 56 = .ok (.iload 4, 2) := by decide +kernel
theorem dX0_detour_58 : decode cX0_detour 58 = .ok (.iadd, 1) := by decide +kernel
theorem dX0_detour_59 : decode cX0_detour 59 = .ok (.iconst 0, 1) := by decide +kernel
theorem dX0_detour_60 : decode cX0_detour 60 = .ok (.bastore, 1) := by decide +kernel
theorem dX0_detour_61 : decode cX0_detour 61 = .ok (.aload_n 0, 1) := by decide +kernel
theorem dX0_detour_62 : decode cX0_detour 62 = .ok (.iload_n 2, 1) := by decide +kernel
theorem dX0_detour_63 : decode cX0_detour 63 = .ok (.iconst 0, 1) := by decide +kernel
theorem dX0_detour_64 : decode cX0_detour 64 = .ok (.invokevirtual 63, 3) := by decide +kernel
theorem dX0_detour_67 : decode cX0_detour 67 = .ok (.aload_n 0, 1) := by decide +kernel
theorem dX0_detour_68 : decode cX0_detour 68 = .ok (.getfield 7, 3) := by decide +kernel
theorem dX0_detour_71 : decode cX0_detour 71 = .ok (.iload_n 3, 1) := by decide +kernel
theorem dX0_detour_72 : decode cX0_detour 72 = .ok (.bipush 6, 2) := by decide +kernel
theorem dX0_detour_74 : decode cX0_detour 74 = .ok (.imul, 1) := by decide +kernel
theorem dX0_detour_75 : decode cX0_detour 75 = .ok (.iload 4, 2) := by decide +kernel
theorem dX0_detour_77 : decode cX0_detour 77 = .ok (.iadd, 1) := by decide +kernel
theorem dX0_detour_78 : decode cX0_detour 78 = .ok (.iload 6, 2) := by decide +kernel
theorem dX0_detour_80 : decode cX0_detour 80 = .ok (.bastore, 1) := by decide +kernel
theorem dX0_detour_81 : decode cX0_detour 81 = .ok (.iload 5, 2) := by decide +kernel
theorem dX0_detour_83 : decode cX0_detour 83 = .ok (.ldc 55, 2) := by decide +kernel
theorem dX0_detour_85 : decode cX0_detour 85 = .ok (.if_icmp .lt 5, 3) := by decide +kernel
theorem dX0_detour_88 : decode cX0_detour 88 = .ok (.iconst 0, 1) := by decide +kernel
theorem dX0_detour_89 : decode cX0_detour 89 = .ok (.ireturn, 1) := by decide +kernel
theorem dX0_detour_90 : decode cX0_detour 90 = .ok (.aload_n 0, 1) := by decide +kernel
theorem dX0_detour_91 : decode cX0_detour 91 = .ok (.getfield 35, 3) := by decide +kernel
theorem dX0_detour_94 : decode cX0_detour 94 = .ok (.iload_n 1, 1) := by decide +kernel
theorem dX0_detour_95 : decode cX0_detour 95 = .ok (.iaload, 1) := by decide +kernel
theorem dX0_detour_96 : decode cX0_detour 96 = .ok (.ldc 55, 2) := by decide +kernel
theorem dX0_detour_98 : decode cX0_detour 98 = .ok (.if_icmp .ge 15, 3) := by decide +kernel
theorem dX0_detour_101 : decode cX0_detour 101 = .ok (.aload_n 0, 1) := by decide +kernel
theorem dX0_detour_102 : decode cX0_detour 102 = .ok (.getfield 35, 3) := by decide +kernel
theorem dX0_detour_105 : decode cX0_detour 105 = .ok (.iload_n 1, 1) := by decide +kernel
theorem dX0_detour_106 : decode cX0_detour 106 = .ok (.iaload, 1) := by decide +kernel
theorem dX0_detour_107 : decode cX0_detour 107 = .ok (.iload 5, 2) := by decide +kernel
theorem dX0_detour_109 : decode cX0_detour 109 = .ok (.isub, 1) := by decide +kernel
theorem dX0_detour_110 : decode cX0_detour 110 = .ok (.goto 4, 3) := by decide +kernel
theorem dX0_detour_113 : decode cX0_detour 113 = .ok (.iconst (-1), 1) := by decide +kernel
theorem dX0_detour_114 : decode cX0_detour 114 = .ok (.ireturn, 1) := by decide +kernel
theorem q18 : (Jvm.Cond.initialized "PathRanker") ∈ lw_all := lw_g (lw_at lw_m1 1 rfl) rfl
theorem q21 : (Jvm.Cond.instantiable "PathRanker" (14 : Nat)) ∈ lw_all := lw_g (lw_at lw_m1 4 rfl) rfl
theorem q23 : (Jvm.Cond.instanceMethod ({ cls := "PathRanker", name := "<init>", desc := "()V" } : Jvm.MethodName)) ∈ lw_all := lw_g (lw_at lw_m1 6 rfl) rfl
theorem q24 : (Jvm.Cond.code ({ cls := "PathRanker", name := "<init>", desc := "()V" } : Jvm.MethodName) prog_1_method_1_code (1 : Nat) (Option.none : Option Jvm.ClassFile.FieldType)) ∈ lw_all := lw_g (lw_at lw_m1 7 rfl) rfl
theorem q25 : (Jvm.Cond.methodLink "PathRanker" (1 : Nat) ({ cls := "java/lang/Object", name := "<init>", desc := "()V" } : Jvm.MethodName)) ∈ lw_all := lw_g (lw_at lw_m1 8 rfl) rfl
theorem q28 : (Jvm.Cond.fieldLink "PathRanker" (7 : Nat) "PathRanker" "lengths" "[B") ∈ lw_all := lw_g (lw_at lw_m1 11 rfl) rfl
theorem q29 : (Jvm.Cond.fieldLink "PathRanker" (47 : Nat) "PathRanker" "known" "Z") ∈ lw_all := lw_g (lw_at lw_m1 12 rfl) rfl
theorem q30 : (Jvm.Cond.fieldLink "PathRanker" (76 : Nat) "PathRanker" "from" "I") ∈ lw_all := lw_g (lw_at lw_m1 13 rfl) rfl
theorem q31 : (Jvm.Cond.fieldLink "PathRanker" (59 : Nat) "PathRanker" "to" "I") ∈ lw_all := lw_g (lw_at lw_m1 14 rfl) rfl
theorem q32 : (Jvm.Cond.fieldLink "PathRanker" (70 : Nat) "PathRanker" "wayCount" "I") ∈ lw_all := lw_g (lw_at lw_m1 15 rfl) rfl
theorem q33 : (Jvm.Cond.fieldLink "PathRanker" (79 : Nat) "PathRanker" "rankedCount" "I") ∈ lw_all := lw_g (lw_at lw_m1 16 rfl) rfl
theorem q34 : (Jvm.Cond.fieldLink "PathRanker" (13 : Nat) "PathRanker" "places" "[B") ∈ lw_all := lw_g (lw_at lw_m1 17 rfl) rfl
theorem q35 : (Jvm.Cond.fieldLink "PathRanker" (16 : Nat) "PathRanker" "sizes" "[B") ∈ lw_all := lw_g (lw_at lw_m1 18 rfl) rfl
theorem q36 : (Jvm.Cond.fieldLink "PathRanker" (19 : Nat) "PathRanker" "wayLength" "[S") ∈ lw_all := lw_g (lw_at lw_m1 19 rfl) rfl
theorem q37 : (Jvm.Cond.fieldLink "PathRanker" (23 : Nat) "PathRanker" "partsAt" "[B") ∈ lw_all := lw_g (lw_at lw_m1 20 rfl) rfl
theorem q38 : (Jvm.Cond.fieldLink "PathRanker" (26 : Nat) "PathRanker" "barred" "[B") ∈ lw_all := lw_g (lw_at lw_m1 21 rfl) rfl
theorem q39 : (Jvm.Cond.fieldLink "PathRanker" (29 : Nat) "PathRanker" "rankOf" "[B") ∈ lw_all := lw_g (lw_at lw_m1 22 rfl) rfl
theorem q40 : (Jvm.Cond.fieldLink "PathRanker" (32 : Nat) "PathRanker" "rankedWay" "[B") ∈ lw_all := lw_g (lw_at lw_m1 23 rfl) rfl
theorem q41 : (Jvm.Cond.fieldLink "PathRanker" (35 : Nat) "PathRanker" "distance" "[I") ∈ lw_all := lw_g (lw_at lw_m1 24 rfl) rfl
theorem q42 : (Jvm.Cond.laysFinal "PathRanker" "PathRanker" "lengths" "[B") ∈ lw_all := lw_g (lw_at lw_m1 25 rfl) rfl
theorem q43 : (Jvm.Cond.soleField "PathRanker" "lengths") ∈ lw_all := lw_g (lw_at lw_m1 26 rfl) rfl
theorem q44 : (Jvm.Cond.lays "PathRanker" "PathRanker" "known" "Z") ∈ lw_all := lw_g (lw_at lw_m1 27 rfl) rfl
theorem q45 : (Jvm.Cond.soleField "PathRanker" "known") ∈ lw_all := lw_g (lw_at lw_m1 28 rfl) rfl
theorem q46 : (Jvm.Cond.lays "PathRanker" "PathRanker" "from" "I") ∈ lw_all := lw_g (lw_at lw_m1 29 rfl) rfl
theorem q47 : (Jvm.Cond.soleField "PathRanker" "from") ∈ lw_all := lw_g (lw_at lw_m1 30 rfl) rfl
theorem q48 : (Jvm.Cond.lays "PathRanker" "PathRanker" "to" "I") ∈ lw_all := lw_g (lw_at lw_m1 31 rfl) rfl
theorem q49 : (Jvm.Cond.soleField "PathRanker" "to") ∈ lw_all := lw_g (lw_at lw_m1 32 rfl) rfl
theorem q50 : (Jvm.Cond.lays "PathRanker" "PathRanker" "wayCount" "I") ∈ lw_all := lw_g (lw_at lw_m1 33 rfl) rfl
theorem q51 : (Jvm.Cond.soleField "PathRanker" "wayCount") ∈ lw_all := lw_g (lw_at lw_m1 34 rfl) rfl
theorem q52 : (Jvm.Cond.lays "PathRanker" "PathRanker" "rankedCount" "I") ∈ lw_all := lw_g (lw_at lw_m1 35 rfl) rfl
theorem q53 : (Jvm.Cond.soleField "PathRanker" "rankedCount") ∈ lw_all := lw_g (lw_at lw_m1 36 rfl) rfl
theorem q54 : (Jvm.Cond.laysFinal "PathRanker" "PathRanker" "places" "[B") ∈ lw_all := lw_g (lw_at lw_m1 37 rfl) rfl
theorem q55 : (Jvm.Cond.soleField "PathRanker" "places") ∈ lw_all := lw_g (lw_at lw_m1 38 rfl) rfl
theorem q56 : (Jvm.Cond.laysFinal "PathRanker" "PathRanker" "sizes" "[B") ∈ lw_all := lw_g (lw_at lw_m1 39 rfl) rfl
theorem q57 : (Jvm.Cond.soleField "PathRanker" "sizes") ∈ lw_all := lw_g (lw_at lw_m1 40 rfl) rfl
theorem q58 : (Jvm.Cond.laysFinal "PathRanker" "PathRanker" "wayLength" "[S") ∈ lw_all := lw_g (lw_at lw_m1 41 rfl) rfl
theorem q59 : (Jvm.Cond.soleField "PathRanker" "wayLength") ∈ lw_all := lw_g (lw_at lw_m1 42 rfl) rfl
theorem q60 : (Jvm.Cond.laysFinal "PathRanker" "PathRanker" "partsAt" "[B") ∈ lw_all := lw_g (lw_at lw_m1 43 rfl) rfl
theorem q61 : (Jvm.Cond.soleField "PathRanker" "partsAt") ∈ lw_all := lw_g (lw_at lw_m1 44 rfl) rfl
theorem q62 : (Jvm.Cond.laysFinal "PathRanker" "PathRanker" "barred" "[B") ∈ lw_all := lw_g (lw_at lw_m1 45 rfl) rfl
theorem q63 : (Jvm.Cond.soleField "PathRanker" "barred") ∈ lw_all := lw_g (lw_at lw_m1 46 rfl) rfl
theorem q64 : (Jvm.Cond.laysFinal "PathRanker" "PathRanker" "rankOf" "[B") ∈ lw_all := lw_g (lw_at lw_m1 47 rfl) rfl
theorem q65 : (Jvm.Cond.soleField "PathRanker" "rankOf") ∈ lw_all := lw_g (lw_at lw_m1 48 rfl) rfl
theorem q66 : (Jvm.Cond.laysFinal "PathRanker" "PathRanker" "rankedWay" "[B") ∈ lw_all := lw_g (lw_at lw_m1 49 rfl) rfl
theorem q67 : (Jvm.Cond.soleField "PathRanker" "rankedWay") ∈ lw_all := lw_g (lw_at lw_m1 50 rfl) rfl
theorem q68 : (Jvm.Cond.laysFinal "PathRanker" "PathRanker" "distance" "[I") ∈ lw_all := lw_g (lw_at lw_m1 51 rfl) rfl
theorem q69 : (Jvm.Cond.soleField "PathRanker" "distance") ∈ lw_all := lw_g (lw_at lw_m1 52 rfl) rfl
theorem q70 : (Jvm.Cond.superclass "PathRanker" "java/lang/Object") ∈ lw_all := lw_g (lw_at lw_m1 53 rfl) rfl
theorem q75 : (Jvm.Cond.instanceMethod ({ cls := "PathRanker", name := "build", desc := "(III)Z" } : Jvm.MethodName)) ∈ lw_all := lw_g (lw_at lw_m1 58 rfl) rfl
theorem q76 : (Jvm.Cond.selects "PathRanker" ({ cls := "PathRanker", name := "build", desc := "(III)Z" } : Jvm.MethodName) ({ cls := "PathRanker", name := "build", desc := "(III)Z" } : Jvm.MethodName)) ∈ lw_all := lw_g (lw_at lw_m1 59 rfl) rfl
theorem q77 : (Jvm.Cond.code ({ cls := "PathRanker", name := "build", desc := "(III)Z" } : Jvm.MethodName) prog_1_method_5_code (4 : Nat) (Option.some Jvm.ClassFile.FieldType.boolean)) ∈ lw_all := lw_g (lw_at lw_m1 60 rfl) rfl
theorem q78 : (Jvm.Cond.methodLink "PathRanker" (43 : Nat) ({ cls := "PathRanker", name := "isPair", desc := "(II)Z" } : Jvm.MethodName)) ∈ lw_all := lw_g (lw_at lw_m1 61 rfl) rfl
theorem q79 : (Jvm.Cond.static ({ cls := "PathRanker", name := "isPair", desc := "(II)Z" } : Jvm.MethodName)) ∈ lw_all := lw_g (lw_at lw_m1 62 rfl) rfl
theorem q80 : (Jvm.Cond.code ({ cls := "PathRanker", name := "isPair", desc := "(II)Z" } : Jvm.MethodName) prog_1_method_3_code (2 : Nat) (Option.some Jvm.ClassFile.FieldType.boolean)) ∈ lw_all := lw_g (lw_at lw_m1 63 rfl) rfl
theorem q81 : (Jvm.Cond.methodLink "PathRanker" (39 : Nat) ({ cls := "PathRanker", name := "isPlace", desc := "(I)Z" } : Jvm.MethodName)) ∈ lw_all := lw_g (lw_at lw_m1 64 rfl) rfl
theorem q82 : (Jvm.Cond.static ({ cls := "PathRanker", name := "isPlace", desc := "(I)Z" } : Jvm.MethodName)) ∈ lw_all := lw_g (lw_at lw_m1 65 rfl) rfl
theorem q83 : (Jvm.Cond.code ({ cls := "PathRanker", name := "isPlace", desc := "(I)Z" } : Jvm.MethodName) prog_1_method_2_code (1 : Nat) (Option.some Jvm.ClassFile.FieldType.boolean)) ∈ lw_all := lw_g (lw_at lw_m1 66 rfl) rfl
theorem q85 : (Jvm.Cond.instanceMethod ({ cls := "PathRanker", name := "close", desc := "(II)Z" } : Jvm.MethodName)) ∈ lw_all := lw_g (lw_at lw_m1 68 rfl) rfl
theorem q86 : (Jvm.Cond.selects "PathRanker" ({ cls := "PathRanker", name := "close", desc := "(II)Z" } : Jvm.MethodName) ({ cls := "PathRanker", name := "close", desc := "(II)Z" } : Jvm.MethodName)) ∈ lw_all := lw_g (lw_at lw_m1 69 rfl) rfl
theorem q87 : (Jvm.Cond.code ({ cls := "PathRanker", name := "close", desc := "(II)Z" } : Jvm.MethodName) prog_1_method_6_code (3 : Nat) (Option.some Jvm.ClassFile.FieldType.boolean)) ∈ lw_all := lw_g (lw_at lw_m1 70 rfl) rfl
theorem q88 : (Jvm.Cond.methodLink "PathRanker" (51 : Nat) ({ cls := "PathRanker", name := "road", desc := "(II)I" } : Jvm.MethodName)) ∈ lw_all := lw_g (lw_at lw_m1 71 rfl) rfl
theorem q89 : (Jvm.Cond.instanceMethod ({ cls := "PathRanker", name := "road", desc := "(II)I" } : Jvm.MethodName)) ∈ lw_all := lw_g (lw_at lw_m1 72 rfl) rfl
theorem q90 : (Jvm.Cond.selects "PathRanker" ({ cls := "PathRanker", name := "road", desc := "(II)I" } : Jvm.MethodName) ({ cls := "PathRanker", name := "road", desc := "(II)I" } : Jvm.MethodName)) ∈ lw_all := lw_g (lw_at lw_m1 73 rfl) rfl
theorem q91 : (Jvm.Cond.code ({ cls := "PathRanker", name := "road", desc := "(II)I" } : Jvm.MethodName) prog_1_method_7_code (3 : Nat) (Option.some Jvm.ClassFile.FieldType.int)) ∈ lw_all := lw_g (lw_at lw_m1 74 rfl) rfl
theorem q94 : (Jvm.Cond.instanceMethod ({ cls := "PathRanker", name := "roads", desc := "()I" } : Jvm.MethodName)) ∈ lw_all := lw_g (lw_at lw_m1 77 rfl) rfl
theorem q95 : (Jvm.Cond.selects "PathRanker" ({ cls := "PathRanker", name := "roads", desc := "()I" } : Jvm.MethodName) ({ cls := "PathRanker", name := "roads", desc := "()I" } : Jvm.MethodName)) ∈ lw_all := lw_g (lw_at lw_m1 78 rfl) rfl
theorem q96 : (Jvm.Cond.code ({ cls := "PathRanker", name := "roads", desc := "()I" } : Jvm.MethodName) prog_1_method_8_code (3 : Nat) (Option.some Jvm.ClassFile.FieldType.int)) ∈ lw_all := lw_g (lw_at lw_m1 79 rfl) rfl
theorem q98 : (Jvm.Cond.instanceMethod ({ cls := "PathRanker", name := "ways", desc := "(II)I" } : Jvm.MethodName)) ∈ lw_all := lw_g (lw_at lw_m1 81 rfl) rfl
theorem q99 : (Jvm.Cond.selects "PathRanker" ({ cls := "PathRanker", name := "ways", desc := "(II)I" } : Jvm.MethodName) ({ cls := "PathRanker", name := "ways", desc := "(II)I" } : Jvm.MethodName)) ∈ lw_all := lw_g (lw_at lw_m1 82 rfl) rfl
theorem q100 : (Jvm.Cond.code ({ cls := "PathRanker", name := "ways", desc := "(II)I" } : Jvm.MethodName) prog_1_method_17_code (3 : Nat) (Option.some Jvm.ClassFile.FieldType.int)) ∈ lw_all := lw_g (lw_at lw_m1 83 rfl) rfl
theorem q101 : (Jvm.Cond.methodLink "PathRanker" (90 : Nat) ({ cls := "PathRanker", name := "rank", desc := "(II)Z" } : Jvm.MethodName)) ∈ lw_all := lw_g (lw_at lw_m1 84 rfl) rfl
theorem q102 : (Jvm.Cond.privateMethod ({ cls := "PathRanker", name := "rank", desc := "(II)Z" } : Jvm.MethodName)) ∈ lw_tbl := lw_at lw_m1 85 rfl
theorem q103 : (Jvm.Cond.instanceMethod ({ cls := "PathRanker", name := "rank", desc := "(II)Z" } : Jvm.MethodName)) ∈ lw_all := lw_g (lw_at lw_m1 86 rfl) rfl
theorem q104 : (Jvm.Cond.code ({ cls := "PathRanker", name := "rank", desc := "(II)Z" } : Jvm.MethodName) prog_1_method_14_code (8 : Nat) (Option.some Jvm.ClassFile.FieldType.boolean)) ∈ lw_all := lw_g (lw_at lw_m1 87 rfl) rfl
theorem q105 : (Jvm.Cond.methodLink "PathRanker" (82 : Nat) ({ cls := "PathRanker", name := "addCandidate", desc := "(III)V" } : Jvm.MethodName)) ∈ lw_all := lw_g (lw_at lw_m1 88 rfl) rfl
theorem q106 : (Jvm.Cond.privateMethod ({ cls := "PathRanker", name := "addCandidate", desc := "(III)V" } : Jvm.MethodName)) ∈ lw_tbl := lw_at lw_m1 89 rfl
theorem q107 : (Jvm.Cond.instanceMethod ({ cls := "PathRanker", name := "addCandidate", desc := "(III)V" } : Jvm.MethodName)) ∈ lw_all := lw_g (lw_at lw_m1 90 rfl) rfl
theorem q108 : (Jvm.Cond.code ({ cls := "PathRanker", name := "addCandidate", desc := "(III)V" } : Jvm.MethodName) prog_1_method_11_code (11 : Nat) (Option.none : Option Jvm.ClassFile.FieldType)) ∈ lw_all := lw_g (lw_at lw_m1 91 rfl) rfl
theorem q109 : (Jvm.Cond.methodLink "PathRanker" (63 : Nat) ({ cls := "PathRanker", name := "measure", desc := "(II)V" } : Jvm.MethodName)) ∈ lw_all := lw_g (lw_at lw_m1 92 rfl) rfl
theorem q110 : (Jvm.Cond.privateMethod ({ cls := "PathRanker", name := "measure", desc := "(II)V" } : Jvm.MethodName)) ∈ lw_tbl := lw_at lw_m1 93 rfl
theorem q111 : (Jvm.Cond.instanceMethod ({ cls := "PathRanker", name := "measure", desc := "(II)V" } : Jvm.MethodName)) ∈ lw_all := lw_g (lw_at lw_m1 94 rfl) rfl
theorem q112 : (Jvm.Cond.code ({ cls := "PathRanker", name := "measure", desc := "(II)V" } : Jvm.MethodName) prog_1_method_9_code (7 : Nat) (Option.none : Option Jvm.ClassFile.FieldType)) ∈ lw_all := lw_g (lw_at lw_m1 95 rfl) rfl
theorem q113 : (Jvm.Cond.constant "PathRanker" (55 : Nat) (1048576 : Int32)) ∈ lw_all := lw_g (lw_at lw_m1 96 rfl) rfl
theorem q114 : (Jvm.Cond.methodLink "PathRanker" (56 : Nat) ({ cls := "PathRanker", name := "in", desc := "(II)Z" } : Jvm.MethodName)) ∈ lw_all := lw_g (lw_at lw_m1 97 rfl) rfl
theorem q115 : (Jvm.Cond.static ({ cls := "PathRanker", name := "in", desc := "(II)Z" } : Jvm.MethodName)) ∈ lw_all := lw_g (lw_at lw_m1 98 rfl) rfl
theorem q116 : (Jvm.Cond.code ({ cls := "PathRanker", name := "in", desc := "(II)Z" } : Jvm.MethodName) prog_1_method_4_code (2 : Nat) (Option.some Jvm.ClassFile.FieldType.boolean)) ∈ lw_all := lw_g (lw_at lw_m1 99 rfl) rfl
theorem q117 : (Jvm.Cond.methodLink "PathRanker" (67 : Nat) ({ cls := "PathRanker", name := "bestNext", desc := "(II)I" } : Jvm.MethodName)) ∈ lw_all := lw_g (lw_at lw_m1 100 rfl) rfl
theorem q118 : (Jvm.Cond.privateMethod ({ cls := "PathRanker", name := "bestNext", desc := "(II)I" } : Jvm.MethodName)) ∈ lw_tbl := lw_at lw_m1 101 rfl
theorem q119 : (Jvm.Cond.instanceMethod ({ cls := "PathRanker", name := "bestNext", desc := "(II)I" } : Jvm.MethodName)) ∈ lw_all := lw_g (lw_at lw_m1 102 rfl) rfl
theorem q120 : (Jvm.Cond.code ({ cls := "PathRanker", name := "bestNext", desc := "(II)I" } : Jvm.MethodName) prog_1_method_10_code (7 : Nat) (Option.some Jvm.ClassFile.FieldType.int)) ∈ lw_all := lw_g (lw_at lw_m1 103 rfl) rfl
theorem q121 : (Jvm.Cond.methodLink "PathRanker" (86 : Nat) ({ cls := "PathRanker", name := "bestCandidate", desc := "()I" } : Jvm.MethodName)) ∈ lw_all := lw_g (lw_at lw_m1 104 rfl) rfl
theorem q122 : (Jvm.Cond.privateMethod ({ cls := "PathRanker", name := "bestCandidate", desc := "()I" } : Jvm.MethodName)) ∈ lw_tbl := lw_at lw_m1 105 rfl
theorem q123 : (Jvm.Cond.instanceMethod ({ cls := "PathRanker", name := "bestCandidate", desc := "()I" } : Jvm.MethodName)) ∈ lw_all := lw_g (lw_at lw_m1 106 rfl) rfl
theorem q124 : (Jvm.Cond.code ({ cls := "PathRanker", name := "bestCandidate", desc := "()I" } : Jvm.MethodName) prog_1_method_13_code (3 : Nat) (Option.some Jvm.ClassFile.FieldType.int)) ∈ lw_all := lw_g (lw_at lw_m1 107 rfl) rfl
theorem q125 : (Jvm.Cond.methodLink "PathRanker" (73 : Nat) ({ cls := "PathRanker", name := "goesBefore", desc := "(II)Z" } : Jvm.MethodName)) ∈ lw_all := lw_g (lw_at lw_m1 108 rfl) rfl
theorem q126 : (Jvm.Cond.privateMethod ({ cls := "PathRanker", name := "goesBefore", desc := "(II)Z" } : Jvm.MethodName)) ∈ lw_tbl := lw_at lw_m1 109 rfl
theorem q127 : (Jvm.Cond.instanceMethod ({ cls := "PathRanker", name := "goesBefore", desc := "(II)Z" } : Jvm.MethodName)) ∈ lw_all := lw_g (lw_at lw_m1 110 rfl) rfl
theorem q128 : (Jvm.Cond.code ({ cls := "PathRanker", name := "goesBefore", desc := "(II)Z" } : Jvm.MethodName) prog_1_method_12_code (4 : Nat) (Option.some Jvm.ClassFile.FieldType.boolean)) ∈ lw_all := lw_g (lw_at lw_m1 111 rfl) rfl
theorem q130 : (Jvm.Cond.instanceMethod ({ cls := "PathRanker", name := "length", desc := "(III)I" } : Jvm.MethodName)) ∈ lw_all := lw_g (lw_at lw_m1 113 rfl) rfl
theorem q131 : (Jvm.Cond.selects "PathRanker" ({ cls := "PathRanker", name := "length", desc := "(III)I" } : Jvm.MethodName) ({ cls := "PathRanker", name := "length", desc := "(III)I" } : Jvm.MethodName)) ∈ lw_all := lw_g (lw_at lw_m1 114 rfl) rfl
theorem q132 : (Jvm.Cond.code ({ cls := "PathRanker", name := "length", desc := "(III)I" } : Jvm.MethodName) prog_1_method_18_code (5 : Nat) (Option.some Jvm.ClassFile.FieldType.int)) ∈ lw_all := lw_g (lw_at lw_m1 115 rfl) rfl
theorem q133 : (Jvm.Cond.methodLink "PathRanker" (93 : Nat) ({ cls := "PathRanker", name := "wayAt", desc := "(III)I" } : Jvm.MethodName)) ∈ lw_all := lw_g (lw_at lw_m1 116 rfl) rfl
theorem q134 : (Jvm.Cond.privateMethod ({ cls := "PathRanker", name := "wayAt", desc := "(III)I" } : Jvm.MethodName)) ∈ lw_tbl := lw_at lw_m1 117 rfl
theorem q135 : (Jvm.Cond.instanceMethod ({ cls := "PathRanker", name := "wayAt", desc := "(III)I" } : Jvm.MethodName)) ∈ lw_all := lw_g (lw_at lw_m1 118 rfl) rfl
theorem q136 : (Jvm.Cond.code ({ cls := "PathRanker", name := "wayAt", desc := "(III)I" } : Jvm.MethodName) prog_1_method_15_code (4 : Nat) (Option.some Jvm.ClassFile.FieldType.int)) ∈ lw_all := lw_g (lw_at lw_m1 119 rfl) rfl
theorem q138 : (Jvm.Cond.instanceMethod ({ cls := "PathRanker", name := "place", desc := "(IIII)I" } : Jvm.MethodName)) ∈ lw_all := lw_g (lw_at lw_m1 121 rfl) rfl
theorem q139 : (Jvm.Cond.selects "PathRanker" ({ cls := "PathRanker", name := "place", desc := "(IIII)I" } : Jvm.MethodName) ({ cls := "PathRanker", name := "place", desc := "(IIII)I" } : Jvm.MethodName)) ∈ lw_all := lw_g (lw_at lw_m1 122 rfl) rfl
theorem q140 : (Jvm.Cond.code ({ cls := "PathRanker", name := "place", desc := "(IIII)I" } : Jvm.MethodName) prog_1_method_19_code (6 : Nat) (Option.some Jvm.ClassFile.FieldType.int)) ∈ lw_all := lw_g (lw_at lw_m1 123 rfl) rfl
theorem q142 : (Jvm.Cond.instanceMethod ({ cls := "PathRanker", name := "size", desc := "(III)I" } : Jvm.MethodName)) ∈ lw_all := lw_g (lw_at lw_m1 125 rfl) rfl
theorem q143 : (Jvm.Cond.selects "PathRanker" ({ cls := "PathRanker", name := "size", desc := "(III)I" } : Jvm.MethodName) ({ cls := "PathRanker", name := "size", desc := "(III)I" } : Jvm.MethodName)) ∈ lw_all := lw_g (lw_at lw_m1 126 rfl) rfl
theorem q144 : (Jvm.Cond.code ({ cls := "PathRanker", name := "size", desc := "(III)I" } : Jvm.MethodName) prog_1_method_20_code (5 : Nat) (Option.some Jvm.ClassFile.FieldType.int)) ∈ lw_all := lw_g (lw_at lw_m1 127 rfl) rfl
theorem q146 : (Jvm.Cond.instanceMethod ({ cls := "PathRanker", name := "within", desc := "(III)I" } : Jvm.MethodName)) ∈ lw_all := lw_g (lw_at lw_m1 129 rfl) rfl
theorem q147 : (Jvm.Cond.selects "PathRanker" ({ cls := "PathRanker", name := "within", desc := "(III)I" } : Jvm.MethodName) ({ cls := "PathRanker", name := "within", desc := "(III)I" } : Jvm.MethodName)) ∈ lw_all := lw_g (lw_at lw_m1 130 rfl) rfl
theorem q148 : (Jvm.Cond.code ({ cls := "PathRanker", name := "within", desc := "(III)I" } : Jvm.MethodName) prog_1_method_21_code (5 : Nat) (Option.some Jvm.ClassFile.FieldType.int)) ∈ lw_all := lw_g (lw_at lw_m1 131 rfl) rfl
theorem q150 : (Jvm.Cond.instanceMethod ({ cls := "PathRanker", name := "shortest", desc := "(II)I" } : Jvm.MethodName)) ∈ lw_all := lw_g (lw_at lw_m1 133 rfl) rfl
theorem q151 : (Jvm.Cond.selects "PathRanker" ({ cls := "PathRanker", name := "shortest", desc := "(II)I" } : Jvm.MethodName) ({ cls := "PathRanker", name := "shortest", desc := "(II)I" } : Jvm.MethodName)) ∈ lw_all := lw_g (lw_at lw_m1 134 rfl) rfl
theorem q152 : (Jvm.Cond.code ({ cls := "PathRanker", name := "shortest", desc := "(II)I" } : Jvm.MethodName) prog_1_method_22_code (4 : Nat) (Option.some Jvm.ClassFile.FieldType.int)) ∈ lw_all := lw_g (lw_at lw_m1 135 rfl) rfl
theorem q153 : (Jvm.Cond.methodLink "PathRanker" (97 : Nat) ({ cls := "PathRanker", name := "length", desc := "(III)I" } : Jvm.MethodName)) ∈ lw_all := lw_g (lw_at lw_m1 136 rfl) rfl
theorem q154 : (Jvm.Cond.methodLink "PathRanker" (100 : Nat) ({ cls := "PathRanker", name := "within", desc := "(III)I" } : Jvm.MethodName)) ∈ lw_all := lw_g (lw_at lw_m1 137 rfl) rfl
theorem q156 : (Jvm.Cond.instanceMethod ({ cls := "PathRanker", name := "musts", desc := "(II)I" } : Jvm.MethodName)) ∈ lw_all := lw_g (lw_at lw_m1 139 rfl) rfl
theorem q157 : (Jvm.Cond.selects "PathRanker" ({ cls := "PathRanker", name := "musts", desc := "(II)I" } : Jvm.MethodName) ({ cls := "PathRanker", name := "musts", desc := "(II)I" } : Jvm.MethodName)) ∈ lw_all := lw_g (lw_at lw_m1 140 rfl) rfl
theorem q158 : (Jvm.Cond.code ({ cls := "PathRanker", name := "musts", desc := "(II)I" } : Jvm.MethodName) prog_1_method_23_code (5 : Nat) (Option.some Jvm.ClassFile.FieldType.int)) ∈ lw_all := lw_g (lw_at lw_m1 141 rfl) rfl
theorem q159 : (Jvm.Cond.methodLink "PathRanker" (103 : Nat) ({ cls := "PathRanker", name := "placesOf", desc := "(I)I" } : Jvm.MethodName)) ∈ lw_all := lw_g (lw_at lw_m1 142 rfl) rfl
theorem q160 : (Jvm.Cond.privateMethod ({ cls := "PathRanker", name := "placesOf", desc := "(I)I" } : Jvm.MethodName)) ∈ lw_tbl := lw_at lw_m1 143 rfl
theorem q161 : (Jvm.Cond.instanceMethod ({ cls := "PathRanker", name := "placesOf", desc := "(I)I" } : Jvm.MethodName)) ∈ lw_all := lw_g (lw_at lw_m1 144 rfl) rfl
theorem q162 : (Jvm.Cond.code ({ cls := "PathRanker", name := "placesOf", desc := "(I)I" } : Jvm.MethodName) prog_1_method_16_code (4 : Nat) (Option.some Jvm.ClassFile.FieldType.int)) ∈ lw_all := lw_g (lw_at lw_m1 145 rfl) rfl
theorem q164 : (Jvm.Cond.instanceMethod ({ cls := "PathRanker", name := "firstAvoiding", desc := "(III)I" } : Jvm.MethodName)) ∈ lw_all := lw_g (lw_at lw_m1 147 rfl) rfl
theorem q165 : (Jvm.Cond.selects "PathRanker" ({ cls := "PathRanker", name := "firstAvoiding", desc := "(III)I" } : Jvm.MethodName) ({ cls := "PathRanker", name := "firstAvoiding", desc := "(III)I" } : Jvm.MethodName)) ∈ lw_all := lw_g (lw_at lw_m1 148 rfl) rfl
theorem q166 : (Jvm.Cond.code ({ cls := "PathRanker", name := "firstAvoiding", desc := "(III)I" } : Jvm.MethodName) prog_1_method_24_code (6 : Nat) (Option.some Jvm.ClassFile.FieldType.int)) ∈ lw_all := lw_g (lw_at lw_m1 149 rfl) rfl
theorem q168 : (Jvm.Cond.instanceMethod ({ cls := "PathRanker", name := "detour", desc := "(IIII)I" } : Jvm.MethodName)) ∈ lw_all := lw_g (lw_at lw_m1 151 rfl) rfl
theorem q169 : (Jvm.Cond.selects "PathRanker" ({ cls := "PathRanker", name := "detour", desc := "(IIII)I" } : Jvm.MethodName) ({ cls := "PathRanker", name := "detour", desc := "(IIII)I" } : Jvm.MethodName)) ∈ lw_all := lw_g (lw_at lw_m1 152 rfl) rfl
theorem q170 : (Jvm.Cond.code ({ cls := "PathRanker", name := "detour", desc := "(IIII)I" } : Jvm.MethodName) prog_1_method_25_code (7 : Nat) (Option.some Jvm.ClassFile.FieldType.int)) ∈ lw_all := lw_g (lw_at lw_m1 153 rfl) rfl
theorem in_X0 : ∀ w ∈ wsX00, w ∈ lw_all := lw_in wsX00 [42, 44, 46, 48, 50, 52, 54, 56, 58, 60, 62, 64, 66, 68] (by decide +kernel) (by decide +kernel)
end
section
set_option maxRecDepth 100000
/-! PathRankerModel -/
def RX1 : String := "PathRankerModel"
def TX1 : u_T := fun k => match k with
  | 0 => ("PathRankerModel", "lengths", "[I", false)
  | 1 => ("PathRankerModel", "count", "I", false)
  | 2 => ("PathRankerModel", "ways", "[I", false)
  | _ => ("PathRankerModel", "sums", "[I", false)
def tyX1 : Nat → FieldType := fun k => match k with
  | 0 => .array .int
  | 1 => .int
  | 2 => .array .int
  | _ => .array .int
abbrev wsX10 : List Cond := u_ws RX1 TX1 4
theorem nmX1 : ∀ a, a < 4 → ∀ b, b < 4 → a ≠ b → (TX1 a).2.1 ≠ (TX1 b).2.1 := by decide +kernel
theorem tyX1_ok : ∀ k, k < 4 → parseFieldDescriptor (TX1 k).2.2.1 = some (tyX1 k) := by decide +kernel
abbrev cX1_init : ByteArray := prog_3_method_1_code
def yX1_init : MethodName := ⟨RX1, "<init>", "()V"⟩
theorem dX1_init_0 : decode cX1_init 0 = .ok (.aload_n 0, 1) := by decide +kernel
theorem dX1_init_1 : decode cX1_init 1 = .ok (.invokespecial 1, 3) := by decide +kernel
theorem dX1_init_4 : decode cX1_init 4 = .ok (.aload_n 0, 1) := by decide +kernel
theorem dX1_init_5 : decode cX1_init 5 = .ok (.bipush 36, 2) := by decide +kernel
theorem dX1_init_7 : decode cX1_init 7 = .ok (.newarray .int, 2) := by decide +kernel
theorem dX1_init_9 : decode cX1_init 9 = .ok (.putfield 7, 3) := by decide +kernel
theorem dX1_init_12 : decode cX1_init 12 = .ok (.aload_n 0, 1) := by decide +kernel
theorem dX1_init_13 : decode cX1_init 13 = .ok (.bipush 65, 2) := by decide +kernel
theorem dX1_init_15 : decode cX1_init 15 = .ok (.newarray .int, 2) := by decide +kernel
theorem dX1_init_17 : decode cX1_init 17 = .ok (.putfield 13, 3) := by decide +kernel
theorem dX1_init_20 : decode cX1_init 20 = .ok (.aload_n 0, 1) := by decide +kernel
theorem dX1_init_21 : decode cX1_init 21 = .ok (.bipush 65, 2) := by decide +kernel
theorem dX1_init_23 : decode cX1_init 23 = .ok (.newarray .int, 2) := by decide +kernel
theorem dX1_init_25 : decode cX1_init 25 = .ok (.putfield 16, 3) := by decide +kernel
theorem dX1_init_28 : decode cX1_init 28 = .ok (.return_, 1) := by decide +kernel
abbrev cX1_build : ByteArray := prog_3_method_3_code
def yX1_build : MethodName := ⟨RX1, "build", "(III)Z"⟩
theorem dX1_build_0 : decode cX1_build 0 = .ok (.aload_n 0, 1) := by decide +kernel
theorem dX1_build_1 : decode cX1_build 1 = .ok (.iload_n 1, 1) := by decide +kernel
theorem dX1_build_2 : decode cX1_build 2 = .ok (.iload_n 2, 1) := by decide +kernel
theorem dX1_build_3 : decode cX1_build 3 = .ok (.invokevirtual 19, 3) := by decide +kernel
theorem dX1_build_6 : decode cX1_build 6 = .ok (.ifCond .eq 14, 3) := by decide +kernel
theorem dX1_build_9 : decode cX1_build 9 = .ok (.iload_n 3, 1) := by decide +kernel
theorem dX1_build_10 : decode cX1_build 10 = .ok (.iconst 1, 1) := by decide +kernel
theorem dX1_build_11 : decode cX1_build 11 = .ok (.if_icmp .lt 9, 3) := by decide +kernel
theorem dX1_build_14 : decode cX1_build 14 = .ok (.iload_n 3, 1) := by decide +kernel
theorem dX1_build_15 : decode cX1_build 15 = .ok (.bipush 20, 2) := by decide +kernel
theorem dX1_build_17 : decode cX1_build 17 = .ok (.if_icmp .le 5, 3) := by decide +kernel
theorem dX1_build_20 : decode cX1_build 20 = .ok (.iconst 0, 1) := by decide +kernel
theorem dX1_build_21 : decode cX1_build 21 = .ok (.ireturn, 1) := by decide +kernel
theorem dX1_build_22 : decode cX1_build 22 = .ok (.aload_n 0, 1) := by decide +kernel
theorem dX1_build_23 : decode cX1_build 23 = .ok (.getfield 7, 3) := by decide +kernel
theorem dX1_build_26 : decode cX1_build 26 = .ok (.bipush 6, 2) := by decide +kernel
theorem dX1_build_28 : decode cX1_build 28 = .ok (.iload_n 1, 1) := by decide +kernel
theorem dX1_build_29 : decode cX1_build 29 = .ok (.imul, 1) := by decide +kernel
theorem dX1_build_30 : decode cX1_build 30 = .ok (.iload_n 2, 1) := by decide +kernel
theorem dX1_build_31 : decode cX1_build 31 = .ok (.iadd, 1) := by decide +kernel
theorem dX1_build_32 : decode cX1_build 32 = .ok (.iload_n 3, 1) := by decide +kernel
theorem dX1_build_33 : decode cX1_build 33 = .ok (.iastore, 1) := by decide +kernel
theorem dX1_build_34 : decode cX1_build 34 = .ok (.iconst 1, 1) := by decide +kernel
theorem dX1_build_35 : decode cX1_build 35 = .ok (.ireturn, 1) := by decide +kernel
abbrev cX1_pair : ByteArray := prog_3_method_2_code
def yX1_pair : MethodName := ⟨RX1, "pair", "(II)Z"⟩
theorem dX1_pair_0 : decode cX1_pair 0 = .ok (.iload_n 1, 1) := by decide +kernel
theorem dX1_pair_1 : decode cX1_pair 1 = .ok (.iload_n 2, 1) := by decide +kernel
theorem dX1_pair_2 : decode cX1_pair 2 = .ok (.if_icmp .eq 25, 3) := by decide +kernel
theorem dX1_pair_5 : decode cX1_pair 5 = .ok (.iload_n 1, 1) := by decide +kernel
theorem dX1_pair_6 : decode cX1_pair 6 = .ok (.ifCond .lt 21, 3) := by decide +kernel
theorem dX1_pair_9 : decode cX1_pair 9 = .ok (.iload_n 1, 1) := by decide +kernel
theorem dX1_pair_10 : decode cX1_pair 10 = .ok (.iconst 5, 1) := by decide +kernel
theorem dX1_pair_11 : decode cX1_pair 11 = .ok (.if_icmp .gt 16, 3) := by decide +kernel
theorem dX1_pair_14 : decode cX1_pair 14 = .ok (.iload_n 2, 1) := by decide +kernel
theorem dX1_pair_15 : decode cX1_pair 15 = .ok (.ifCond .lt 12, 3) := by decide +kernel
theorem dX1_pair_18 : decode cX1_pair 18 = .ok (.iload_n 2, 1) := by decide +kernel
theorem dX1_pair_19 : decode cX1_pair 19 = .ok (.iconst 5, 1) := by decide +kernel
theorem dX1_pair_20 : decode cX1_pair 20 = .ok (.if_icmp .gt 7, 3) := by decide +kernel
theorem dX1_pair_23 : decode cX1_pair 23 = .ok (.iconst 1, 1) := by decide +kernel
theorem dX1_pair_24 : decode cX1_pair 24 = .ok (.goto 4, 3) := by decide +kernel
theorem dX1_pair_27 : decode cX1_pair 27 = .ok (.iconst 0, 1) := by decide +kernel
theorem dX1_pair_28 : decode cX1_pair 28 = .ok (.ireturn, 1) := by decide +kernel
abbrev cX1_close : ByteArray := prog_3_method_4_code
def yX1_close : MethodName := ⟨RX1, "close", "(II)Z"⟩
theorem dX1_close_0 : decode cX1_close 0 = .ok (.aload_n 0, 1) := by decide +kernel
theorem dX1_close_1 : decode cX1_close 1 = .ok (.iload_n 1, 1) := by decide +kernel
theorem dX1_close_2 : decode cX1_close 2 = .ok (.iload_n 2, 1) := by decide +kernel
theorem dX1_close_3 : decode cX1_close 3 = .ok (.invokevirtual 19, 3) := by decide +kernel
theorem dX1_close_6 : decode cX1_close 6 = .ok (.ifCond .eq 17, 3) := by decide +kernel
theorem dX1_close_9 : decode cX1_close 9 = .ok (.aload_n 0, 1) := by decide +kernel
theorem dX1_close_10 : decode cX1_close 10 = .ok (.getfield 7, 3) := by decide +kernel
theorem dX1_close_13 : decode cX1_close 13 = .ok (.bipush 6, 2) := by decide +kernel
theorem dX1_close_15 : decode cX1_close 15 = .ok (.iload_n 1, 1) := by decide +kernel
theorem dX1_close_16 : decode cX1_close 16 = .ok (.imul, 1) := by decide +kernel
theorem dX1_close_17 : decode cX1_close 17 = .ok (.iload_n 2, 1) := by decide +kernel
theorem dX1_close_18 : decode cX1_close 18 = .ok (.iadd, 1) := by decide +kernel
theorem dX1_close_19 : decode cX1_close 19 = .ok (.iaload, 1) := by decide +kernel
theorem dX1_close_20 : decode cX1_close 20 = .ok (.ifCond .ne 5, 3) := by decide +kernel
theorem dX1_close_23 : decode cX1_close 23 = .ok (.iconst 0, 1) := by decide +kernel
theorem dX1_close_24 : decode cX1_close 24 = .ok (.ireturn, 1) := by decide +kernel
theorem dX1_close_25 : decode cX1_close 25 = .ok (.aload_n 0, 1) := by decide +kernel
theorem dX1_close_26 : decode cX1_close 26 = .ok (.getfield 7, 3) := by decide +kernel
theorem dX1_close_29 : decode cX1_close 29 = .ok (.bipush 6, 2) := by decide +kernel
theorem dX1_close_31 : decode cX1_close 31 = .ok (.iload_n 1, 1) := by decide +kernel
theorem dX1_close_32 : decode cX1_close 32 = .ok (.imul, 1) := by decide +kernel
theorem dX1_close_33 : decode cX1_close 33 = .ok (.iload_n 2, 1) := by decide +kernel
theorem dX1_close_34 : decode cX1_close 34 = .ok (.iadd, 1) := by decide +kernel
theorem dX1_close_35 : decode cX1_close 35 = .ok (.iconst 0, 1) := by decide +kernel
theorem dX1_close_36 : decode cX1_close 36 = .ok (.iastore, 1) := by decide +kernel
theorem dX1_close_37 : decode cX1_close 37 = .ok (.iconst 1, 1) := by decide +kernel
theorem dX1_close_38 : decode cX1_close 38 = .ok (.ireturn, 1) := by decide +kernel
abbrev cX1_road : ByteArray := prog_3_method_5_code
def yX1_road : MethodName := ⟨RX1, "road", "(II)I"⟩
theorem dX1_road_0 : decode cX1_road 0 = .ok (.aload_n 0, 1) := by decide +kernel
theorem dX1_road_1 : decode cX1_road 1 = .ok (.iload_n 1, 1) := by decide +kernel
theorem dX1_road_2 : decode cX1_road 2 = .ok (.iload_n 2, 1) := by decide +kernel
theorem dX1_road_3 : decode cX1_road 3 = .ok (.invokevirtual 19, 3) := by decide +kernel
theorem dX1_road_6 : decode cX1_road 6 = .ok (.ifCond .eq 31, 3) := by decide +kernel
theorem dX1_road_9 : decode cX1_road 9 = .ok (.aload_n 0, 1) := by decide +kernel
theorem dX1_road_10 : decode cX1_road 10 = .ok (.getfield 7, 3) := by decide +kernel
theorem dX1_road_13 : decode cX1_road 13 = .ok (.bipush 6, 2) := by decide +kernel
theorem dX1_road_15 : decode cX1_road 15 = .ok (.iload_n 1, 1) := by decide +kernel
theorem dX1_road_16 : decode cX1_road 16 = .ok (.imul, 1) := by decide +kernel
theorem dX1_road_17 : decode cX1_road 17 = .ok (.iload_n 2, 1) := by decide +kernel
theorem dX1_road_18 : decode cX1_road 18 = .ok (.iadd, 1) := by decide +kernel
theorem dX1_road_19 : decode cX1_road 19 = .ok (.iaload, 1) := by decide +kernel
theorem dX1_road_20 : decode cX1_road 20 = .ok (.ifCond .le 17, 3) := by decide +kernel
theorem dX1_road_23 : decode cX1_road 23 = .ok (.aload_n 0, 1) := by decide +kernel
theorem dX1_road_24 : decode cX1_road 24 = .ok (.getfield 7, 3) := by decide +kernel
theorem dX1_road_27 : decode cX1_road 27 = .ok (.bipush 6, 2) := by decide +kernel
theorem dX1_road_29 : decode cX1_road 29 = .ok (.iload_n 1, 1) := by decide +kernel
theorem dX1_road_30 : decode cX1_road 30 = .ok (.imul, 1) := by decide +kernel
theorem dX1_road_31 : decode cX1_road 31 = .ok (.iload_n 2, 1) := by decide +kernel
theorem dX1_road_32 : decode cX1_road 32 = .ok (.iadd, 1) := by decide +kernel
theorem dX1_road_33 : decode cX1_road 33 = .ok (.iaload, 1) := by decide +kernel
theorem dX1_road_34 : decode cX1_road 34 = .ok (.goto 4, 3) := by decide +kernel
theorem dX1_road_37 : decode cX1_road 37 = .ok (.iconst (-1), 1) := by decide +kernel
theorem dX1_road_38 : decode cX1_road 38 = .ok (.ireturn, 1) := by decide +kernel
abbrev cX1_roads : ByteArray := prog_3_method_6_code
def yX1_roads : MethodName := ⟨RX1, "roads", "()I"⟩
theorem dX1_roads_0 : decode cX1_roads 0 = .ok (.iconst 0, 1) := by decide +kernel
theorem dX1_roads_1 : decode cX1_roads 1 = .ok (.istore_n 1, 1) := by decide +kernel
theorem dX1_roads_2 : decode cX1_roads 2 = .ok (.iconst 0, 1) := by decide +kernel
theorem dX1_roads_3 : decode cX1_roads 3 = .ok (.istore_n 2, 1) := by decide +kernel
theorem dX1_roads_4 : decode cX1_roads 4 = .ok (.iload_n 2, 1) := by decide +kernel
theorem dX1_roads_5 : decode cX1_roads 5 = .ok (.bipush 36, 2) := by decide +kernel
theorem dX1_roads_7 : decode cX1_roads 7 = .ok (.if_icmp .ge 26, 3) := by decide +kernel
theorem dX1_roads_10 : decode cX1_roads 10 = .ok (.aload_n 0, 1) := by decide +kernel
theorem dX1_roads_11 : decode cX1_roads 11 = .ok (.getfield 7, 3) := by decide +kernel
theorem dX1_roads_14 : decode cX1_roads 14 = .ok (.iload_n 2, 1) := by decide +kernel
theorem dX1_roads_15 : decode cX1_roads 15 = .ok (.iaload, 1) := by decide +kernel
theorem dX1_roads_16 : decode cX1_roads 16 = .ok (.ifCond .le 9, 3) := by decide +kernel
theorem dX1_roads_19 : decode cX1_roads 19 = .ok (.iload_n 1, 1) := by decide +kernel
theorem dX1_roads_20 : decode cX1_roads 20 = .ok (.iconst 1, 1) := by decide +kernel
theorem dX1_roads_21 : decode cX1_roads 21 = .ok (.iadd, 1) := by decide +kernel
theorem dX1_roads_22 : decode cX1_roads 22 = .ok (.goto 4, 3) := by decide +kernel
theorem dX1_roads_25 : decode cX1_roads 25 = .ok (.iload_n 1, 1) := by decide +kernel
theorem dX1_roads_26 : decode cX1_roads 26 = .ok (.istore_n 1, 1) := by decide +kernel
theorem dX1_roads_27 : decode cX1_roads 27 = .ok (.iinc 2 1, 3) := by decide +kernel
theorem dX1_roads_30 : decode cX1_roads 30 = .ok (.goto (-26), 3) := by decide +kernel
theorem dX1_roads_33 : decode cX1_roads 33 = .ok (.iload_n 1, 1) := by decide +kernel
theorem dX1_roads_34 : decode cX1_roads 34 = .ok (.ireturn, 1) := by decide +kernel
abbrev cX1_ways : ByteArray := prog_3_method_13_code
def yX1_ways : MethodName := ⟨RX1, "ways", "(II)I"⟩
theorem dX1_ways_0 : decode cX1_ways 0 = .ok (.aload_n 0, 1) := by decide +kernel
theorem dX1_ways_1 : decode cX1_ways 1 = .ok (.iload_n 1, 1) := by decide +kernel
theorem dX1_ways_2 : decode cX1_ways 2 = .ok (.iload_n 2, 1) := by decide +kernel
theorem dX1_ways_3 : decode cX1_ways 3 = .ok (.invokevirtual 38, 3) := by decide +kernel
theorem dX1_ways_6 : decode cX1_ways 6 = .ok (.aload_n 0, 1) := by decide +kernel
theorem dX1_ways_7 : decode cX1_ways 7 = .ok (.getfield 23, 3) := by decide +kernel
theorem dX1_ways_10 : decode cX1_ways 10 = .ok (.ireturn, 1) := by decide +kernel
abbrev cX1_list : ByteArray := prog_3_method_8_code
def yX1_list : MethodName := ⟨RX1, "list", "(II)V"⟩
theorem dX1_list_0 : decode cX1_list 0 = .ok (.aload_n 0, 1) := by decide +kernel
theorem dX1_list_1 : decode cX1_list 1 = .ok (.iconst 0, 1) := by decide +kernel
theorem dX1_list_2 : decode cX1_list 2 = .ok (.putfield 23, 3) := by decide +kernel
theorem dX1_list_5 : decode cX1_list 5 = .ok (.iconst 0, 1) := by decide +kernel
theorem dX1_list_6 : decode cX1_list 6 = .ok (.istore_n 3, 1) := by decide +kernel
theorem dX1_list_7 : decode cX1_list 7 = .ok (.iload_n 3, 1) := by decide +kernel
theorem dX1_list_8 : decode cX1_list 8 = .ok (.sipush 2401, 3) := by decide +kernel
theorem dX1_list_11 : decode cX1_list 11 = .ok (.if_icmp .ge 25, 3) := by decide +kernel
theorem dX1_list_14 : decode cX1_list 14 = .ok (.aload_n 0, 1) := by decide +kernel
theorem dX1_list_15 : decode cX1_list 15 = .ok (.iload_n 1, 1) := by decide +kernel
theorem dX1_list_16 : decode cX1_list 16 = .ok (.iload_n 2, 1) := by decide +kernel
theorem dX1_list_17 : decode cX1_list 17 = .ok (.invokevirtual 19, 3) := by decide +kernel
theorem dX1_list_20 : decode cX1_list 20 = .ok (.ifCond .eq 16, 3) := by decide +kernel
theorem dX1_list_23 : decode cX1_list 23 = .ok (.aload_n 0, 1) := by decide +kernel
theorem dX1_list_24 : decode cX1_list 24 = .ok (.iload_n 1, 1) := by decide +kernel
theorem dX1_list_25 : decode cX1_list 25 = .ok (.iload_n 2, 1) := by decide +kernel
theorem dX1_list_26 : decode cX1_list 26 = .ok (.iload_n 3, 1) := by decide +kernel
theorem dX1_list_27 : decode cX1_list 27 = .ok (.invokevirtual 27, 3) := by decide +kernel
theorem dX1_list_30 : decode cX1_list 30 = .ok (.iinc 3 1, 3) := by decide +kernel
theorem dX1_list_33 : decode cX1_list 33 = .ok (.goto (-26), 3) := by decide +kernel
theorem dX1_list_36 : decode cX1_list 36 = .ok (.return_, 1) := by decide +kernel
abbrev cX1_look : ByteArray := prog_3_method_7_code
def yX1_look : MethodName := ⟨RX1, "look", "(III)V"⟩
theorem dX1_look_0 : decode cX1_look 0 = .ok (.iload_n 3, 1) := by decide +kernel
theorem dX1_look_1 : decode cX1_look 1 = .ok (.istore 4, 2) := by decide +kernel
theorem dX1_look_3 : decode cX1_look 3 = .ok (.iconst 1, 1) := by decide +kernel
theorem dX1_look_4 : decode cX1_look 4 = .ok (.iload_n 1, 1) := by decide +kernel
theorem dX1_look_5 : decode cX1_look 5 = .ok (.ishl, 1) := by decide +kernel
theorem dX1_look_6 : decode cX1_look 6 = .ok (.iconst 1, 1) := by decide +kernel
theorem dX1_look_7 : decode cX1_look 7 = .ok (.iload_n 2, 1) := by decide +kernel
theorem dX1_look_8 : decode cX1_look 8 = .ok (.ishl, 1) := by decide +kernel
theorem dX1_look_9 : decode cX1_look 9 = .ok (.ior, 1) := by decide +kernel
theorem dX1_look_10 : decode cX1_look 10 = .ok (.istore 5, 2) := by decide +kernel
theorem dX1_look_12 : decode cX1_look 12 = .ok (.iload_n 1, 1) := by decide +kernel
theorem dX1_look_13 : decode cX1_look 13 = .ok (.istore 6, 2) := by decide +kernel
theorem dX1_look_15 : decode cX1_look 15 = .ok (.iconst 0, 1) := by decide +kernel
theorem dX1_look_16 : decode cX1_look 16 = .ok (.istore 7, 2) := by decide +kernel
theorem dX1_look_18 : decode cX1_look 18 = .ok (.iload_n 1, 1) := by decide +kernel
theorem dX1_look_19 : decode cX1_look 19 = .ok (.istore 8, 2) := by decide +kernel
theorem dX1_look_21 : decode cX1_look 21 = .ok (.iconst 1, 1) := by decide +kernel
theorem dX1_look_22 : decode cX1_look 22 = .ok (.istore 9, 2) := by decide +kernel
theorem dX1_look_24 : decode cX1_look 24 = .ok (.iconst 1, 1) := by decide +kernel
theorem dX1_look_25 : decode cX1_look 25 = .ok (.istore 10, 2) := by decide +kernel
theorem dX1_look_27 : decode cX1_look 27 = .ok (.iconst 0, 1) := by decide +kernel
theorem dX1_look_28 : decode cX1_look 28 = .ok (.istore 11, 2) := by decide +kernel
theorem dX1_look_30 : decode cX1_look 30 = .ok (.iconst 0, 1) := by decide +kernel
theorem dX1_look_31 : decode cX1_look 31 = .ok (.istore 12, 2) := by decide +kernel
theorem dX1_look_33 : decode cX1_look 33 = .ok (.iload 12, 2) := by decide +kernel
theorem dX1_look_35 : decode cX1_look 35 = .ok (.iconst 4, 1) := by decide +kernel
theorem dX1_look_36 : decode cX1_look 36 = .ok (.if_icmp .ge 138, 3) := by decide +kernel
theorem dX1_look_39 : decode cX1_look 39 = .ok (.iload 4, 2) := by decide +kernel
theorem dX1_look_41 : decode cX1_look 41 = .ok (.bipush 7, 2) := by decide +kernel
theorem dX1_look_43 : decode cX1_look 43 = .ok (.irem, 1) := by decide +kernel
theorem dX1_look_44 : decode cX1_look 44 = .ok (.istore 13, 2) := by decide +kernel
theorem dX1_look_46 : decode cX1_look 46 = .ok (.iload 4, 2) := by decide +kernel
theorem dX1_look_48 : decode cX1_look 48 = .ok (.bipush 7, 2) := by decide +kernel
theorem dX1_look_50 : decode cX1_look 50 = .ok (.idiv, 1) := by decide +kernel
theorem dX1_look_51 : decode cX1_look 51 = .ok (.istore 4, 2) := by decide +kernel
theorem dX1_look_53 : decode cX1_look 53 = .ok (.iload 13, 2) := by decide +kernel
theorem dX1_look_55 : decode cX1_look 55 = .ok (.bipush 6, 2) := by decide +kernel
theorem dX1_look_57 : decode cX1_look 57 = .ok (.if_icmp .ge 92, 3) := by decide +kernel
theorem dX1_look_60 : decode cX1_look 60 = .ok (.iload 10, 2) := by decide +kernel
theorem dX1_look_62 : decode cX1_look 62 = .ok (.ifCond .eq 38, 3) := by decide +kernel
theorem dX1_look_65 : decode cX1_look 65 = .ok (.iload 11, 2) := by decide +kernel
theorem dX1_look_67 : decode cX1_look 67 = .ok (.ifCond .ne 33, 3) := by decide +kernel
theorem dX1_look_70 : decode cX1_look 70 = .ok (.iload 5, 2) := by decide +kernel
theorem dX1_look_72 : decode cX1_look 72 = .ok (.iload 13, 2) := by decide +kernel
theorem dX1_look_74 : decode cX1_look 74 = .ok (.ishr, 1) := by decide +kernel
theorem dX1_look_75 : decode cX1_look 75 = .ok (.iconst 1, 1) := by decide +kernel
theorem dX1_look_76 : decode cX1_look 76 = .ok (.iand, 1) := by decide +kernel
theorem dX1_look_77 : decode cX1_look 77 = .ok (.ifCond .ne 23, 3) := by decide +kernel
theorem dX1_look_80 : decode cX1_look 80 = .ok (.aload_n 0, 1) := by decide +kernel
theorem dX1_look_81 : decode cX1_look 81 = .ok (.getfield 7, 3) := by decide +kernel
theorem dX1_look_84 : decode cX1_look 84 = .ok (.bipush 6, 2) := by decide +kernel
theorem dX1_look_86 : decode cX1_look 86 = .ok (.iload 6, 2) := by decide +kernel
theorem dX1_look_88 : decode cX1_look 88 = .ok (.imul, 1) := by decide +kernel
theorem dX1_look_89 : decode cX1_look 89 = .ok (.iload 13, 2) := by decide +kernel
theorem dX1_look_91 : decode cX1_look 91 = .ok (.iadd, 1) := by decide +kernel
theorem dX1_look_92 : decode cX1_look 92 = .ok (.iaload, 1) := by decide +kernel
theorem dX1_look_93 : decode cX1_look 93 = .ok (.ifCond .le 7, 3) := by decide +kernel
theorem dX1_look_96 : decode cX1_look 96 = .ok (.iconst 1, 1) := by decide +kernel
theorem dX1_look_97 : decode cX1_look 97 = .ok (.goto 4, 3) := by decide +kernel
theorem dX1_look_100 : decode cX1_look 100 = .ok (.iconst 0, 1) := by decide +kernel
theorem dX1_look_101 : decode cX1_look 101 = .ok (.istore 10, 2) := by decide +kernel
theorem dX1_look_103 : decode cX1_look 103 = .ok (.iload 7, 2) := by decide +kernel
theorem dX1_look_105 : decode cX1_look 105 = .ok (.aload_n 0, 1) := by decide +kernel
theorem dX1_look_106 : decode cX1_look 106 = .ok (.getfield 7, 3) := by decide +kernel
theorem dX1_look_109 : decode cX1_look 109 = .ok (.bipush 6, 2) := by decide +kernel
theorem dX1_look_111 : decode cX1_look 111 = .ok (.iload 6, 2) := by decide +kernel
theorem dX1_look_113 : decode cX1_look 113 = .ok (.imul, 1) := by decide +kernel
theorem dX1_look_114 : decode cX1_look 114 = .ok (.iload 13, 2) := by decide +kernel
theorem dX1_look_116 : decode cX1_look 116 = .ok (.iadd, 1) := by decide +kernel
theorem dX1_look_117 : decode cX1_look 117 = .ok (.iaload, 1) := by decide +kernel
theorem dX1_look_118 : decode cX1_look 118 = .ok (.iadd, 1) := by decide +kernel
theorem dX1_look_119 : decode cX1_look 119 = .ok (.istore 7, 2) := by decide +kernel
theorem dX1_look_121 : decode cX1_look 121 = .ok (.iload 5, 2) := by decide +kernel
theorem dX1_look_123 : decode cX1_look 123 = .ok (.iconst 1, 1) := by decide +kernel
theorem dX1_look_124 : decode cX1_look 124 = .ok (.iload 13, 2) := by decide +kernel
theorem dX1_look_126 : decode cX1_look 126 = .ok (.ishl, 1) := by decide +kernel
theorem dX1_look_127 : decode cX1_look 127 = .ok (.ior, 1) := by decide +kernel
theorem dX1_look_128 : decode cX1_look 128 = .ok (.istore 5, 2) := by decide +kernel
theorem dX1_look_130 : decode cX1_look 130 = .ok (.iload 8, 2) := by decide +kernel
theorem dX1_look_132 : decode cX1_look 132 = .ok (.iload 13, 2) := by decide +kernel
theorem dX1_look_134 : decode cX1_look 134 = .ok (.iconst 4, 1) := by decide +kernel
theorem dX1_look_135 : decode cX1_look 135 = .ok (.iload 9, 2) := by decide +kernel
theorem dX1_look_137 : decode cX1_look 137 = .ok (.imul, 1) := by decide +kernel
theorem dX1_look_138 : decode cX1_look 138 = .ok (.ishl, 1) := by decide +kernel
theorem dX1_look_139 : decode cX1_look 139 = .ok (.ior, 1) := by decide +kernel
theorem dX1_look_140 : decode cX1_look 140 = .ok (.istore 8, 2) := by decide +kernel
theorem dX1_look_142 : decode cX1_look 142 = .ok (.iinc 9 1, 3) := by decide +kernel
theorem dX1_look_145 : decode cX1_look 145 = .ok (.iload 13, 2) := by decide +kernel
theorem dX1_look_147 : decode cX1_look 147 = .ok (.istore 6, 2) := by decide +kernel
theorem dX1_look_149 : decode cX1_look 149 = .ok (.iload 11, 2) := by decide +kernel
theorem dX1_look_151 : decode cX1_look 151 = .ok (.ifCond .ne 10, 3) := by decide +kernel
theorem dX1_look_154 : decode cX1_look 154 = .ok (.iload 13, 2) := by decide +kernel
theorem dX1_look_156 : decode cX1_look 156 = .ok (.bipush 6, 2) := by decide +kernel
theorem dX1_look_158 : decode cX1_look 158 = .ok (.if_icmp .ne 7, 3) := by decide +kernel
theorem dX1_look_161 : decode cX1_look 161 = .ok (.iconst 1, 1) := by decide +kernel
theorem dX1_look_162 : decode cX1_look 162 = .ok (.goto 4, 3) := by decide +kernel
theorem dX1_look_165 : decode cX1_look 165 = .ok (.iconst 0, 1) := by decide +kernel
theorem dX1_look_166 : decode cX1_look 166 = .ok (.istore 11, 2) := by decide +kernel
theorem dX1_look_168 : decode cX1_look 168 = .ok (.iinc 12 1, 3) := by decide +kernel
theorem dX1_look_171 : decode cX1_look 171 = .ok (.goto (-138), 3) := by decide +kernel
theorem dX1_look_174 : decode cX1_look 174 = .ok (.iload 10, 2) := by decide +kernel
theorem dX1_look_176 : decode cX1_look 176 = .ok (.ifCond .eq 104, 3) := by decide +kernel
theorem dX1_look_179 : decode cX1_look 179 = .ok (.aload_n 0, 1) := by decide +kernel
theorem dX1_look_180 : decode cX1_look 180 = .ok (.getfield 7, 3) := by decide +kernel
theorem dX1_look_183 : decode cX1_look 183 = .ok (.bipush 6, 2) := by decide +kernel
theorem dX1_look_185 : decode cX1_look 185 = .ok (.iload 6, 2) := by decide +kernel
theorem dX1_look_187 : decode cX1_look 187 = .ok (.imul, 1) := by decide +kernel
theorem dX1_look_188 : decode cX1_look 188 = .ok (.iload_n 2, 1) := by decide +kernel
theorem dX1_look_189 : decode cX1_look 189 = .ok (.iadd, 1) := by decide +kernel
theorem dX1_look_190 : decode cX1_look 190 = .ok (.iaload, 1) := by decide +kernel
theorem dX1_look_191 : decode cX1_look 191 = .ok (.ifCond .le 89, 3) := by decide +kernel
theorem dX1_look_194 : decode cX1_look 194 = .ok (.aload_n 0, 1) := by decide +kernel
theorem dX1_look_195 : decode cX1_look 195 = .ok (.getfield 23, 3) := by decide +kernel
theorem dX1_look_198 : decode cX1_look 198 = .ok (.bipush 65, 2) := by decide +kernel
theorem dX1_look_200 : decode cX1_look 200 = .ok (.if_icmp .ge 80, 3) := by decide +kernel
theorem dX1_look_203 : decode cX1_look 203 = .ok (.iload 8, 2) := by decide +kernel
theorem dX1_look_205 : decode cX1_look 205 = .ok (.iload_n 2, 1) := by decide +kernel
theorem dX1_look_206 : decode cX1_look 206 = .ok (.iconst 4, 1) := by decide +kernel
theorem dX1_look_207 : decode cX1_look 207 = .ok (.iload 9, 2) := by decide +kernel
theorem dX1_look_209 : decode cX1_look 209 = .ok (.imul, 1) := by decide +kernel
theorem dX1_look_210 : decode cX1_look 210 = .ok (.ishl, 1) := by decide +kernel
theorem dX1_look_211 : decode cX1_look 211 = .ok (.ior, 1) := by decide +kernel
theorem dX1_look_212 : decode cX1_look 212 = .ok (.istore 8, 2) := by decide +kernel
theorem dX1_look_214 : decode cX1_look 214 = .ok (.aload_n 0, 1) := by decide +kernel
theorem dX1_look_215 : decode cX1_look 215 = .ok (.getfield 13, 3) := by decide +kernel
theorem dX1_look_218 : decode cX1_look 218 = .ok (.aload_n 0, 1) := by decide +kernel
theorem dX1_look_219 : decode cX1_look 219 = .ok (.getfield 23, 3) := by decide +kernel
theorem dX1_look_222 : decode cX1_look 222 = .ok (.iload 9, 2) := by decide +kernel
theorem dX1_look_224 : decode cX1_look 224 = .ok (.iconst 5, 1) := by decide +kernel
theorem dX1_look_225 : decode cX1_look 225 = .ok (.if_icmp .ge 18, 3) := by decide +kernel
theorem dX1_look_228 : decode cX1_look 228 = .ok (.iload 8, 2) := by decide +kernel
theorem dX1_look_230 : decode cX1_look 230 = .ok (.bipush 15, 2) := by decide +kernel
theorem dX1_look_232 : decode cX1_look 232 = .ok (.iconst 4, 1) := by decide +kernel
theorem dX1_look_233 : decode cX1_look 233 = .ok (.iload 9, 2) := by decide +kernel
theorem dX1_look_235 : decode cX1_look 235 = .ok (.imul, 1) := by decide +kernel
theorem dX1_look_236 : decode cX1_look 236 = .ok (.iconst 4, 1) := by decide +kernel
theorem dX1_look_237 : decode cX1_look 237 = .ok (.iadd, 1) := by decide +kernel
theorem dX1_look_238 : decode cX1_look 238 = .ok (.ishl, 1) := by decide +kernel
theorem dX1_look_239 : decode cX1_look 239 = .ok (.ior, 1) := by decide +kernel
theorem dX1_look_240 : decode cX1_look 240 = .ok (.goto 5, 3) := by decide +kernel
theorem dX1_look_243 : decode cX1_look 243 = .ok (.iload 8, 2) := by decide +kernel
theorem dX1_look_245 : decode cX1_look 245 = .ok (.iastore, 1) := by decide +kernel
theorem dX1_look_246 : decode cX1_look 246 = .ok (.aload_n 0, 1) := by decide +kernel
theorem dX1_look_247 : decode cX1_look 247 = .ok (.getfield 16, 3) := by decide +kernel
theorem dX1_look_250 : decode cX1_look 250 = .ok (.aload_n 0, 1) := by decide +kernel
theorem dX1_look_251 : decode cX1_look 251 = .ok (.getfield 23, 3) := by decide +kernel
theorem dX1_look_254 : decode cX1_look 254 = .ok (.iload 7, 2) := by decide +kernel
theorem dX1_look_256 : decode cX1_look 256 = .ok (.aload_n 0, 1) := by decide +kernel
theorem dX1_look_257 : decode cX1_look 257 = .ok (.getfield 7, 3) := by decide +kernel
theorem dX1_look_260 : decode cX1_look 260 = .ok (.bipush 6, 2) := by decide +kernel
theorem dX1_look_262 : decode cX1_look 262 = .ok (.iload 6, 2) := by decide +kernel
theorem dX1_look_264 : decode cX1_look 264 = .ok (.imul, 1) := by decide +kernel
theorem dX1_look_265 : decode cX1_look 265 = .ok (.iload_n 2, 1) := by decide +kernel
theorem dX1_look_266 : decode cX1_look 266 = .ok (.iadd, 1) := by decide +kernel
theorem dX1_look_267 : decode cX1_look 267 = .ok (.iaload, 1) := by decide +kernel
theorem dX1_look_268 : decode cX1_look 268 = .ok (.iadd, 1) := by decide +kernel
theorem dX1_look_269 : decode cX1_look 269 = .ok (.iastore, 1) := by decide +kernel
theorem dX1_look_270 : decode cX1_look 270 = .ok (.aload_n 0, 1) := by decide +kernel
theorem dX1_look_271 : decode cX1_look 271 = .ok (.dup, 1) := by decide +kernel
theorem dX1_look_272 : decode cX1_look 272 = .ok (.getfield 23, 3) := by decide +kernel
theorem dX1_look_275 : decode cX1_look 275 = .ok (.iconst 1, 1) := by decide +kernel
theorem dX1_look_276 : decode cX1_look 276 = .ok (.iadd, 1) := by decide +kernel
theorem dX1_look_277 : decode cX1_look 277 = .ok (.putfield 23, 3) := by decide +kernel
theorem dX1_look_280 : decode cX1_look 280 = .ok (.return_, 1) := by decide +kernel
abbrev cX1_length : ByteArray := prog_3_method_14_code
def yX1_length : MethodName := ⟨RX1, "length", "(III)I"⟩
theorem dX1_length_0 : decode cX1_length 0 = .ok (.aload_n 0, 1) := by decide +kernel
theorem dX1_length_1 : decode cX1_length 1 = .ok (.iload_n 1, 1) := by decide +kernel
theorem dX1_length_2 : decode cX1_length 2 = .ok (.iload_n 2, 1) := by decide +kernel
theorem dX1_length_3 : decode cX1_length 3 = .ok (.iload_n 3, 1) := by decide +kernel
theorem dX1_length_4 : decode cX1_length 4 = .ok (.invokevirtual 46, 3) := by decide +kernel
theorem dX1_length_7 : decode cX1_length 7 = .ok (.istore 4, 2) := by decide +kernel
theorem dX1_length_9 : decode cX1_length 9 = .ok (.iload 4, 2) := by decide +kernel
theorem dX1_length_11 : decode cX1_length 11 = .ok (.ifCond .ge 7, 3) := by decide +kernel
theorem dX1_length_14 : decode cX1_length 14 = .ok (.iconst (-1), 1) := by decide +kernel
theorem dX1_length_15 : decode cX1_length 15 = .ok (.goto 10, 3) := by decide +kernel
theorem dX1_length_18 : decode cX1_length 18 = .ok (.aload_n 0, 1) := by decide +kernel
theorem dX1_length_19 : decode cX1_length 19 = .ok (.getfield 16, 3) := by decide +kernel
theorem dX1_length_22 : decode cX1_length 22 = .ok (.iload 4, 2) := by decide +kernel
theorem dX1_length_24 : decode cX1_length 24 = .ok (.iaload, 1) := by decide +kernel
theorem dX1_length_25 : decode cX1_length 25 = .ok (.ireturn, 1) := by decide +kernel
abbrev cX1_find : ByteArray := prog_3_method_12_code
def yX1_find : MethodName := ⟨RX1, "find", "(III)I"⟩
theorem dX1_find_0 : decode cX1_find 0 = .ok (.aload_n 0, 1) := by decide +kernel
theorem dX1_find_1 : decode cX1_find 1 = .ok (.iload_n 1, 1) := by decide +kernel
theorem dX1_find_2 : decode cX1_find 2 = .ok (.iload_n 2, 1) := by decide +kernel
theorem dX1_find_3 : decode cX1_find 3 = .ok (.invokevirtual 38, 3) := by decide +kernel
theorem dX1_find_6 : decode cX1_find 6 = .ok (.iconst 0, 1) := by decide +kernel
theorem dX1_find_7 : decode cX1_find 7 = .ok (.istore 4, 2) := by decide +kernel
theorem dX1_find_9 : decode cX1_find 9 = .ok (.iload 4, 2) := by decide +kernel
theorem dX1_find_11 : decode cX1_find 11 = .ok (.aload_n 0, 1) := by decide +kernel
theorem dX1_find_12 : decode cX1_find 12 = .ok (.getfield 23, 3) := by decide +kernel
theorem dX1_find_15 : decode cX1_find 15 = .ok (.if_icmp .ge 22, 3) := by decide +kernel
theorem dX1_find_18 : decode cX1_find 18 = .ok (.aload_n 0, 1) := by decide +kernel
theorem dX1_find_19 : decode cX1_find 19 = .ok (.iload 4, 2) := by decide +kernel
theorem dX1_find_21 : decode cX1_find 21 = .ok (.invokevirtual 42, 3) := by decide +kernel
theorem dX1_find_24 : decode cX1_find 24 = .ok (.iload_n 3, 1) := by decide +kernel
theorem dX1_find_25 : decode cX1_find 25 = .ok (.if_icmp .ne 6, 3) := by decide +kernel
theorem dX1_find_28 : decode cX1_find 28 = .ok (.iload 4, 2) := by decide +kernel
theorem dX1_find_30 : decode cX1_find 30 = .ok (.ireturn, 1) := by decide +kernel
theorem dX1_find_31 : decode cX1_find 31 = .ok (.iinc 4 1, 3) := by decide +kernel
theorem dX1_find_34 : decode cX1_find 34 = .ok (.goto (-25), 3) := by decide +kernel
theorem dX1_find_37 : decode cX1_find 37 = .ok (.iconst (-1), 1) := by decide +kernel
theorem dX1_find_38 : decode cX1_find 38 = .ok (.ireturn, 1) := by decide +kernel
abbrev cX1_rank : ByteArray := prog_3_method_11_code
def yX1_rank : MethodName := ⟨RX1, "rank", "(I)I"⟩
theorem dX1_rank_0 : decode cX1_rank 0 = .ok (.iconst 0, 1) := by decide +kernel
theorem dX1_rank_1 : decode cX1_rank 1 = .ok (.istore_n 2, 1) := by decide +kernel
theorem dX1_rank_2 : decode cX1_rank 2 = .ok (.iconst 0, 1) := by decide +kernel
theorem dX1_rank_3 : decode cX1_rank 3 = .ok (.istore_n 3, 1) := by decide +kernel
theorem dX1_rank_4 : decode cX1_rank 4 = .ok (.iload_n 3, 1) := by decide +kernel
theorem dX1_rank_5 : decode cX1_rank 5 = .ok (.aload_n 0, 1) := by decide +kernel
theorem dX1_rank_6 : decode cX1_rank 6 = .ok (.getfield 23, 3) := by decide +kernel
theorem dX1_rank_9 : decode cX1_rank 9 = .ok (.if_icmp .ge 31, 3) := by decide +kernel
theorem dX1_rank_12 : decode cX1_rank 12 = .ok (.iload_n 3, 1) := by decide +kernel
theorem dX1_rank_13 : decode cX1_rank 13 = .ok (.iload_n 1, 1) := by decide +kernel
theorem dX1_rank_14 : decode cX1_rank 14 = .ok (.if_icmp .eq 18, 3) := by decide +kernel
theorem dX1_rank_17 : decode cX1_rank 17 = .ok (.aload_n 0, 1) := by decide +kernel
theorem dX1_rank_18 : decode cX1_rank 18 = .ok (.iload_n 3, 1) := by decide +kernel
theorem dX1_rank_19 : decode cX1_rank 19 = .ok (.iload_n 1, 1) := by decide +kernel
theorem dX1_rank_20 : decode cX1_rank 20 = .ok (.invokevirtual 35, 3) := by decide +kernel
theorem dX1_rank_23 : decode cX1_rank 23 = .ok (.ifCond .eq 9, 3) := by decide +kernel
theorem dX1_rank_26 : decode cX1_rank 26 = .ok (.iload_n 2, 1) := by decide +kernel
theorem dX1_rank_27 : decode cX1_rank 27 = .ok (.iconst 1, 1) := by decide +kernel
theorem dX1_rank_28 : decode cX1_rank 28 = .ok (.iadd, 1) := by decide +kernel
theorem dX1_rank_29 : decode cX1_rank 29 = .ok (.goto 4, 3) := by decide +kernel
theorem dX1_rank_32 : decode cX1_rank 32 = .ok (.iload_n 2, 1) := by decide +kernel
theorem dX1_rank_33 : decode cX1_rank 33 = .ok (.istore_n 2, 1) := by decide +kernel
theorem dX1_rank_34 : decode cX1_rank 34 = .ok (.iinc 3 1, 3) := by decide +kernel
theorem dX1_rank_37 : decode cX1_rank 37 = .ok (.goto (-33), 3) := by decide +kernel
theorem dX1_rank_40 : decode cX1_rank 40 = .ok (.iload_n 2, 1) := by decide +kernel
theorem dX1_rank_41 : decode cX1_rank 41 = .ok (.ireturn, 1) := by decide +kernel
abbrev cX1_before : ByteArray := prog_3_method_10_code
def yX1_before : MethodName := ⟨RX1, "before", "(II)Z"⟩
theorem dX1_before_0 : decode cX1_before 0 = .ok (.aload_n 0, 1) := by decide +kernel
theorem dX1_before_1 : decode cX1_before 1 = .ok (.getfield 16, 3) := by decide +kernel
theorem dX1_before_4 : decode cX1_before 4 = .ok (.iload_n 1, 1) := by decide +kernel
theorem dX1_before_5 : decode cX1_before 5 = .ok (.iaload, 1) := by decide +kernel
theorem dX1_before_6 : decode cX1_before 6 = .ok (.aload_n 0, 1) := by decide +kernel
theorem dX1_before_7 : decode cX1_before 7 = .ok (.getfield 16, 3) := by decide +kernel
theorem dX1_before_10 : decode cX1_before 10 = .ok (.iload_n 2, 1) := by decide +kernel
theorem dX1_before_11 : decode cX1_before 11 = .ok (.iaload, 1) := by decide +kernel
theorem dX1_before_12 : decode cX1_before 12 = .ok (.if_icmp .eq 24, 3) := by decide +kernel
theorem dX1_before_15 : decode cX1_before 15 = .ok (.aload_n 0, 1) := by decide +kernel
theorem dX1_before_16 : decode cX1_before 16 = .ok (.getfield 16, 3) := by decide +kernel
theorem dX1_before_19 : decode cX1_before 19 = .ok (.iload_n 1, 1) := by decide +kernel
theorem dX1_before_20 : decode cX1_before 20 = .ok (.iaload, 1) := by decide +kernel
theorem dX1_before_21 : decode cX1_before 21 = .ok (.aload_n 0, 1) := by decide +kernel
theorem dX1_before_22 : decode cX1_before 22 = .ok (.getfield 16, 3) := by decide +kernel
theorem dX1_before_25 : decode cX1_before 25 = .ok (.iload_n 2, 1) := by decide +kernel
theorem dX1_before_26 : decode cX1_before 26 = .ok (.iaload, 1) := by decide +kernel
theorem dX1_before_27 : decode cX1_before 27 = .ok (.if_icmp .ge 7, 3) := by decide +kernel
theorem dX1_before_30 : decode cX1_before 30 = .ok (.iconst 1, 1) := by decide +kernel
theorem dX1_before_31 : decode cX1_before 31 = .ok (.goto 4, 3) := by decide +kernel
theorem dX1_before_34 : decode cX1_before 34 = .ok (.iconst 0, 1) := by decide +kernel
theorem dX1_before_35 : decode cX1_before 35 = .ok (.ireturn, 1) := by decide +kernel
theorem dX1_before_36 : decode cX1_before 36 = .ok (.iconst 0, 1) := by decide +kernel
end
section
set_option maxRecDepth 100000
theorem dX1_before_37 : decode cX1_before 37 = .ok (.istore_n 3, 1) := by decide +kernel
theorem dX1_before_38 : decode cX1_before 38 = .ok (.iload_n 3, 1) := by decide +kernel
theorem dX1_before_39 : decode cX1_before 39 = .ok (.bipush 6, 2) := by decide +kernel
theorem dX1_before_41 : decode cX1_before 41 = .ok (.if_icmp .ge 45, 3) := by decide +kernel
theorem dX1_before_44 : decode cX1_before 44 = .ok (.aload_n 0, 1) := by decide +kernel
theorem dX1_before_45 : decode cX1_before 45 = .ok (.iload_n 1, 1) := by decide +kernel
theorem dX1_before_46 : decode cX1_before 46 = .ok (.iload_n 3, 1) := by decide +kernel
theorem dX1_before_47 : decode cX1_before 47 = .ok (.invokevirtual 31, 3) := by decide +kernel
theorem dX1_before_50 : decode cX1_before 50 = .ok (.aload_n 0, 1) := by decide +kernel
theorem dX1_before_51 : decode cX1_before 51 = .ok (.iload_n 2, 1) := by decide +kernel
theorem dX1_before_52 : decode cX1_before 52 = .ok (.iload_n 3, 1) := by decide +kernel
theorem dX1_before_53 : decode cX1_before 53 = .ok (.invokevirtual 31, 3) := by decide +kernel
theorem dX1_before_56 : decode cX1_before 56 = .ok (.if_icmp .eq 24, 3) := by decide +kernel
theorem dX1_before_59 : decode cX1_before 59 = .ok (.aload_n 0, 1) := by decide +kernel
theorem dX1_before_60 : decode cX1_before 60 = .ok (.iload_n 1, 1) := by decide +kernel
theorem dX1_before_61 : decode cX1_before 61 = .ok (.iload_n 3, 1) := by decide +kernel
theorem dX1_before_62 : decode cX1_before 62 = .ok (.invokevirtual 31, 3) := by decide +kernel
theorem dX1_before_65 : decode cX1_before 65 = .ok (.aload_n 0, 1) := by decide +kernel
theorem dX1_before_66 : decode cX1_before 66 = .ok (.iload_n 2, 1) := by decide +kernel
theorem dX1_before_67 : decode cX1_before 67 = .ok (.iload_n 3, 1) := by decide +kernel
theorem dX1_before_68 : decode cX1_before 68 = .ok (.invokevirtual 31, 3) := by decide +kernel
theorem dX1_before_71 : decode cX1_before 71 = .ok (.if_icmp .ge 7, 3) := by decide +kernel
theorem dX1_before_74 : decode cX1_before 74 = .ok (.iconst 1, 1) := by decide +kernel
theorem dX1_before_75 : decode cX1_before 75 = .ok (.goto 4, 3) := by decide +kernel
theorem dX1_before_78 : decode cX1_before 78 = .ok (.iconst 0, 1) := by decide +kernel
theorem dX1_before_79 : decode cX1_before 79 = .ok (.ireturn, 1) := by decide +kernel
theorem dX1_before_80 : decode cX1_before 80 = .ok (.iinc 3 1, 3) := by decide +kernel
theorem dX1_before_83 : decode cX1_before 83 = .ok (.goto (-45), 3) := by decide +kernel
theorem dX1_before_86 : decode cX1_before 86 = .ok (.iconst 0, 1) := by decide +kernel
theorem dX1_before_87 : decode cX1_before 87 = .ok (.ireturn, 1) := by decide +kernel
abbrev cX1_digit : ByteArray := prog_3_method_9_code
def yX1_digit : MethodName := ⟨RX1, "digit", "(II)I"⟩
theorem dX1_digit_0 : decode cX1_digit 0 = .ok (.aload_n 0, 1) := by decide +kernel
theorem dX1_digit_1 : decode cX1_digit 1 = .ok (.getfield 13, 3) := by decide +kernel
theorem dX1_digit_4 : decode cX1_digit 4 = .ok (.iload_n 1, 1) := by decide +kernel
theorem dX1_digit_5 : decode cX1_digit 5 = .ok (.iaload, 1) := by decide +kernel
theorem dX1_digit_6 : decode cX1_digit 6 = .ok (.iconst 4, 1) := by decide +kernel
theorem dX1_digit_7 : decode cX1_digit 7 = .ok (.iload_n 2, 1) := by decide +kernel
theorem dX1_digit_8 : decode cX1_digit 8 = .ok (.imul, 1) := by decide +kernel
theorem dX1_digit_9 : decode cX1_digit 9 = .ok (.ishr, 1) := by decide +kernel
theorem dX1_digit_10 : decode cX1_digit 10 = .ok (.bipush 15, 2) := by decide +kernel
theorem dX1_digit_12 : decode cX1_digit 12 = .ok (.iand, 1) := by decide +kernel
theorem dX1_digit_13 : decode cX1_digit 13 = .ok (.ireturn, 1) := by decide +kernel
abbrev cX1_place : ByteArray := prog_3_method_16_code
def yX1_place : MethodName := ⟨RX1, "place", "(IIII)I"⟩
theorem dX1_place_0 : decode cX1_place 0 = .ok (.aload_n 0, 1) := by decide +kernel
theorem dX1_place_1 : decode cX1_place 1 = .ok (.iload_n 1, 1) := by decide +kernel
theorem dX1_place_2 : decode cX1_place 2 = .ok (.iload_n 2, 1) := by decide +kernel
theorem dX1_place_3 : decode cX1_place 3 = .ok (.iload_n 3, 1) := by decide +kernel
theorem dX1_place_4 : decode cX1_place 4 = .ok (.invokevirtual 46, 3) := by decide +kernel
theorem dX1_place_7 : decode cX1_place 7 = .ok (.istore 5, 2) := by decide +kernel
theorem dX1_place_9 : decode cX1_place 9 = .ok (.iload 5, 2) := by decide +kernel
theorem dX1_place_11 : decode cX1_place 11 = .ok (.ifCond .lt 20, 3) := by decide +kernel
theorem dX1_place_14 : decode cX1_place 14 = .ok (.iload 4, 2) := by decide +kernel
theorem dX1_place_16 : decode cX1_place 16 = .ok (.ifCond .lt 15, 3) := by decide +kernel
theorem dX1_place_19 : decode cX1_place 19 = .ok (.iload 4, 2) := by decide +kernel
theorem dX1_place_21 : decode cX1_place 21 = .ok (.aload_n 0, 1) := by decide +kernel
theorem dX1_place_22 : decode cX1_place 22 = .ok (.iload 5, 2) := by decide +kernel
theorem dX1_place_24 : decode cX1_place 24 = .ok (.iload_n 2, 1) := by decide +kernel
theorem dX1_place_25 : decode cX1_place 25 = .ok (.invokevirtual 50, 3) := by decide +kernel
theorem dX1_place_28 : decode cX1_place 28 = .ok (.if_icmp .lt 7, 3) := by decide +kernel
theorem dX1_place_31 : decode cX1_place 31 = .ok (.iconst (-1), 1) := by decide +kernel
theorem dX1_place_32 : decode cX1_place 32 = .ok (.goto 11, 3) := by decide +kernel
theorem dX1_place_35 : decode cX1_place 35 = .ok (.aload_n 0, 1) := by decide +kernel
theorem dX1_place_36 : decode cX1_place 36 = .ok (.iload 5, 2) := by decide +kernel
theorem dX1_place_38 : decode cX1_place 38 = .ok (.iload 4, 2) := by decide +kernel
theorem dX1_place_40 : decode cX1_place 40 = .ok (.invokevirtual 31, 3) := by decide +kernel
theorem dX1_place_43 : decode cX1_place 43 = .ok (.ireturn, 1) := by decide +kernel
abbrev cX1_sizeOf : ByteArray := prog_3_method_15_code
def yX1_sizeOf : MethodName := ⟨RX1, "sizeOf", "(II)I"⟩
theorem dX1_sizeOf_0 : decode cX1_sizeOf 0 = .ok (.iconst 0, 1) := by decide +kernel
theorem dX1_sizeOf_1 : decode cX1_sizeOf 1 = .ok (.istore_n 3, 1) := by decide +kernel
theorem dX1_sizeOf_2 : decode cX1_sizeOf 2 = .ok (.iload_n 3, 1) := by decide +kernel
theorem dX1_sizeOf_3 : decode cX1_sizeOf 3 = .ok (.iconst 5, 1) := by decide +kernel
theorem dX1_sizeOf_4 : decode cX1_sizeOf 4 = .ok (.if_icmp .ge 19, 3) := by decide +kernel
theorem dX1_sizeOf_7 : decode cX1_sizeOf 7 = .ok (.aload_n 0, 1) := by decide +kernel
theorem dX1_sizeOf_8 : decode cX1_sizeOf 8 = .ok (.iload_n 1, 1) := by decide +kernel
theorem dX1_sizeOf_9 : decode cX1_sizeOf 9 = .ok (.iload_n 3, 1) := by decide +kernel
theorem dX1_sizeOf_10 : decode cX1_sizeOf 10 = .ok (.invokevirtual 31, 3) := by decide +kernel
theorem dX1_sizeOf_13 : decode cX1_sizeOf 13 = .ok (.iload_n 2, 1) := by decide +kernel
theorem dX1_sizeOf_14 : decode cX1_sizeOf 14 = .ok (.if_icmp .eq 9, 3) := by decide +kernel
theorem dX1_sizeOf_17 : decode cX1_sizeOf 17 = .ok (.iinc 3 1, 3) := by decide +kernel
theorem dX1_sizeOf_20 : decode cX1_sizeOf 20 = .ok (.goto (-18), 3) := by decide +kernel
theorem dX1_sizeOf_23 : decode cX1_sizeOf 23 = .ok (.iload_n 3, 1) := by decide +kernel
theorem dX1_sizeOf_24 : decode cX1_sizeOf 24 = .ok (.iconst 1, 1) := by decide +kernel
theorem dX1_sizeOf_25 : decode cX1_sizeOf 25 = .ok (.iadd, 1) := by decide +kernel
theorem dX1_sizeOf_26 : decode cX1_sizeOf 26 = .ok (.ireturn, 1) := by decide +kernel
abbrev cX1_size : ByteArray := prog_3_method_17_code
def yX1_size : MethodName := ⟨RX1, "size", "(III)I"⟩
theorem dX1_size_0 : decode cX1_size 0 = .ok (.aload_n 0, 1) := by decide +kernel
theorem dX1_size_1 : decode cX1_size 1 = .ok (.iload_n 1, 1) := by decide +kernel
theorem dX1_size_2 : decode cX1_size 2 = .ok (.iload_n 2, 1) := by decide +kernel
theorem dX1_size_3 : decode cX1_size 3 = .ok (.iload_n 3, 1) := by decide +kernel
theorem dX1_size_4 : decode cX1_size 4 = .ok (.invokevirtual 46, 3) := by decide +kernel
theorem dX1_size_7 : decode cX1_size 7 = .ok (.istore 4, 2) := by decide +kernel
theorem dX1_size_9 : decode cX1_size 9 = .ok (.iload 4, 2) := by decide +kernel
theorem dX1_size_11 : decode cX1_size 11 = .ok (.ifCond .ge 7, 3) := by decide +kernel
theorem dX1_size_14 : decode cX1_size 14 = .ok (.iconst (-1), 1) := by decide +kernel
theorem dX1_size_15 : decode cX1_size 15 = .ok (.goto 10, 3) := by decide +kernel
theorem dX1_size_18 : decode cX1_size 18 = .ok (.aload_n 0, 1) := by decide +kernel
theorem dX1_size_19 : decode cX1_size 19 = .ok (.iload 4, 2) := by decide +kernel
theorem dX1_size_21 : decode cX1_size 21 = .ok (.iload_n 2, 1) := by decide +kernel
theorem dX1_size_22 : decode cX1_size 22 = .ok (.invokevirtual 50, 3) := by decide +kernel
theorem dX1_size_25 : decode cX1_size 25 = .ok (.ireturn, 1) := by decide +kernel
abbrev cX1_within : ByteArray := prog_3_method_18_code
def yX1_within : MethodName := ⟨RX1, "within", "(III)I"⟩
theorem dX1_within_0 : decode cX1_within 0 = .ok (.aload_n 0, 1) := by decide +kernel
theorem dX1_within_1 : decode cX1_within 1 = .ok (.iload_n 1, 1) := by decide +kernel
theorem dX1_within_2 : decode cX1_within 2 = .ok (.iload_n 2, 1) := by decide +kernel
theorem dX1_within_3 : decode cX1_within 3 = .ok (.invokevirtual 38, 3) := by decide +kernel
theorem dX1_within_6 : decode cX1_within 6 = .ok (.iconst 0, 1) := by decide +kernel
theorem dX1_within_7 : decode cX1_within 7 = .ok (.istore 4, 2) := by decide +kernel
theorem dX1_within_9 : decode cX1_within 9 = .ok (.iconst 0, 1) := by decide +kernel
theorem dX1_within_10 : decode cX1_within 10 = .ok (.istore 5, 2) := by decide +kernel
theorem dX1_within_12 : decode cX1_within 12 = .ok (.iload 5, 2) := by decide +kernel
theorem dX1_within_14 : decode cX1_within 14 = .ok (.aload_n 0, 1) := by decide +kernel
theorem dX1_within_15 : decode cX1_within 15 = .ok (.getfield 23, 3) := by decide +kernel
theorem dX1_within_18 : decode cX1_within 18 = .ok (.if_icmp .ge 31, 3) := by decide +kernel
theorem dX1_within_21 : decode cX1_within 21 = .ok (.aload_n 0, 1) := by decide +kernel
theorem dX1_within_22 : decode cX1_within 22 = .ok (.getfield 16, 3) := by decide +kernel
theorem dX1_within_25 : decode cX1_within 25 = .ok (.iload 5, 2) := by decide +kernel
theorem dX1_within_27 : decode cX1_within 27 = .ok (.iaload, 1) := by decide +kernel
theorem dX1_within_28 : decode cX1_within 28 = .ok (.iload_n 3, 1) := by decide +kernel
theorem dX1_within_29 : decode cX1_within 29 = .ok (.if_icmp .gt 10, 3) := by decide +kernel
theorem dX1_within_32 : decode cX1_within 32 = .ok (.iload 4, 2) := by decide +kernel
theorem dX1_within_34 : decode cX1_within 34 = .ok (.iconst 1, 1) := by decide +kernel
theorem dX1_within_35 : decode cX1_within 35 = .ok (.iadd, 1) := by decide +kernel
theorem dX1_within_36 : decode cX1_within 36 = .ok (.goto 5, 3) := by decide +kernel
theorem dX1_within_39 : decode cX1_within 39 = .ok (.iload 4, 2) := by decide +kernel
theorem dX1_within_41 : decode cX1_within 41 = .ok (.istore 4, 2) := by decide +kernel
theorem dX1_within_43 : decode cX1_within 43 = .ok (.iinc 5 1, 3) := by decide +kernel
theorem dX1_within_46 : decode cX1_within 46 = .ok (.goto (-34), 3) := by decide +kernel
theorem dX1_within_49 : decode cX1_within 49 = .ok (.iload 4, 2) := by decide +kernel
theorem dX1_within_51 : decode cX1_within 51 = .ok (.ireturn, 1) := by decide +kernel
abbrev cX1_shortest : ByteArray := prog_3_method_19_code
def yX1_shortest : MethodName := ⟨RX1, "shortest", "(II)I"⟩
theorem dX1_shortest_0 : decode cX1_shortest 0 = .ok (.aload_n 0, 1) := by decide +kernel
theorem dX1_shortest_1 : decode cX1_shortest 1 = .ok (.iload_n 1, 1) := by decide +kernel
theorem dX1_shortest_2 : decode cX1_shortest 2 = .ok (.iload_n 2, 1) := by decide +kernel
theorem dX1_shortest_3 : decode cX1_shortest 3 = .ok (.iconst 0, 1) := by decide +kernel
theorem dX1_shortest_4 : decode cX1_shortest 4 = .ok (.invokevirtual 53, 3) := by decide +kernel
theorem dX1_shortest_7 : decode cX1_shortest 7 = .ok (.istore_n 3, 1) := by decide +kernel
theorem dX1_shortest_8 : decode cX1_shortest 8 = .ok (.iload_n 3, 1) := by decide +kernel
theorem dX1_shortest_9 : decode cX1_shortest 9 = .ok (.ifCond .ge 7, 3) := by decide +kernel
theorem dX1_shortest_12 : decode cX1_shortest 12 = .ok (.iconst 0, 1) := by decide +kernel
theorem dX1_shortest_13 : decode cX1_shortest 13 = .ok (.goto 10, 3) := by decide +kernel
theorem dX1_shortest_16 : decode cX1_shortest 16 = .ok (.aload_n 0, 1) := by decide +kernel
theorem dX1_shortest_17 : decode cX1_shortest 17 = .ok (.iload_n 1, 1) := by decide +kernel
theorem dX1_shortest_18 : decode cX1_shortest 18 = .ok (.iload_n 2, 1) := by decide +kernel
theorem dX1_shortest_19 : decode cX1_shortest 19 = .ok (.iload_n 3, 1) := by decide +kernel
theorem dX1_shortest_20 : decode cX1_shortest 20 = .ok (.invokevirtual 56, 3) := by decide +kernel
theorem dX1_shortest_23 : decode cX1_shortest 23 = .ok (.ireturn, 1) := by decide +kernel
abbrev cX1_musts : ByteArray := prog_3_method_21_code
def yX1_musts : MethodName := ⟨RX1, "musts", "(II)I"⟩
theorem dX1_musts_0 : decode cX1_musts 0 = .ok (.aload_n 0, 1) := by decide +kernel
theorem dX1_musts_1 : decode cX1_musts 1 = .ok (.iload_n 1, 1) := by decide +kernel
theorem dX1_musts_2 : decode cX1_musts 2 = .ok (.iload_n 2, 1) := by decide +kernel
theorem dX1_musts_3 : decode cX1_musts 3 = .ok (.invokevirtual 38, 3) := by decide +kernel
theorem dX1_musts_6 : decode cX1_musts 6 = .ok (.iconst 0, 1) := by decide +kernel
theorem dX1_musts_7 : decode cX1_musts 7 = .ok (.istore_n 3, 1) := by decide +kernel
theorem dX1_musts_8 : decode cX1_musts 8 = .ok (.iconst 0, 1) := by decide +kernel
theorem dX1_musts_9 : decode cX1_musts 9 = .ok (.istore 4, 2) := by decide +kernel
theorem dX1_musts_11 : decode cX1_musts 11 = .ok (.iload 4, 2) := by decide +kernel
theorem dX1_musts_13 : decode cX1_musts 13 = .ok (.bipush 6, 2) := by decide +kernel
theorem dX1_musts_15 : decode cX1_musts 15 = .ok (.if_icmp .ge 93, 3) := by decide +kernel
theorem dX1_musts_18 : decode cX1_musts 18 = .ok (.aload_n 0, 1) := by decide +kernel
theorem dX1_musts_19 : decode cX1_musts 19 = .ok (.getfield 23, 3) := by decide +kernel
theorem dX1_musts_22 : decode cX1_musts 22 = .ok (.ifCond .le 86, 3) := by decide +kernel
theorem dX1_musts_25 : decode cX1_musts 25 = .ok (.iload 4, 2) := by decide +kernel
theorem dX1_musts_27 : decode cX1_musts 27 = .ok (.iload_n 1, 1) := by decide +kernel
theorem dX1_musts_28 : decode cX1_musts 28 = .ok (.if_icmp .eq 13, 3) := by decide +kernel
theorem dX1_musts_31 : decode cX1_musts 31 = .ok (.iload 4, 2) := by decide +kernel
theorem dX1_musts_33 : decode cX1_musts 33 = .ok (.iload_n 2, 1) := by decide +kernel
theorem dX1_musts_34 : decode cX1_musts 34 = .ok (.if_icmp .eq 7, 3) := by decide +kernel
theorem dX1_musts_37 : decode cX1_musts 37 = .ok (.iconst 1, 1) := by decide +kernel
theorem dX1_musts_38 : decode cX1_musts 38 = .ok (.goto 4, 3) := by decide +kernel
theorem dX1_musts_41 : decode cX1_musts 41 = .ok (.iconst 0, 1) := by decide +kernel
theorem dX1_musts_42 : decode cX1_musts 42 = .ok (.istore 5, 2) := by decide +kernel
theorem dX1_musts_44 : decode cX1_musts 44 = .ok (.iconst 0, 1) := by decide +kernel
theorem dX1_musts_45 : decode cX1_musts 45 = .ok (.istore 6, 2) := by decide +kernel
theorem dX1_musts_47 : decode cX1_musts 47 = .ok (.iload 6, 2) := by decide +kernel
theorem dX1_musts_49 : decode cX1_musts 49 = .ok (.aload_n 0, 1) := by decide +kernel
theorem dX1_musts_50 : decode cX1_musts 50 = .ok (.getfield 23, 3) := by decide +kernel
theorem dX1_musts_53 : decode cX1_musts 53 = .ok (.if_icmp .ge 33, 3) := by decide +kernel
theorem dX1_musts_56 : decode cX1_musts 56 = .ok (.iload 5, 2) := by decide +kernel
theorem dX1_musts_58 : decode cX1_musts 58 = .ok (.ifCond .eq 19, 3) := by decide +kernel
theorem dX1_musts_61 : decode cX1_musts 61 = .ok (.aload_n 0, 1) := by decide +kernel
theorem dX1_musts_62 : decode cX1_musts 62 = .ok (.iload 6, 2) := by decide +kernel
theorem dX1_musts_64 : decode cX1_musts 64 = .ok (.iload 4, 2) := by decide +kernel
theorem dX1_musts_66 : decode cX1_musts 66 = .ok (.iload_n 2, 1) := by decide +kernel
theorem dX1_musts_67 : decode cX1_musts 67 = .ok (.invokevirtual 59, 3) := by decide +kernel
theorem dX1_musts_70 : decode cX1_musts 70 = .ok (.ifCond .eq 7, 3) := by decide +kernel
theorem dX1_musts_73 : decode cX1_musts 73 = .ok (.iconst 1, 1) := by decide +kernel
theorem dX1_musts_74 : decode cX1_musts 74 = .ok (.goto 4, 3) := by decide +kernel
theorem dX1_musts_77 : decode cX1_musts 77 = .ok (.iconst 0, 1) := by decide +kernel
theorem dX1_musts_78 : decode cX1_musts 78 = .ok (.istore 5, 2) := by decide +kernel
theorem dX1_musts_80 : decode cX1_musts 80 = .ok (.iinc 6 1, 3) := by decide +kernel
theorem dX1_musts_83 : decode cX1_musts 83 = .ok (.goto (-36), 3) := by decide +kernel
theorem dX1_musts_86 : decode cX1_musts 86 = .ok (.iload 5, 2) := by decide +kernel
theorem dX1_musts_88 : decode cX1_musts 88 = .ok (.ifCond .eq 12, 3) := by decide +kernel
theorem dX1_musts_91 : decode cX1_musts 91 = .ok (.iload_n 3, 1) := by decide +kernel
theorem dX1_musts_92 : decode cX1_musts 92 = .ok (.iconst 1, 1) := by decide +kernel
theorem dX1_musts_93 : decode cX1_musts 93 = .ok (.iload 4, 2) := by decide +kernel
theorem dX1_musts_95 : decode cX1_musts 95 = .ok (.ishl, 1) := by decide +kernel
theorem dX1_musts_96 : decode cX1_musts 96 = .ok (.ior, 1) := by decide +kernel
theorem dX1_musts_97 : decode cX1_musts 97 = .ok (.goto 4, 3) := by decide +kernel
theorem dX1_musts_100 : decode cX1_musts 100 = .ok (.iload_n 3, 1) := by decide +kernel
theorem dX1_musts_101 : decode cX1_musts 101 = .ok (.istore_n 3, 1) := by decide +kernel
theorem dX1_musts_102 : decode cX1_musts 102 = .ok (.iinc 4 1, 3) := by decide +kernel
theorem dX1_musts_105 : decode cX1_musts 105 = .ok (.goto (-94), 3) := by decide +kernel
theorem dX1_musts_108 : decode cX1_musts 108 = .ok (.iload_n 3, 1) := by decide +kernel
theorem dX1_musts_109 : decode cX1_musts 109 = .ok (.ireturn, 1) := by decide +kernel
abbrev cX1_through : ByteArray := prog_3_method_20_code
def yX1_through : MethodName := ⟨RX1, "through", "(III)Z"⟩
theorem dX1_through_0 : decode cX1_through 0 = .ok (.aload_n 0, 1) := by decide +kernel
theorem dX1_through_1 : decode cX1_through 1 = .ok (.iload_n 1, 1) := by decide +kernel
theorem dX1_through_2 : decode cX1_through 2 = .ok (.iload_n 3, 1) := by decide +kernel
theorem dX1_through_3 : decode cX1_through 3 = .ok (.invokevirtual 50, 3) := by decide +kernel
theorem dX1_through_6 : decode cX1_through 6 = .ok (.istore 4, 2) := by decide +kernel
theorem dX1_through_8 : decode cX1_through 8 = .ok (.iconst 0, 1) := by decide +kernel
theorem dX1_through_9 : decode cX1_through 9 = .ok (.istore 5, 2) := by decide +kernel
theorem dX1_through_11 : decode cX1_through 11 = .ok (.iconst 0, 1) := by decide +kernel
theorem dX1_through_12 : decode cX1_through 12 = .ok (.istore 6, 2) := by decide +kernel
theorem dX1_through_14 : decode cX1_through 14 = .ok (.iload 6, 2) := by decide +kernel
theorem dX1_through_16 : decode cX1_through 16 = .ok (.iload 4, 2) := by decide +kernel
theorem dX1_through_18 : decode cX1_through 18 = .ok (.if_icmp .ge 32, 3) := by decide +kernel
theorem dX1_through_21 : decode cX1_through 21 = .ok (.iload 5, 2) := by decide +kernel
theorem dX1_through_23 : decode cX1_through 23 = .ok (.ifCond .ne 14, 3) := by decide +kernel
theorem dX1_through_26 : decode cX1_through 26 = .ok (.aload_n 0, 1) := by decide +kernel
theorem dX1_through_27 : decode cX1_through 27 = .ok (.iload_n 1, 1) := by decide +kernel
theorem dX1_through_28 : decode cX1_through 28 = .ok (.iload 6, 2) := by decide +kernel
theorem dX1_through_30 : decode cX1_through 30 = .ok (.invokevirtual 31, 3) := by decide +kernel
theorem dX1_through_33 : decode cX1_through 33 = .ok (.iload_n 2, 1) := by decide +kernel
theorem dX1_through_34 : decode cX1_through 34 = .ok (.if_icmp .ne 7, 3) := by decide +kernel
theorem dX1_through_37 : decode cX1_through 37 = .ok (.iconst 1, 1) := by decide +kernel
theorem dX1_through_38 : decode cX1_through 38 = .ok (.goto 4, 3) := by decide +kernel
theorem dX1_through_41 : decode cX1_through 41 = .ok (.iconst 0, 1) := by decide +kernel
theorem dX1_through_42 : decode cX1_through 42 = .ok (.istore 5, 2) := by decide +kernel
theorem dX1_through_44 : decode cX1_through 44 = .ok (.iinc 6 1, 3) := by decide +kernel
theorem dX1_through_47 : decode cX1_through 47 = .ok (.goto (-33), 3) := by decide +kernel
theorem dX1_through_50 : decode cX1_through 50 = .ok (.iload 5, 2) := by decide +kernel
theorem dX1_through_52 : decode cX1_through 52 = .ok (.ireturn, 1) := by decide +kernel
abbrev cX1_firstAvoiding : ByteArray := prog_3_method_22_code
def yX1_firstAvoiding : MethodName := ⟨RX1, "firstAvoiding", "(III)I"⟩
theorem dX1_firstAvoiding_0 : decode cX1_firstAvoiding 0 = .ok (.iload_n 3, 1) := by decide +kernel
theorem dX1_firstAvoiding_1 : decode cX1_firstAvoiding 1 = .ok (.iload_n 1, 1) := by decide +kernel
theorem dX1_firstAvoiding_2 : decode cX1_firstAvoiding 2 = .ok (.if_icmp .eq 17, 3) := by decide +kernel
theorem dX1_firstAvoiding_5 : decode cX1_firstAvoiding 5 = .ok (.iload_n 3, 1) := by decide +kernel
theorem dX1_firstAvoiding_6 : decode cX1_firstAvoiding 6 = .ok (.iload_n 2, 1) := by decide +kernel
theorem dX1_firstAvoiding_7 : decode cX1_firstAvoiding 7 = .ok (.if_icmp .eq 12, 3) := by decide +kernel
theorem dX1_firstAvoiding_10 : decode cX1_firstAvoiding 10 = .ok (.iload_n 3, 1) := by decide +kernel
theorem dX1_firstAvoiding_11 : decode cX1_firstAvoiding 11 = .ok (.ifCond .lt 8, 3) := by decide +kernel
theorem dX1_firstAvoiding_14 : decode cX1_firstAvoiding 14 = .ok (.iload_n 3, 1) := by decide +kernel
theorem dX1_firstAvoiding_15 : decode cX1_firstAvoiding 15 = .ok (.iconst 5, 1) := by decide +kernel
theorem dX1_firstAvoiding_16 : decode cX1_firstAvoiding 16 = .ok (.if_icmp .le 5, 3) := by decide +kernel
theorem dX1_firstAvoiding_19 : decode cX1_firstAvoiding 19 = .ok (.iconst (-1), 1) := by decide +kernel
theorem dX1_firstAvoiding_20 : decode cX1_firstAvoiding 20 = .ok (.ireturn, 1) := by decide +kernel
theorem dX1_firstAvoiding_21 : decode cX1_firstAvoiding 21 = .ok (.aload_n 0, 1) := by decide +kernel
theorem dX1_firstAvoiding_22 : decode cX1_firstAvoiding 22 = .ok (.iload_n 1, 1) := by decide +kernel
theorem dX1_firstAvoiding_23 : decode cX1_firstAvoiding 23 = .ok (.iload_n 2, 1) := by decide +kernel
theorem dX1_firstAvoiding_24 : decode cX1_firstAvoiding 24 = .ok (.invokevirtual 38, 3) := by decide +kernel
theorem dX1_firstAvoiding_27 : decode cX1_firstAvoiding 27 = .ok (.iconst (-1), 1) := by decide +kernel
theorem dX1_firstAvoiding_28 : decode cX1_firstAvoiding 28 = .ok (.istore 4, 2) := by decide +kernel
theorem dX1_firstAvoiding_30 : decode cX1_firstAvoiding 30 = .ok (.iconst 0, 1) := by decide +kernel
theorem dX1_firstAvoiding_31 : decode cX1_firstAvoiding 31 = .ok (.istore 5, 2) := by decide +kernel
theorem dX1_firstAvoiding_33 : decode cX1_firstAvoiding 33 = .ok (.iload 5, 2) := by decide +kernel
theorem dX1_firstAvoiding_35 : decode cX1_firstAvoiding 35 = .ok (.aload_n 0, 1) := by decide +kernel
theorem dX1_firstAvoiding_36 : decode cX1_firstAvoiding 36 = .ok (.getfield 23, 3) := by decide +kernel
theorem dX1_firstAvoiding_39 : decode cX1_firstAvoiding 39 = .ok (.if_icmp .ge 49, 3) := by decide +kernel
theorem dX1_firstAvoiding_42 : decode cX1_firstAvoiding 42 = .ok (.aload_n 0, 1) := by decide +kernel
theorem dX1_firstAvoiding_43 : decode cX1_firstAvoiding 43 = .ok (.iload 5, 2) := by decide +kernel
theorem dX1_firstAvoiding_45 : decode cX1_firstAvoiding 45 = .ok (.invokevirtual 42, 3) := by decide +kernel
theorem dX1_firstAvoiding_48 : decode cX1_firstAvoiding 48 = .ok (.istore 6, 2) := by decide +kernel
theorem dX1_firstAvoiding_50 : decode cX1_firstAvoiding 50 = .ok (.aload_n 0, 1) := by decide +kernel
theorem dX1_firstAvoiding_51 : decode cX1_firstAvoiding 51 = .ok (.iload 5, 2) := by decide +kernel
theorem dX1_firstAvoiding_53 : decode cX1_firstAvoiding 53 = .ok (.iload_n 3, 1) := by decide +kernel
theorem dX1_firstAvoiding_54 : decode cX1_firstAvoiding 54 = .ok (.iload_n 2, 1) := by decide +kernel
theorem dX1_firstAvoiding_55 : decode cX1_firstAvoiding 55 = .ok (.invokevirtual 59, 3) := by decide +kernel
theorem dX1_firstAvoiding_58 : decode cX1_firstAvoiding 58 = .ok (.ifCond .ne 20, 3) := by decide +kernel
theorem dX1_firstAvoiding_61 : decode cX1_firstAvoiding 61 = .ok (.iload 4, 2) := by decide +kernel
theorem dX1_firstAvoiding_63 : decode cX1_firstAvoiding 63 = .ok (.ifCond .lt 10, 3) := by decide +kernel
theorem dX1_firstAvoiding_66 : decode cX1_firstAvoiding 66 = .ok (.iload 6, 2) := by decide +kernel
theorem dX1_firstAvoiding_68 : decode cX1_firstAvoiding 68 = .ok (.iload 4, 2) := by decide +kernel
theorem dX1_firstAvoiding_70 : decode cX1_firstAvoiding 70 = .ok (.if_icmp .ge 8, 3) := by decide +kernel
theorem dX1_firstAvoiding_73 : decode cX1_firstAvoiding 73 = .ok (.iload 6, 2) := by decide +kernel
theorem dX1_firstAvoiding_75 : decode cX1_firstAvoiding 75 = .ok (.goto 5, 3) := by decide +kernel
theorem dX1_firstAvoiding_78 : decode cX1_firstAvoiding 78 = .ok (.iload 4, 2) := by decide +kernel
theorem dX1_firstAvoiding_80 : decode cX1_firstAvoiding 80 = .ok (.istore 4, 2) := by decide +kernel
theorem dX1_firstAvoiding_82 : decode cX1_firstAvoiding 82 = .ok (.iinc 5 1, 3) := by decide +kernel
theorem dX1_firstAvoiding_85 : decode cX1_firstAvoiding 85 = .ok (.goto (-52), 3) := by decide +kernel
theorem dX1_firstAvoiding_88 : decode cX1_firstAvoiding 88 = .ok (.iload 4, 2) := by decide +kernel
theorem dX1_firstAvoiding_90 : decode cX1_firstAvoiding 90 = .ok (.ireturn, 1) := by decide +kernel
abbrev cX1_detour : ByteArray := prog_3_method_23_code
def yX1_detour : MethodName := ⟨RX1, "detour", "(IIII)I"⟩
theorem dX1_detour_0 : decode cX1_detour 0 = .ok (.aload_n 0, 1) := by decide +kernel
theorem dX1_detour_1 : decode cX1_detour 1 = .ok (.iload_n 1, 1) := by decide +kernel
theorem dX1_detour_2 : decode cX1_detour 2 = .ok (.iload_n 2, 1) := by decide +kernel
theorem dX1_detour_3 : decode cX1_detour 3 = .ok (.iconst 0, 1) := by decide +kernel
theorem dX1_detour_4 : decode cX1_detour 4 = .ok (.invokevirtual 53, 3) := by decide +kernel
theorem dX1_detour_7 : decode cX1_detour 7 = .ok (.istore 5, 2) := by decide +kernel
theorem dX1_detour_9 : decode cX1_detour 9 = .ok (.aload_n 0, 1) := by decide +kernel
theorem dX1_detour_10 : decode cX1_detour 10 = .ok (.iload_n 3, 1) := by decide +kernel
theorem dX1_detour_11 : decode cX1_detour 11 = .ok (.iload 4, 2) := by decide +kernel
theorem dX1_detour_13 : decode cX1_detour 13 = .ok (.invokevirtual 63, 3) := by decide +kernel
theorem dX1_detour_16 : decode cX1_detour 16 = .ok (.istore 6, 2) := by decide +kernel
theorem dX1_detour_18 : decode cX1_detour 18 = .ok (.iload 5, 2) := by decide +kernel
theorem dX1_detour_20 : decode cX1_detour 20 = .ok (.ifCond .lt 8, 3) := by decide +kernel
theorem dX1_detour_23 : decode cX1_detour 23 = .ok (.iload 6, 2) := by decide +kernel
theorem dX1_detour_25 : decode cX1_detour 25 = .ok (.ifCond .ge 5, 3) := by decide +kernel
theorem dX1_detour_28 : decode cX1_detour 28 = .ok (.iconst 0, 1) := by decide +kernel
theorem dX1_detour_29 : decode cX1_detour 29 = .ok (.ireturn, 1) := by decide +kernel
theorem dX1_detour_30 : decode cX1_detour 30 = .ok (.aload_n 0, 1) := by decide +kernel
theorem dX1_detour_31 : decode cX1_detour 31 = .ok (.getfield 7, 3) := by decide +kernel
theorem dX1_detour_34 : decode cX1_detour 34 = .ok (.bipush 6, 2) := by decide +kernel
theorem dX1_detour_36 : decode cX1_detour 36 = .ok (.iload_n 3, 1) := by decide +kernel
theorem dX1_detour_37 : decode cX1_detour 37 = .ok (.imul, 1) := by decide +kernel
theorem dX1_detour_38 : decode cX1_detour 38 = .ok (.iload 4, 2) := by decide +kernel
theorem dX1_detour_40 : decode cX1_detour 40 = .ok (.iadd, 1) := by decide +kernel
theorem dX1_detour_41 : decode cX1_detour 41 = .ok (.iconst 0, 1) := by decide +kernel
theorem dX1_detour_42 : decode cX1_detour 42 = .ok (.iastore, 1) := by decide +kernel
theorem dX1_detour_43 : decode cX1_detour 43 = .ok (.aload_n 0, 1) := by decide +kernel
theorem dX1_detour_44 : decode cX1_detour 44 = .ok (.iload_n 1, 1) := by decide +kernel
theorem dX1_detour_45 : decode cX1_detour 45 = .ok (.iload_n 2, 1) := by decide +kernel
theorem dX1_detour_46 : decode cX1_detour 46 = .ok (.iconst 0, 1) := by decide +kernel
theorem dX1_detour_47 : decode cX1_detour 47 = .ok (.invokevirtual 53, 3) := by decide +kernel
theorem dX1_detour_50 : decode cX1_detour 50 = .ok (.istore 7, 2) := by decide +kernel
theorem dX1_detour_52 : decode cX1_detour 52 = .ok (.aload_n 0, 1) := by decide +kernel
theorem dX1_detour_53 : decode cX1_detour 53 = .ok (.getfield 7, 3) := by decide +kernel
theorem dX1_detour_56 : decode cX1_detour 56 = .ok (.bipush 6, 2) := by decide +kernel
theorem dX1_detour_58 : decode cX1_detour 58 = .ok (.iload_n 3, 1) := by decide +kernel
theorem dX1_detour_59 : decode cX1_detour 59 = .ok (.imul, 1) := by decide +kernel
theorem dX1_detour_60 : decode cX1_detour 60 = .ok (.iload 4, 2) := by decide +kernel
theorem dX1_detour_62 : decode cX1_detour 62 = .ok (.iadd, 1) := by decide +kernel
theorem dX1_detour_63 : decode cX1_detour 63 = .ok (.iload 6, 2) := by decide +kernel
theorem dX1_detour_65 : decode cX1_detour 65 = .ok (.iastore, 1) := by decide +kernel
theorem dX1_detour_66 : decode cX1_detour 66 = .ok (.iload 7, 2) := by decide +kernel
theorem dX1_detour_68 : decode cX1_detour 68 = .ok (.ifCond .ge 7, 3) := by decide +kernel
theorem dX1_detour_71 : decode cX1_detour 71 = .ok (.iconst (-1), 1) := by decide +kernel
theorem dX1_detour_72 : decode cX1_detour 72 = .ok (.goto 8, 3) := by decide +kernel
theorem dX1_detour_75 : decode cX1_detour 75 = .ok (.iload 7, 2) := by decide +kernel
theorem dX1_detour_77 : decode cX1_detour 77 = .ok (.iload 5, 2) := by decide +kernel
theorem dX1_detour_79 : decode cX1_detour 79 = .ok (.isub, 1) := by decide +kernel
theorem dX1_detour_80 : decode cX1_detour 80 = .ok (.ireturn, 1) := by decide +kernel
theorem q19 : (Jvm.Cond.initialized "PathRankerModel") ∈ lw_all := lw_g (lw_at lw_m1 2 rfl) rfl
theorem q172 : (Jvm.Cond.instantiable "PathRankerModel" (4 : Nat)) ∈ lw_all := lw_g (lw_at lw_m1 155 rfl) rfl
theorem q174 : (Jvm.Cond.instanceMethod ({ cls := "PathRankerModel", name := "<init>", desc := "()V" } : Jvm.MethodName)) ∈ lw_all := lw_g (lw_at lw_m1 157 rfl) rfl
theorem q175 : (Jvm.Cond.code ({ cls := "PathRankerModel", name := "<init>", desc := "()V" } : Jvm.MethodName) prog_3_method_1_code (1 : Nat) (Option.none : Option Jvm.ClassFile.FieldType)) ∈ lw_all := lw_g (lw_at lw_m1 158 rfl) rfl
theorem q176 : (Jvm.Cond.methodLink "PathRankerModel" (1 : Nat) ({ cls := "java/lang/Object", name := "<init>", desc := "()V" } : Jvm.MethodName)) ∈ lw_all := lw_g (lw_at lw_m1 159 rfl) rfl
theorem q177 : (Jvm.Cond.fieldLink "PathRankerModel" (7 : Nat) "PathRankerModel" "lengths" "[I") ∈ lw_all := lw_g (lw_at lw_m1 160 rfl) rfl
theorem q178 : (Jvm.Cond.fieldLink "PathRankerModel" (23 : Nat) "PathRankerModel" "count" "I") ∈ lw_all := lw_g (lw_at lw_m1 161 rfl) rfl
theorem q179 : (Jvm.Cond.fieldLink "PathRankerModel" (13 : Nat) "PathRankerModel" "ways" "[I") ∈ lw_all := lw_g (lw_at lw_m1 162 rfl) rfl
theorem q180 : (Jvm.Cond.fieldLink "PathRankerModel" (16 : Nat) "PathRankerModel" "sums" "[I") ∈ lw_all := lw_g (lw_at lw_m1 163 rfl) rfl
theorem q181 : (Jvm.Cond.lays "PathRankerModel" "PathRankerModel" "lengths" "[I") ∈ lw_all := lw_g (lw_at lw_m1 164 rfl) rfl
theorem q182 : (Jvm.Cond.soleField "PathRankerModel" "lengths") ∈ lw_all := lw_g (lw_at lw_m1 165 rfl) rfl
theorem q183 : (Jvm.Cond.lays "PathRankerModel" "PathRankerModel" "count" "I") ∈ lw_all := lw_g (lw_at lw_m1 166 rfl) rfl
theorem q184 : (Jvm.Cond.soleField "PathRankerModel" "count") ∈ lw_all := lw_g (lw_at lw_m1 167 rfl) rfl
theorem q185 : (Jvm.Cond.lays "PathRankerModel" "PathRankerModel" "ways" "[I") ∈ lw_all := lw_g (lw_at lw_m1 168 rfl) rfl
theorem q186 : (Jvm.Cond.soleField "PathRankerModel" "ways") ∈ lw_all := lw_g (lw_at lw_m1 169 rfl) rfl
theorem q187 : (Jvm.Cond.lays "PathRankerModel" "PathRankerModel" "sums" "[I") ∈ lw_all := lw_g (lw_at lw_m1 170 rfl) rfl
theorem q188 : (Jvm.Cond.soleField "PathRankerModel" "sums") ∈ lw_all := lw_g (lw_at lw_m1 171 rfl) rfl
theorem q189 : (Jvm.Cond.superclass "PathRankerModel" "java/lang/Object") ∈ lw_all := lw_g (lw_at lw_m1 172 rfl) rfl
theorem q191 : (Jvm.Cond.instanceMethod ({ cls := "PathRankerModel", name := "build", desc := "(III)Z" } : Jvm.MethodName)) ∈ lw_all := lw_g (lw_at lw_m1 174 rfl) rfl
theorem q192 : (Jvm.Cond.selects "PathRankerModel" ({ cls := "PathRankerModel", name := "build", desc := "(III)Z" } : Jvm.MethodName) ({ cls := "PathRankerModel", name := "build", desc := "(III)Z" } : Jvm.MethodName)) ∈ lw_all := lw_g (lw_at lw_m1 175 rfl) rfl
theorem q193 : (Jvm.Cond.code ({ cls := "PathRankerModel", name := "build", desc := "(III)Z" } : Jvm.MethodName) prog_3_method_3_code (4 : Nat) (Option.some Jvm.ClassFile.FieldType.boolean)) ∈ lw_all := lw_g (lw_at lw_m1 176 rfl) rfl
theorem q194 : (Jvm.Cond.methodLink "PathRankerModel" (19 : Nat) ({ cls := "PathRankerModel", name := "pair", desc := "(II)Z" } : Jvm.MethodName)) ∈ lw_all := lw_g (lw_at lw_m1 177 rfl) rfl
theorem q195 : (Jvm.Cond.privateMethod ({ cls := "PathRankerModel", name := "pair", desc := "(II)Z" } : Jvm.MethodName)) ∈ lw_tbl := lw_at lw_m1 178 rfl
theorem q196 : (Jvm.Cond.instanceMethod ({ cls := "PathRankerModel", name := "pair", desc := "(II)Z" } : Jvm.MethodName)) ∈ lw_all := lw_g (lw_at lw_m1 179 rfl) rfl
theorem q197 : (Jvm.Cond.code ({ cls := "PathRankerModel", name := "pair", desc := "(II)Z" } : Jvm.MethodName) prog_3_method_2_code (3 : Nat) (Option.some Jvm.ClassFile.FieldType.boolean)) ∈ lw_all := lw_g (lw_at lw_m1 180 rfl) rfl
theorem q199 : (Jvm.Cond.instanceMethod ({ cls := "PathRankerModel", name := "close", desc := "(II)Z" } : Jvm.MethodName)) ∈ lw_all := lw_g (lw_at lw_m1 182 rfl) rfl
theorem q200 : (Jvm.Cond.selects "PathRankerModel" ({ cls := "PathRankerModel", name := "close", desc := "(II)Z" } : Jvm.MethodName) ({ cls := "PathRankerModel", name := "close", desc := "(II)Z" } : Jvm.MethodName)) ∈ lw_all := lw_g (lw_at lw_m1 183 rfl) rfl
theorem q201 : (Jvm.Cond.code ({ cls := "PathRankerModel", name := "close", desc := "(II)Z" } : Jvm.MethodName) prog_3_method_4_code (3 : Nat) (Option.some Jvm.ClassFile.FieldType.boolean)) ∈ lw_all := lw_g (lw_at lw_m1 184 rfl) rfl
theorem q203 : (Jvm.Cond.instanceMethod ({ cls := "PathRankerModel", name := "road", desc := "(II)I" } : Jvm.MethodName)) ∈ lw_all := lw_g (lw_at lw_m1 186 rfl) rfl
theorem q204 : (Jvm.Cond.selects "PathRankerModel" ({ cls := "PathRankerModel", name := "road", desc := "(II)I" } : Jvm.MethodName) ({ cls := "PathRankerModel", name := "road", desc := "(II)I" } : Jvm.MethodName)) ∈ lw_all := lw_g (lw_at lw_m1 187 rfl) rfl
theorem q205 : (Jvm.Cond.code ({ cls := "PathRankerModel", name := "road", desc := "(II)I" } : Jvm.MethodName) prog_3_method_5_code (3 : Nat) (Option.some Jvm.ClassFile.FieldType.int)) ∈ lw_all := lw_g (lw_at lw_m1 188 rfl) rfl
theorem q207 : (Jvm.Cond.instanceMethod ({ cls := "PathRankerModel", name := "roads", desc := "()I" } : Jvm.MethodName)) ∈ lw_all := lw_g (lw_at lw_m1 190 rfl) rfl
theorem q208 : (Jvm.Cond.selects "PathRankerModel" ({ cls := "PathRankerModel", name := "roads", desc := "()I" } : Jvm.MethodName) ({ cls := "PathRankerModel", name := "roads", desc := "()I" } : Jvm.MethodName)) ∈ lw_all := lw_g (lw_at lw_m1 191 rfl) rfl
theorem q209 : (Jvm.Cond.code ({ cls := "PathRankerModel", name := "roads", desc := "()I" } : Jvm.MethodName) prog_3_method_6_code (3 : Nat) (Option.some Jvm.ClassFile.FieldType.int)) ∈ lw_all := lw_g (lw_at lw_m1 192 rfl) rfl
theorem q211 : (Jvm.Cond.instanceMethod ({ cls := "PathRankerModel", name := "ways", desc := "(II)I" } : Jvm.MethodName)) ∈ lw_all := lw_g (lw_at lw_m1 194 rfl) rfl
theorem q212 : (Jvm.Cond.selects "PathRankerModel" ({ cls := "PathRankerModel", name := "ways", desc := "(II)I" } : Jvm.MethodName) ({ cls := "PathRankerModel", name := "ways", desc := "(II)I" } : Jvm.MethodName)) ∈ lw_all := lw_g (lw_at lw_m1 195 rfl) rfl
theorem q213 : (Jvm.Cond.code ({ cls := "PathRankerModel", name := "ways", desc := "(II)I" } : Jvm.MethodName) prog_3_method_13_code (3 : Nat) (Option.some Jvm.ClassFile.FieldType.int)) ∈ lw_all := lw_g (lw_at lw_m1 196 rfl) rfl
theorem q214 : (Jvm.Cond.methodLink "PathRankerModel" (38 : Nat) ({ cls := "PathRankerModel", name := "list", desc := "(II)V" } : Jvm.MethodName)) ∈ lw_all := lw_g (lw_at lw_m1 197 rfl) rfl
theorem q215 : (Jvm.Cond.privateMethod ({ cls := "PathRankerModel", name := "list", desc := "(II)V" } : Jvm.MethodName)) ∈ lw_tbl := lw_at lw_m1 198 rfl
theorem q216 : (Jvm.Cond.instanceMethod ({ cls := "PathRankerModel", name := "list", desc := "(II)V" } : Jvm.MethodName)) ∈ lw_all := lw_g (lw_at lw_m1 199 rfl) rfl
theorem q217 : (Jvm.Cond.code ({ cls := "PathRankerModel", name := "list", desc := "(II)V" } : Jvm.MethodName) prog_3_method_8_code (4 : Nat) (Option.none : Option Jvm.ClassFile.FieldType)) ∈ lw_all := lw_g (lw_at lw_m1 200 rfl) rfl
theorem q218 : (Jvm.Cond.methodLink "PathRankerModel" (27 : Nat) ({ cls := "PathRankerModel", name := "look", desc := "(III)V" } : Jvm.MethodName)) ∈ lw_all := lw_g (lw_at lw_m1 201 rfl) rfl
theorem q219 : (Jvm.Cond.privateMethod ({ cls := "PathRankerModel", name := "look", desc := "(III)V" } : Jvm.MethodName)) ∈ lw_tbl := lw_at lw_m1 202 rfl
theorem q220 : (Jvm.Cond.instanceMethod ({ cls := "PathRankerModel", name := "look", desc := "(III)V" } : Jvm.MethodName)) ∈ lw_all := lw_g (lw_at lw_m1 203 rfl) rfl
theorem q221 : (Jvm.Cond.code ({ cls := "PathRankerModel", name := "look", desc := "(III)V" } : Jvm.MethodName) prog_3_method_7_code (14 : Nat) (Option.none : Option Jvm.ClassFile.FieldType)) ∈ lw_all := lw_g (lw_at lw_m1 204 rfl) rfl
theorem q223 : (Jvm.Cond.instanceMethod ({ cls := "PathRankerModel", name := "length", desc := "(III)I" } : Jvm.MethodName)) ∈ lw_all := lw_g (lw_at lw_m1 206 rfl) rfl
theorem q224 : (Jvm.Cond.selects "PathRankerModel" ({ cls := "PathRankerModel", name := "length", desc := "(III)I" } : Jvm.MethodName) ({ cls := "PathRankerModel", name := "length", desc := "(III)I" } : Jvm.MethodName)) ∈ lw_all := lw_g (lw_at lw_m1 207 rfl) rfl
theorem q225 : (Jvm.Cond.code ({ cls := "PathRankerModel", name := "length", desc := "(III)I" } : Jvm.MethodName) prog_3_method_14_code (5 : Nat) (Option.some Jvm.ClassFile.FieldType.int)) ∈ lw_all := lw_g (lw_at lw_m1 208 rfl) rfl
theorem q226 : (Jvm.Cond.methodLink "PathRankerModel" (46 : Nat) ({ cls := "PathRankerModel", name := "find", desc := "(III)I" } : Jvm.MethodName)) ∈ lw_all := lw_g (lw_at lw_m1 209 rfl) rfl
theorem q227 : (Jvm.Cond.privateMethod ({ cls := "PathRankerModel", name := "find", desc := "(III)I" } : Jvm.MethodName)) ∈ lw_tbl := lw_at lw_m1 210 rfl
theorem q228 : (Jvm.Cond.instanceMethod ({ cls := "PathRankerModel", name := "find", desc := "(III)I" } : Jvm.MethodName)) ∈ lw_all := lw_g (lw_at lw_m1 211 rfl) rfl
theorem q229 : (Jvm.Cond.code ({ cls := "PathRankerModel", name := "find", desc := "(III)I" } : Jvm.MethodName) prog_3_method_12_code (5 : Nat) (Option.some Jvm.ClassFile.FieldType.int)) ∈ lw_all := lw_g (lw_at lw_m1 212 rfl) rfl
theorem q230 : (Jvm.Cond.methodLink "PathRankerModel" (42 : Nat) ({ cls := "PathRankerModel", name := "rank", desc := "(I)I" } : Jvm.MethodName)) ∈ lw_all := lw_g (lw_at lw_m1 213 rfl) rfl
theorem q231 : (Jvm.Cond.privateMethod ({ cls := "PathRankerModel", name := "rank", desc := "(I)I" } : Jvm.MethodName)) ∈ lw_tbl := lw_at lw_m1 214 rfl
theorem q232 : (Jvm.Cond.instanceMethod ({ cls := "PathRankerModel", name := "rank", desc := "(I)I" } : Jvm.MethodName)) ∈ lw_all := lw_g (lw_at lw_m1 215 rfl) rfl
theorem q233 : (Jvm.Cond.code ({ cls := "PathRankerModel", name := "rank", desc := "(I)I" } : Jvm.MethodName) prog_3_method_11_code (4 : Nat) (Option.some Jvm.ClassFile.FieldType.int)) ∈ lw_all := lw_g (lw_at lw_m1 216 rfl) rfl
theorem q234 : (Jvm.Cond.methodLink "PathRankerModel" (35 : Nat) ({ cls := "PathRankerModel", name := "before", desc := "(II)Z" } : Jvm.MethodName)) ∈ lw_all := lw_g (lw_at lw_m1 217 rfl) rfl
theorem q235 : (Jvm.Cond.privateMethod ({ cls := "PathRankerModel", name := "before", desc := "(II)Z" } : Jvm.MethodName)) ∈ lw_tbl := lw_at lw_m1 218 rfl
theorem q236 : (Jvm.Cond.instanceMethod ({ cls := "PathRankerModel", name := "before", desc := "(II)Z" } : Jvm.MethodName)) ∈ lw_all := lw_g (lw_at lw_m1 219 rfl) rfl
theorem q237 : (Jvm.Cond.code ({ cls := "PathRankerModel", name := "before", desc := "(II)Z" } : Jvm.MethodName) prog_3_method_10_code (4 : Nat) (Option.some Jvm.ClassFile.FieldType.boolean)) ∈ lw_all := lw_g (lw_at lw_m1 220 rfl) rfl
theorem q238 : (Jvm.Cond.methodLink "PathRankerModel" (31 : Nat) ({ cls := "PathRankerModel", name := "digit", desc := "(II)I" } : Jvm.MethodName)) ∈ lw_all := lw_g (lw_at lw_m1 221 rfl) rfl
theorem q239 : (Jvm.Cond.privateMethod ({ cls := "PathRankerModel", name := "digit", desc := "(II)I" } : Jvm.MethodName)) ∈ lw_tbl := lw_at lw_m1 222 rfl
theorem q240 : (Jvm.Cond.instanceMethod ({ cls := "PathRankerModel", name := "digit", desc := "(II)I" } : Jvm.MethodName)) ∈ lw_all := lw_g (lw_at lw_m1 223 rfl) rfl
theorem q241 : (Jvm.Cond.code ({ cls := "PathRankerModel", name := "digit", desc := "(II)I" } : Jvm.MethodName) prog_3_method_9_code (3 : Nat) (Option.some Jvm.ClassFile.FieldType.int)) ∈ lw_all := lw_g (lw_at lw_m1 224 rfl) rfl
theorem q243 : (Jvm.Cond.instanceMethod ({ cls := "PathRankerModel", name := "place", desc := "(IIII)I" } : Jvm.MethodName)) ∈ lw_all := lw_g (lw_at lw_m1 226 rfl) rfl
theorem q244 : (Jvm.Cond.selects "PathRankerModel" ({ cls := "PathRankerModel", name := "place", desc := "(IIII)I" } : Jvm.MethodName) ({ cls := "PathRankerModel", name := "place", desc := "(IIII)I" } : Jvm.MethodName)) ∈ lw_all := lw_g (lw_at lw_m1 227 rfl) rfl
theorem q245 : (Jvm.Cond.code ({ cls := "PathRankerModel", name := "place", desc := "(IIII)I" } : Jvm.MethodName) prog_3_method_16_code (6 : Nat) (Option.some Jvm.ClassFile.FieldType.int)) ∈ lw_all := lw_g (lw_at lw_m1 228 rfl) rfl
theorem q246 : (Jvm.Cond.methodLink "PathRankerModel" (50 : Nat) ({ cls := "PathRankerModel", name := "sizeOf", desc := "(II)I" } : Jvm.MethodName)) ∈ lw_all := lw_g (lw_at lw_m1 229 rfl) rfl
theorem q247 : (Jvm.Cond.privateMethod ({ cls := "PathRankerModel", name := "sizeOf", desc := "(II)I" } : Jvm.MethodName)) ∈ lw_tbl := lw_at lw_m1 230 rfl
theorem q248 : (Jvm.Cond.instanceMethod ({ cls := "PathRankerModel", name := "sizeOf", desc := "(II)I" } : Jvm.MethodName)) ∈ lw_all := lw_g (lw_at lw_m1 231 rfl) rfl
theorem q249 : (Jvm.Cond.code ({ cls := "PathRankerModel", name := "sizeOf", desc := "(II)I" } : Jvm.MethodName) prog_3_method_15_code (4 : Nat) (Option.some Jvm.ClassFile.FieldType.int)) ∈ lw_all := lw_g (lw_at lw_m1 232 rfl) rfl
theorem q251 : (Jvm.Cond.instanceMethod ({ cls := "PathRankerModel", name := "size", desc := "(III)I" } : Jvm.MethodName)) ∈ lw_all := lw_g (lw_at lw_m1 234 rfl) rfl
theorem q252 : (Jvm.Cond.selects "PathRankerModel" ({ cls := "PathRankerModel", name := "size", desc := "(III)I" } : Jvm.MethodName) ({ cls := "PathRankerModel", name := "size", desc := "(III)I" } : Jvm.MethodName)) ∈ lw_all := lw_g (lw_at lw_m1 235 rfl) rfl
theorem q253 : (Jvm.Cond.code ({ cls := "PathRankerModel", name := "size", desc := "(III)I" } : Jvm.MethodName) prog_3_method_17_code (5 : Nat) (Option.some Jvm.ClassFile.FieldType.int)) ∈ lw_all := lw_g (lw_at lw_m1 236 rfl) rfl
theorem q255 : (Jvm.Cond.instanceMethod ({ cls := "PathRankerModel", name := "within", desc := "(III)I" } : Jvm.MethodName)) ∈ lw_all := lw_g (lw_at lw_m1 238 rfl) rfl
theorem q256 : (Jvm.Cond.selects "PathRankerModel" ({ cls := "PathRankerModel", name := "within", desc := "(III)I" } : Jvm.MethodName) ({ cls := "PathRankerModel", name := "within", desc := "(III)I" } : Jvm.MethodName)) ∈ lw_all := lw_g (lw_at lw_m1 239 rfl) rfl
theorem q257 : (Jvm.Cond.code ({ cls := "PathRankerModel", name := "within", desc := "(III)I" } : Jvm.MethodName) prog_3_method_18_code (6 : Nat) (Option.some Jvm.ClassFile.FieldType.int)) ∈ lw_all := lw_g (lw_at lw_m2 0 rfl) rfl
theorem q259 : (Jvm.Cond.instanceMethod ({ cls := "PathRankerModel", name := "shortest", desc := "(II)I" } : Jvm.MethodName)) ∈ lw_all := lw_g (lw_at lw_m2 2 rfl) rfl
theorem q260 : (Jvm.Cond.selects "PathRankerModel" ({ cls := "PathRankerModel", name := "shortest", desc := "(II)I" } : Jvm.MethodName) ({ cls := "PathRankerModel", name := "shortest", desc := "(II)I" } : Jvm.MethodName)) ∈ lw_all := lw_g (lw_at lw_m2 3 rfl) rfl
theorem q261 : (Jvm.Cond.code ({ cls := "PathRankerModel", name := "shortest", desc := "(II)I" } : Jvm.MethodName) prog_3_method_19_code (4 : Nat) (Option.some Jvm.ClassFile.FieldType.int)) ∈ lw_all := lw_g (lw_at lw_m2 4 rfl) rfl
theorem q262 : (Jvm.Cond.methodLink "PathRankerModel" (53 : Nat) ({ cls := "PathRankerModel", name := "length", desc := "(III)I" } : Jvm.MethodName)) ∈ lw_all := lw_g (lw_at lw_m2 5 rfl) rfl
theorem q263 : (Jvm.Cond.methodLink "PathRankerModel" (56 : Nat) ({ cls := "PathRankerModel", name := "within", desc := "(III)I" } : Jvm.MethodName)) ∈ lw_all := lw_g (lw_at lw_m2 6 rfl) rfl
theorem q265 : (Jvm.Cond.instanceMethod ({ cls := "PathRankerModel", name := "musts", desc := "(II)I" } : Jvm.MethodName)) ∈ lw_all := lw_g (lw_at lw_m2 8 rfl) rfl
theorem q266 : (Jvm.Cond.selects "PathRankerModel" ({ cls := "PathRankerModel", name := "musts", desc := "(II)I" } : Jvm.MethodName) ({ cls := "PathRankerModel", name := "musts", desc := "(II)I" } : Jvm.MethodName)) ∈ lw_all := lw_g (lw_at lw_m2 9 rfl) rfl
theorem q267 : (Jvm.Cond.code ({ cls := "PathRankerModel", name := "musts", desc := "(II)I" } : Jvm.MethodName) prog_3_method_21_code (7 : Nat) (Option.some Jvm.ClassFile.FieldType.int)) ∈ lw_all := lw_g (lw_at lw_m2 10 rfl) rfl
theorem q268 : (Jvm.Cond.methodLink "PathRankerModel" (59 : Nat) ({ cls := "PathRankerModel", name := "through", desc := "(III)Z" } : Jvm.MethodName)) ∈ lw_all := lw_g (lw_at lw_m2 11 rfl) rfl
theorem q269 : (Jvm.Cond.privateMethod ({ cls := "PathRankerModel", name := "through", desc := "(III)Z" } : Jvm.MethodName)) ∈ lw_tbl := lw_at lw_m2 12 rfl
theorem q270 : (Jvm.Cond.instanceMethod ({ cls := "PathRankerModel", name := "through", desc := "(III)Z" } : Jvm.MethodName)) ∈ lw_all := lw_g (lw_at lw_m2 13 rfl) rfl
theorem q271 : (Jvm.Cond.code ({ cls := "PathRankerModel", name := "through", desc := "(III)Z" } : Jvm.MethodName) prog_3_method_20_code (7 : Nat) (Option.some Jvm.ClassFile.FieldType.boolean)) ∈ lw_all := lw_g (lw_at lw_m2 14 rfl) rfl
theorem q273 : (Jvm.Cond.instanceMethod ({ cls := "PathRankerModel", name := "firstAvoiding", desc := "(III)I" } : Jvm.MethodName)) ∈ lw_all := lw_g (lw_at lw_m2 16 rfl) rfl
theorem q274 : (Jvm.Cond.selects "PathRankerModel" ({ cls := "PathRankerModel", name := "firstAvoiding", desc := "(III)I" } : Jvm.MethodName) ({ cls := "PathRankerModel", name := "firstAvoiding", desc := "(III)I" } : Jvm.MethodName)) ∈ lw_all := lw_g (lw_at lw_m2 17 rfl) rfl
theorem q275 : (Jvm.Cond.code ({ cls := "PathRankerModel", name := "firstAvoiding", desc := "(III)I" } : Jvm.MethodName) prog_3_method_22_code (7 : Nat) (Option.some Jvm.ClassFile.FieldType.int)) ∈ lw_all := lw_g (lw_at lw_m2 18 rfl) rfl
theorem q277 : (Jvm.Cond.instanceMethod ({ cls := "PathRankerModel", name := "detour", desc := "(IIII)I" } : Jvm.MethodName)) ∈ lw_all := lw_g (lw_at lw_m2 20 rfl) rfl
theorem q278 : (Jvm.Cond.selects "PathRankerModel" ({ cls := "PathRankerModel", name := "detour", desc := "(IIII)I" } : Jvm.MethodName) ({ cls := "PathRankerModel", name := "detour", desc := "(IIII)I" } : Jvm.MethodName)) ∈ lw_all := lw_g (lw_at lw_m2 21 rfl) rfl
theorem q279 : (Jvm.Cond.code ({ cls := "PathRankerModel", name := "detour", desc := "(IIII)I" } : Jvm.MethodName) prog_3_method_23_code (8 : Nat) (Option.some Jvm.ClassFile.FieldType.int)) ∈ lw_all := lw_g (lw_at lw_m2 22 rfl) rfl
theorem q280 : (Jvm.Cond.methodLink "PathRankerModel" (63 : Nat) ({ cls := "PathRankerModel", name := "road", desc := "(II)I" } : Jvm.MethodName)) ∈ lw_all := lw_g (lw_at lw_m2 23 rfl) rfl
theorem in_X1 : ∀ w ∈ wsX10, w ∈ lw_all := lw_in wsX10 [181, 183, 185, 187] (by decide +kernel) (by decide +kernel)
end
section
set_option maxRecDepth 100000
theorem q71 : (Jvm.Cond.arrayClass Jvm.ClassFile.FieldType.byte) ∈ lw_all := lw_g (lw_at lw_m1 54 rfl) rfl
theorem q72 : (Jvm.Cond.arrayClass Jvm.ClassFile.FieldType.short) ∈ lw_all := lw_g (lw_at lw_m1 55 rfl) rfl
theorem q73 : (Jvm.Cond.arrayClass Jvm.ClassFile.FieldType.int) ∈ lw_all := lw_g (lw_at lw_m1 56 rfl) rfl
/-! java/lang/Object -/
def RJ0 : String := "java/lang/Object"
abbrev cJ0_init : ByteArray := object_method_1_code
def yJ0_init : MethodName := ⟨RJ0, "<init>", "()V"⟩
theorem dJ0_init_0 : decode cJ0_init 0 = .ok (.return_, 1) := by decide +kernel
theorem q26 : (Jvm.Cond.instanceMethod ({ cls := "java/lang/Object", name := "<init>", desc := "()V" } : Jvm.MethodName)) ∈ lw_all := lw_g (lw_at lw_m1 9 rfl) rfl
theorem q27 : (Jvm.Cond.code ({ cls := "java/lang/Object", name := "<init>", desc := "()V" } : Jvm.MethodName) object_method_1_code (1 : Nat) (Option.none : Option Jvm.ClassFile.FieldType)) ∈ lw_all := lw_g (lw_at lw_m1 10 rfl) rfl
theorem q17 : (Jvm.Cond.initialized "PathRankerLaw") ∈ lw_all := lw_g (lw_at lw_m1 0 rfl) rfl
theorem q20 : (Jvm.Cond.classLink "PathRankerLaw" (7 : Nat) "PathRanker") ∈ lw_all := lw_g (lw_at lw_m1 3 rfl) rfl
theorem q22 : (Jvm.Cond.methodLink "PathRankerLaw" (9 : Nat) ({ cls := "PathRanker", name := "<init>", desc := "()V" } : Jvm.MethodName)) ∈ lw_all := lw_g (lw_at lw_m1 5 rfl) rfl
theorem q74 : (Jvm.Cond.methodLink "PathRankerLaw" (13 : Nat) ({ cls := "PathRanker", name := "build", desc := "(III)Z" } : Jvm.MethodName)) ∈ lw_all := lw_g (lw_at lw_m1 57 rfl) rfl
theorem q84 : (Jvm.Cond.methodLink "PathRankerLaw" (18 : Nat) ({ cls := "PathRanker", name := "close", desc := "(II)Z" } : Jvm.MethodName)) ∈ lw_all := lw_g (lw_at lw_m1 67 rfl) rfl
theorem q92 : (Jvm.Cond.methodLink "PathRankerLaw" (23 : Nat) ({ cls := "PathRanker", name := "road", desc := "(II)I" } : Jvm.MethodName)) ∈ lw_all := lw_g (lw_at lw_m1 75 rfl) rfl
theorem q93 : (Jvm.Cond.methodLink "PathRankerLaw" (28 : Nat) ({ cls := "PathRanker", name := "roads", desc := "()I" } : Jvm.MethodName)) ∈ lw_all := lw_g (lw_at lw_m1 76 rfl) rfl
theorem q97 : (Jvm.Cond.methodLink "PathRankerLaw" (33 : Nat) ({ cls := "PathRanker", name := "ways", desc := "(II)I" } : Jvm.MethodName)) ∈ lw_all := lw_g (lw_at lw_m1 80 rfl) rfl
theorem q129 : (Jvm.Cond.methodLink "PathRankerLaw" (37 : Nat) ({ cls := "PathRanker", name := "length", desc := "(III)I" } : Jvm.MethodName)) ∈ lw_all := lw_g (lw_at lw_m1 112 rfl) rfl
theorem q137 : (Jvm.Cond.methodLink "PathRankerLaw" (42 : Nat) ({ cls := "PathRanker", name := "place", desc := "(IIII)I" } : Jvm.MethodName)) ∈ lw_all := lw_g (lw_at lw_m1 120 rfl) rfl
theorem q141 : (Jvm.Cond.methodLink "PathRankerLaw" (47 : Nat) ({ cls := "PathRanker", name := "size", desc := "(III)I" } : Jvm.MethodName)) ∈ lw_all := lw_g (lw_at lw_m1 124 rfl) rfl
theorem q145 : (Jvm.Cond.methodLink "PathRankerLaw" (51 : Nat) ({ cls := "PathRanker", name := "within", desc := "(III)I" } : Jvm.MethodName)) ∈ lw_all := lw_g (lw_at lw_m1 128 rfl) rfl
theorem q149 : (Jvm.Cond.methodLink "PathRankerLaw" (55 : Nat) ({ cls := "PathRanker", name := "shortest", desc := "(II)I" } : Jvm.MethodName)) ∈ lw_all := lw_g (lw_at lw_m1 132 rfl) rfl
theorem q155 : (Jvm.Cond.methodLink "PathRankerLaw" (59 : Nat) ({ cls := "PathRanker", name := "musts", desc := "(II)I" } : Jvm.MethodName)) ∈ lw_all := lw_g (lw_at lw_m1 138 rfl) rfl
theorem q163 : (Jvm.Cond.methodLink "PathRankerLaw" (63 : Nat) ({ cls := "PathRanker", name := "firstAvoiding", desc := "(III)I" } : Jvm.MethodName)) ∈ lw_all := lw_g (lw_at lw_m1 146 rfl) rfl
theorem q167 : (Jvm.Cond.methodLink "PathRankerLaw" (67 : Nat) ({ cls := "PathRanker", name := "detour", desc := "(IIII)I" } : Jvm.MethodName)) ∈ lw_all := lw_g (lw_at lw_m1 150 rfl) rfl
theorem q171 : (Jvm.Cond.classLink "PathRankerLaw" (10 : Nat) "PathRankerModel") ∈ lw_all := lw_g (lw_at lw_m1 154 rfl) rfl
theorem q173 : (Jvm.Cond.methodLink "PathRankerLaw" (12 : Nat) ({ cls := "PathRankerModel", name := "<init>", desc := "()V" } : Jvm.MethodName)) ∈ lw_all := lw_g (lw_at lw_m1 156 rfl) rfl
theorem q190 : (Jvm.Cond.methodLink "PathRankerLaw" (17 : Nat) ({ cls := "PathRankerModel", name := "build", desc := "(III)Z" } : Jvm.MethodName)) ∈ lw_all := lw_g (lw_at lw_m1 173 rfl) rfl
theorem q198 : (Jvm.Cond.methodLink "PathRankerLaw" (22 : Nat) ({ cls := "PathRankerModel", name := "close", desc := "(II)Z" } : Jvm.MethodName)) ∈ lw_all := lw_g (lw_at lw_m1 181 rfl) rfl
theorem q202 : (Jvm.Cond.methodLink "PathRankerLaw" (27 : Nat) ({ cls := "PathRankerModel", name := "road", desc := "(II)I" } : Jvm.MethodName)) ∈ lw_all := lw_g (lw_at lw_m1 185 rfl) rfl
theorem q206 : (Jvm.Cond.methodLink "PathRankerLaw" (32 : Nat) ({ cls := "PathRankerModel", name := "roads", desc := "()I" } : Jvm.MethodName)) ∈ lw_all := lw_g (lw_at lw_m1 189 rfl) rfl
theorem q210 : (Jvm.Cond.methodLink "PathRankerLaw" (36 : Nat) ({ cls := "PathRankerModel", name := "ways", desc := "(II)I" } : Jvm.MethodName)) ∈ lw_all := lw_g (lw_at lw_m1 193 rfl) rfl
theorem q222 : (Jvm.Cond.methodLink "PathRankerLaw" (41 : Nat) ({ cls := "PathRankerModel", name := "length", desc := "(III)I" } : Jvm.MethodName)) ∈ lw_all := lw_g (lw_at lw_m1 205 rfl) rfl
theorem q242 : (Jvm.Cond.methodLink "PathRankerLaw" (46 : Nat) ({ cls := "PathRankerModel", name := "place", desc := "(IIII)I" } : Jvm.MethodName)) ∈ lw_all := lw_g (lw_at lw_m1 225 rfl) rfl
theorem q250 : (Jvm.Cond.methodLink "PathRankerLaw" (50 : Nat) ({ cls := "PathRankerModel", name := "size", desc := "(III)I" } : Jvm.MethodName)) ∈ lw_all := lw_g (lw_at lw_m1 233 rfl) rfl
theorem q254 : (Jvm.Cond.methodLink "PathRankerLaw" (54 : Nat) ({ cls := "PathRankerModel", name := "within", desc := "(III)I" } : Jvm.MethodName)) ∈ lw_all := lw_g (lw_at lw_m1 237 rfl) rfl
theorem q258 : (Jvm.Cond.methodLink "PathRankerLaw" (58 : Nat) ({ cls := "PathRankerModel", name := "shortest", desc := "(II)I" } : Jvm.MethodName)) ∈ lw_all := lw_g (lw_at lw_m2 1 rfl) rfl
theorem q264 : (Jvm.Cond.methodLink "PathRankerLaw" (62 : Nat) ({ cls := "PathRankerModel", name := "musts", desc := "(II)I" } : Jvm.MethodName)) ∈ lw_all := lw_g (lw_at lw_m2 7 rfl) rfl
theorem q272 : (Jvm.Cond.methodLink "PathRankerLaw" (66 : Nat) ({ cls := "PathRankerModel", name := "firstAvoiding", desc := "(III)I" } : Jvm.MethodName)) ∈ lw_all := lw_g (lw_at lw_m2 15 rfl) rfl
theorem q276 : (Jvm.Cond.methodLink "PathRankerLaw" (70 : Nat) ({ cls := "PathRankerModel", name := "detour", desc := "(IIII)I" } : Jvm.MethodName)) ∈ lw_all := lw_g (lw_at lw_m2 19 rfl) rfl
end
section
/-! plain facts on numbers and arrays, to paste: each family by itself; over the kit's rows on nI and upd -/
/-! ===== order of ints, in all its forms, and through longs ===== -/
theorem fa_lt (a b : Int32) : a < b ↔ a.toInt < b.toInt := Int32.lt_iff_toInt_lt
theorem fa_le (a b : Int32) : a ≤ b ↔ a.toInt ≤ b.toInt := Int32.le_iff_toInt_le
theorem fa_eq (a b : Int32) : a = b ↔ a.toInt = b.toInt := Int32.toInt_inj.symm
theorem fa_lt64 (a b : Int64) : a < b ↔ a.toInt < b.toInt := Int64.lt_iff_toInt_lt
theorem fa_le64 (a b : Int64) : a ≤ b ↔ a.toInt ≤ b.toInt := Int64.le_iff_toInt_le
theorem fa_eq64 (a b : Int64) : a = b ↔ a.toInt = b.toInt := Int64.toInt_inj.symm
/-- a comparison of two ints taken as longs -/
theorem fa_wide_lt (a b : Int32) : a.toInt64 < b.toInt64 ↔ a < b := by rw [fa_lt64, fa_lt, Int32.toInt_toInt64, Int32.toInt_toInt64]
theorem fa_wide_le (a b : Int32) : a.toInt64 ≤ b.toInt64 ↔ a ≤ b := by rw [fa_le64, fa_le, Int32.toInt_toInt64, Int32.toInt_toInt64]
theorem fa_wide_eq (a b : Int32) : a.toInt64 = b.toInt64 ↔ a = b := by rw [fa_eq64, fa_eq, Int32.toInt_toInt64, Int32.toInt_toInt64]
/-- one strict comparison gives all the others -/
theorem fa_of_lt {a b : Int32} (h : a < b) : a ≤ b ∧ ¬ b ≤ a ∧ ¬ b < a ∧ a ≠ b ∧ b ≠ a := by
  rw [fa_lt] at h
  refine ⟨?_, ?_, ?_, ?_, ?_⟩
  · rw [fa_le]; omega
  · rw [fa_le]; omega
  · rw [fa_lt]; omega
  · intro e; rw [fa_eq] at e; omega
  · intro e; rw [fa_eq] at e; omega
theorem fa_of_nlt {a b : Int32} (h : ¬ a < b) : b ≤ a := by
  rw [fa_lt] at h
  rw [fa_le]
  omega
theorem fa_of_nle {a b : Int32} (h : ¬ a ≤ b) : b < a := by
  rw [fa_le] at h
  rw [fa_lt]
  omega
theorem fa_le_ne {a b : Int32} (h : a ≤ b) (h2 : a ≠ b) : a < b := by
  rw [fa_le] at h
  rw [fa_lt]
  have h3 : a.toInt ≠ b.toInt := fun e => h2 ((fa_eq a b).mpr e)
  omega
theorem fa_three (a b : Int32) : a < b ∨ a = b ∨ b < a := by
  rw [fa_lt, fa_lt, fa_eq]
  omega
theorem fa_trans {a b c : Int32} (h : a < b) (h2 : b ≤ c) : a < c := by
  rw [fa_lt] at *
  rw [fa_le] at h2
  omega
/-! ===== small literals as numbers ===== -/
theorem fa_lit (n : Nat) : (OfNat.ofNat n : Int32) = nI n := rfl
theorem fa_litL (n : Nat) : (OfNat.ofNat n : Int64) = lN n := rfl
/-! ===== bits of a number: 'or', masks, one bit ===== -/
theorem fa_and (a b : Nat) : nI a &&& nI b = nI (a &&& b) := by
  apply Int32.toBitVec_inj.1
  show BitVec.ofNat 32 a &&& BitVec.ofNat 32 b = BitVec.ofNat 32 (a &&& b)
  apply BitVec.eq_of_getLsbD_eq
  intro i hi
  simp [hi]
theorem fa_or (a b : Nat) : nI a ||| nI b = nI (a ||| b) := by
  apply Int32.toBitVec_inj.1
  show BitVec.ofNat 32 a ||| BitVec.ofNat 32 b = BitVec.ofNat 32 (a ||| b)
  apply BitVec.eq_of_getLsbD_eq
  intro i hi
  simp [hi]
/-- a remainder by a power of two, as a mask -/
theorem fa_mask (n k : Nat) : nI n &&& nI (2 ^ k - 1) = nI (n % 2 ^ k) := by rw [fa_and, Nat.and_two_pow_sub_one_eq_mod]
/-- 'or' of a high part and a low one that don't meet is their sum -/
theorem fa_or_sum {a k : Nat} (b : Nat) (h : a < 2 ^ k) : nI (2 ^ k * b) ||| nI a = nI (2 ^ k * b + a) := by rw [fa_or, Nat.two_pow_add_eq_or_of_lt h]
/-- one bit, by 'and' with a power of two -/
theorem fa_bit {n j : Nat} (hj : j < 31) : nI n &&& nI (2 ^ j) = 0 ↔ n.testBit j = false := by
  have h2 : (2 : Nat) ^ j < 2 ^ 31 := Nat.pow_lt_pow_right (by decide) hj
  have hle : n &&& 2 ^ j ≤ 2 ^ j := Nat.and_le_right
  have e : n &&& 2 ^ j = 0 ↔ n.testBit j = false := by
    constructor
    · intro h
      have h1 : (n &&& 2 ^ j).testBit j = false := by rw [h]; simp
      rw [Nat.testBit_and] at h1
      first | simpa using h1 | simpa [Nat.testBit_two_pow_self] using h1 | simpa [Nat.testBit_two_pow] using h1
    · intro h
      apply Nat.eq_of_testBit_eq
      intro i
      rw [Nat.testBit_and]
      by_cases hi : j = i
      · subst hi; simp [h]
      · first | (simp [Nat.testBit_two_pow, hi]; done) | (simp [Nat.testBit_two_pow_of_ne hi]; done)
  rw [fa_and]
  constructor
  · intro h
    apply e.mp
    rcases Nat.eq_zero_or_pos (n &&& 2 ^ j) with z | z
    · exact z
    · exact absurd h (nI_ne0 z (Nat.lt_of_le_of_lt hle h2))
  · intro h
    rw [e.mpr h]; exact nI_0
/-- a remainder by a power of two of a number that isn't negative, as Java divides -/
theorem fa_rem {a k : Nat} (ha : a < 2 ^ 31) (hk : k < 31) : nI a - nI a / nI (2 ^ k) * nI (2 ^ k) = nI (a % 2 ^ k) := pk_rem ha (Nat.two_pow_pos k) (Nat.pow_lt_pow_right (by decide) hk)
/-! ===== cuts to a byte, a short ===== -/
theorem fa_byte_xor (x y : Int32) : (x ^^^ y).toInt8 = x.toInt8 ^^^ y.toInt8 := by
  apply Int8.toBitVec_inj.1
  apply BitVec.eq_of_getLsbD_eq
  intro i hi
  first | (simp [hi]; done) | (simp [hi, BitVec.getLsbD_setWidth, BitVec.getLsbD_signExtend]; done)
theorem fa_short_xor (x y : Int32) : (x ^^^ y).toInt16 = x.toInt16 ^^^ y.toInt16 := by
  apply Int16.toBitVec_inj.1
  apply BitVec.eq_of_getLsbD_eq
  intro i hi
  first | (simp [hi]; done) | (simp [hi, BitVec.getLsbD_setWidth, BitVec.getLsbD_signExtend]; done)
/-- the cut to a byte sees the low byte alone -/
theorem fa_byte_low (x : Int32) : (x &&& 255).toInt8 = x.toInt8 := by
  apply Int8.toBitVec_inj.1
  apply BitVec.eq_of_getLsbD_eq
  intro i hi
  have h2 : (255 : Int32).toBitVec.getLsbD i = true := by
    have : ∀ j : Fin 8, (255 : Int32).toBitVec.getLsbD j.val = true := by decide +kernel
    exact this ⟨i, hi⟩
  have h4 : (x &&& 255).toBitVec.getLsbD i = x.toBitVec.getLsbD i := by
    show (x.toBitVec &&& (255 : Int32).toBitVec).getLsbD i = _
    rw [BitVec.getLsbD_and, h2, Bool.and_true]
  have h3 : i < 32 := by omega
  first
    | (show (((x &&& 255).toBitVec).signExtend 8).getLsbD i = (x.toBitVec.signExtend 8).getLsbD i; rw [BitVec.getLsbD_signExtend, BitVec.getLsbD_signExtend, if_pos h3, if_pos h3, h4])
    | (show (((x &&& 255).toBitVec).setWidth 8).getLsbD i = (x.toBitVec.setWidth 8).getLsbD i; rw [BitVec.getLsbD_setWidth, BitVec.getLsbD_setWidth, h4])
    | (simp [hi, h3, h4]; done)
theorem fa_short_low (x : Int32) : (x &&& 65535).toInt16 = x.toInt16 := by
  apply Int16.toBitVec_inj.1
  apply BitVec.eq_of_getLsbD_eq
  intro i hi
  have h2 : (65535 : Int32).toBitVec.getLsbD i = true := by
    have : ∀ j : Fin 16, (65535 : Int32).toBitVec.getLsbD j.val = true := by decide +kernel
    exact this ⟨i, hi⟩
  have h4 : (x &&& 65535).toBitVec.getLsbD i = x.toBitVec.getLsbD i := by
    show (x.toBitVec &&& (65535 : Int32).toBitVec).getLsbD i = _
    rw [BitVec.getLsbD_and, h2, Bool.and_true]
  have h3 : i < 32 := by omega
  first
    | (show (((x &&& 65535).toBitVec).signExtend 16).getLsbD i = (x.toBitVec.signExtend 16).getLsbD i; rw [BitVec.getLsbD_signExtend, BitVec.getLsbD_signExtend, if_pos h3, if_pos h3, h4])
    | (show (((x &&& 65535).toBitVec).setWidth 16).getLsbD i = (x.toBitVec.setWidth 16).getLsbD i; rw [BitVec.getLsbD_setWidth, BitVec.getLsbD_setWidth, h4])
    | (simp [hi, h3, h4]; done)
/-- a small number is its own byte, its own short -/
theorem fa_byte_small {n : Nat} (h : n < 128) : (nI n).toInt8.toInt32 = nI n := by
  have : ∀ j : Fin 128, (nI j.val).toInt8.toInt32 = nI j.val := by decide +kernel
  exact this ⟨n, h⟩
/-! ===== absolute difference ===== -/
theorem fa_absdiff {a b : Nat} (ha : a < 2 ^ 31) (hb : b < 2 ^ 31) : (if nI a < nI b then nI b - nI a else nI a - nI b) = nI (if a < b then b - a else a - b) := by
  by_cases h : a < b
  · rw [if_pos (nI_lt h hb), if_pos h]
    exact pk_sub (Nat.le_of_lt h)
  · rw [if_neg (nI_nlt (Nat.le_of_not_lt h) ha), if_neg h]
    exact pk_sub (Nat.le_of_not_lt h)
/-! ===== an array behind i stores, a conditional store, a row copied ===== -/
/-- f where k < i, what stood there else -/
def fa_fill {α : Type} (f g : Nat → α) (i : Nat) : Nat → α := fun k => if k < i then f k else g k
theorem fa_fill_0 {α : Type} (f g : Nat → α) : fa_fill f g 0 = g := funext fun k => if_neg (Nat.not_lt_zero k)
theorem fa_fill_in {α : Type} {f g : Nat → α} {i k : Nat} (h : k < i) : fa_fill f g i k = f k := if_pos h
theorem fa_fill_out {α : Type} {f g : Nat → α} {i k : Nat} (h : i ≤ k) : fa_fill f g i k = g k := if_neg (Nat.not_lt.mpr h)
theorem fa_fill_succ (f g : Nat → Int32) (i : Nat) : upd (fa_fill f g i) i (f i) = fa_fill f g (i + 1) := by
  funext k
  by_cases e : k = i
  · subst e
    rw [pk_us]
    exact (if_pos (Nat.lt_succ_self k)).symm
  · rw [pk_un e]
    by_cases h : k < i
    · rw [fa_fill_in h, fa_fill_in (Nat.lt_succ_of_lt h)]
    · rw [fa_fill_out (Nat.le_of_not_lt h), fa_fill_out (by omega)]
/-- a store that changes nothing -/
theorem fa_upd_same {f : Nat → Int32} {i : Nat} {x : Int32} (h : f i = x) : upd f i x = f := by
  funext k
  by_cases e : k = i
  · subst e
    rw [pk_us, h]
  · rw [pk_un e]
/-- a store under a condition, told as one -/
theorem fa_upd_if (c : Prop) [Decidable c] (f : Nat → Int32) (i : Nat) (x : Int32) : (if c then upd f i x else f) = upd f i (if c then x else f i) := by
  by_cases h : c
  · rw [if_pos h, if_pos h]
  · rw [if_neg h, if_neg h, fa_upd_same rfl]
/-- two stores at one place, at two -/
theorem fa_upd_twice (f : Nat → Int32) (i : Nat) (x y : Int32) : upd (upd f i x) i y = upd f i y := by
  funext k
  by_cases e : k = i
  · subst e
    rw [pk_us, pk_us]
  · rw [pk_un e, pk_un e, pk_un e]
theorem fa_upd_swap (f : Nat → Int32) {i j : Nat} (h : i ≠ j) (x y : Int32) : upd (upd f i x) j y = upd (upd f j y) i x := by
  funext k
  by_cases e : k = i
  · subst e
    rw [pk_un h, pk_us, pk_us]
  · by_cases e2 : k = j
    · subst e2
      rw [pk_us, pk_un e, pk_us]
    · rw [pk_un e2, pk_un e, pk_un e, pk_un e2]
/-! ===== the first index with a property; a count ===== -/
/-- the first k < n with p k, n if there is none -/
def fa_first (p : Nat → Bool) : Nat → Nat
  | 0 => 0
  | n + 1 => if fa_first p n < n then fa_first p n else if p n then n else n + 1
theorem fa_first_le (p : Nat → Bool) : ∀ n, fa_first p n ≤ n
  | 0 => Nat.le_refl 0
  | n + 1 => by
    have ih := fa_first_le p n
    unfold fa_first
    split
    · omega
    · split
      · omega
      · omega
theorem fa_first_no (p : Nat → Bool) : ∀ n k, k < fa_first p n → p k = false
  | 0, k, h => absurd h (Nat.not_lt_zero k)
  | n + 1, k, h => by
    have ih := fa_first_no p n
    have hl := fa_first_le p n
    unfold fa_first at h
    split at h
    · exact ih k h
    · rename_i h1
      split at h
      · exact ih k (by omega)
      · rename_i h2
        by_cases e : k = n
        · subst e
          exact Bool.eq_false_iff.mpr h2
        · exact ih k (by omega)
theorem fa_first_yes (p : Nat → Bool) : ∀ n, fa_first p n < n → p (fa_first p n) = true
  | 0, h => absurd h (Nat.not_lt_zero _)
  | n + 1, h => by
    have ih := fa_first_yes p n
    have hl := fa_first_le p n
    unfold fa_first at h ⊢
    split at h
    · rename_i h1
      rw [if_pos h1]
      exact ih h1
    · rename_i h1
      rw [if_neg h1]
      split at h
      · rename_i h2
        rw [if_pos h2]
        exact h2
      · omega
/-- how many k < n have p k -/
def fa_cnt (p : Nat → Bool) : Nat → Nat
  | 0 => 0
  | n + 1 => fa_cnt p n + if p n then 1 else 0
theorem fa_cnt_le (p : Nat → Bool) : ∀ n, fa_cnt p n ≤ n
  | 0 => Nat.le_refl 0
  | n + 1 => by
    have ih := fa_cnt_le p n
    unfold fa_cnt
    split
    · omega
    · omega
theorem fa_cnt_yes {p : Nat → Bool} {n : Nat} (h : p n = true) : fa_cnt p (n + 1) = fa_cnt p n + 1 := by rw [fa_cnt, if_pos h]
theorem fa_cnt_no {p : Nat → Bool} {n : Nat} (h : p n = false) : fa_cnt p (n + 1) = fa_cnt p n := by rw [fa_cnt, if_neg (by rw [h]; decide)]; rfl
theorem fa_cnt_cong {p q : Nat → Bool} : ∀ {n : Nat}, (∀ k, k < n → p k = q k) → fa_cnt p n = fa_cnt q n
  | 0, _ => rfl
  | n + 1, h => by rw [fa_cnt, fa_cnt, fa_cnt_cong (fun k hk => h k (Nat.lt_succ_of_lt hk)), h n (Nat.lt_succ_self n)]
/-! ===== an answer carried into a post; a branch on a boolean answer ===== -/
theorem fa_post {α : Type} {P : α → Prop} {x y : α} (h : x = y) (hp : P y) : P x := h ▸ hp
theorem fa_post2 {α β : Type} {P : α → β → Prop} {x y : α} {u v : β} (h : x = y) (h2 : u = v) (hp : P y v) : P x u := h ▸ h2 ▸ hp
theorem fa_bool {r : Int32} {b : Bool} (h : r = if b then 1 else 0) : (r = 0 ↔ b = false) ∧ (¬ r = 0 ↔ b = true) := by
  subst h
  cases b
  · exact ⟨⟨fun _ => rfl, fun _ => rfl⟩, ⟨fun h => absurd rfl h, fun h => absurd h (by decide)⟩⟩
  · exact ⟨⟨fun h => absurd h (by decide), fun h => absurd h (by decide)⟩, ⟨fun _ => rfl, fun _ => by decide⟩⟩
/-- a boolean's narrowing changes nothing -/
theorem fa_bool_and {r : Int32} (h : r = 0 ∨ r = 1) : r &&& 1 = r := by
  rcases h with rfl | rfl
  · decide
  · decide
theorem fa_bool_prop {c : Prop} [Decidable c] {r : Int32} (h : r = if c then 1 else 0) : (r = 0 ↔ ¬ c) ∧ (¬ r = 0 ↔ c) := by
  subst h
  by_cases hc : c
  · rw [if_pos hc]
    exact ⟨⟨fun h => absurd h (by decide), fun h => absurd hc h⟩, ⟨fun _ => hc, fun _ => by decide⟩⟩
  · rw [if_neg hc]
    exact ⟨⟨fun _ => hc, fun _ => rfl⟩, ⟨fun h => absurd rfl h, fun h => absurd h hc⟩⟩
/-! plain facts to paste, each family by itself; over the kit's nI, lN and upd -/
/-! ===== drawers: more things than places ===== -/
theorem fb_holes : ∀ (m n : Nat) (f : Nat → Nat), (∀ i, i < n → f i < m) → (∀ i j, i < j → j < n → f i ≠ f j) → n ≤ m := by
  intro m
  induction m with
  | zero =>
    intro n f h1 _
    rcases Nat.eq_zero_or_pos n with h | h
    · omega
    · exact absurd (h1 0 h) (Nat.not_lt_zero _)
  | succ m ih =>
    intro n f h1 h2
    by_cases hx : ∃ i, i < n ∧ f i = m
    · obtain ⟨a, ha, hfa⟩ := hx
      have hg := ih (n - 1) (fun i => if i < a then f i else f (i + 1)) (by
        intro i hi
        by_cases q : i < a
        · simp only [if_pos q]
          have b1 := h1 i (by omega)
          have b2 := h2 i a q ha
          omega
        · simp only [if_neg q]
          have b1 := h1 (i + 1) (by omega)
          have b2 := h2 a (i + 1) (by omega) (by omega)
          omega) (by
        intro i j hij hj
        by_cases q : i < a
        · by_cases r : j < a
          · simp only [if_pos q, if_pos r]
            exact h2 i j hij (by omega)
          · simp only [if_pos q, if_neg r]
            exact h2 i (j + 1) (by omega) (by omega)
        · have r : ¬ j < a := by omega
          simp only [if_neg q, if_neg r]
          exact h2 (i + 1) (j + 1) (by omega) (by omega))
      omega
    · have hg := ih n f (fun i hi => by
        have b1 := h1 i hi
        have b2 : f i ≠ m := fun e => hx ⟨i, hi, e⟩
        omega) h2
      omega
/-- two of them in one place -/
theorem fb_twice {m n : Nat} {f : Nat → Nat} (h : ∀ i, i < n → f i < m) (hm : m < n) : ∃ i j, i < j ∧ j < n ∧ f i = f j := by
  refine Classical.byContradiction fun hx => ?_
  have := fb_holes m n f h (fun i j hij hj e => hx ⟨i, j, hij, hj, e⟩)
  omega
/-- as many as places, none twice: each place is taken -/
theorem fb_onto {n : Nat} {f : Nat → Nat} (h : ∀ i, i < n → f i < n) (h2 : ∀ i j, i < j → j < n → f i ≠ f j) {y : Nat} (hy : y < n) : ∃ i, i < n ∧ f i = y := by
  refine Classical.byContradiction fun hx => ?_
  have hne : ∀ i, i < n → f i ≠ y := fun i hi e => hx ⟨i, hi, e⟩
  have := fb_holes (n - 1) n (fun i => if f i < y then f i else f i - 1) (by
    intro i hi
    have b1 := h i hi
    have b2 := hne i hi
    by_cases q : f i < y
    · simp only [if_pos q]; omega
    · simp only [if_neg q]; omega) (by
    intro i j hij hj
    have b1 := hne i (by omega)
    have b2 := hne j hj
    have b3 := h2 i j hij hj
    by_cases q : f i < y
    · by_cases r : f j < y
      · simp only [if_pos q, if_pos r]; exact b3
      · simp only [if_pos q, if_neg r]; omega
    · by_cases r : f j < y
      · simp only [if_neg q, if_pos r]; omega
      · simp only [if_neg q, if_neg r]; omega)
  omega
/-! ===== how many places have a property ===== -/
def fb_ct (p : Nat → Bool) : Nat → Nat
  | 0 => 0
  | n + 1 => fb_ct p n + (if p n then 1 else 0)
theorem fb_ct_succ (p : Nat → Bool) (n : Nat) : fb_ct p (n + 1) = fb_ct p n + (if p n then 1 else 0) := rfl
theorem fb_ct_le (p : Nat → Bool) : ∀ n, fb_ct p n ≤ n
  | 0 => Nat.le_refl _
  | n + 1 => by
    have h := fb_ct_le p n
    rw [fb_ct_succ]
    split <;> omega
theorem fb_ct_step (p : Nat → Bool) (m : Nat) : ∀ n, fb_ct p m ≤ fb_ct p (m + n)
  | 0 => Nat.le_refl _
  | n + 1 => by
    have h := fb_ct_step p m n
    show fb_ct p m ≤ fb_ct p (m + n + 1)
    rw [fb_ct_succ]
    omega
theorem fb_ct_mono (p : Nat → Bool) {m n : Nat} (h : m ≤ n) : fb_ct p m ≤ fb_ct p n := by
  have := fb_ct_step p m (n - m)
  rwa [Nat.add_sub_cancel' h] at this
theorem fb_ct_cong {p q : Nat → Bool} : ∀ {n : Nat}, (∀ k, k < n → p k = q k) → fb_ct p n = fb_ct q n
  | 0, _ => rfl
  | n + 1, h => by
    rw [fb_ct_succ, fb_ct_succ, fb_ct_cong (fun k hk => h k (by omega)), h n (by omega)]
/-- one place changed -/
theorem fb_ct_out (p : Nat → Bool) (b : Bool) {i n : Nat} (h : n ≤ i) : fb_ct (fun k => if k = i then b else p k) n = fb_ct p n :=
  fb_ct_cong fun k hk => if_neg (by omega)
theorem fb_ct_upd (p : Nat → Bool) (b : Bool) {i : Nat} : ∀ {n : Nat}, i < n → fb_ct (fun k => if k = i then b else p k) n + (if p i then 1 else 0) = fb_ct p n + (if b then 1 else 0)
  | 0, h => absurd h (Nat.not_lt_zero i)
  | n + 1, h => by
    rw [fb_ct_succ, fb_ct_succ]
    rcases Nat.lt_or_ge i n with q | q
    · have := fb_ct_upd p b q
      have e : (if n = i then b else p n) = p n := if_neg (by omega)
      rw [e]
      omega
    · have e : i = n := by omega
      subst e
      rw [fb_ct_out p b (Nat.le_refl _)]
      simp only [if_true]
      omega
theorem fb_ct_sub {p q : Nat → Bool} : ∀ {n : Nat}, (∀ k, k < n → p k = true → q k = true) → fb_ct p n ≤ fb_ct q n
  | 0, _ => Nat.le_refl _
  | n + 1, h => by
    have h1 := fb_ct_sub (n := n) (p := p) (q := q) (fun k hk => h k (by omega))
    have h2 := h n (by omega)
    rw [fb_ct_succ, fb_ct_succ]
    cases hp : p n <;> cases hq : q n <;> simp_all <;> omega
theorem fb_ct_or {p q : Nat → Bool} : ∀ {n : Nat}, (∀ k, k < n → ¬ (p k = true ∧ q k = true)) → fb_ct (fun k => p k || q k) n = fb_ct p n + fb_ct q n
  | 0, _ => rfl
  | n + 1, h => by
    have h1 := fb_ct_or (n := n) (p := p) (q := q) (fun k hk => h k (by omega))
    have h2 := h n (by omega)
    rw [fb_ct_succ, fb_ct_succ, fb_ct_succ, h1]
    cases hp : p n <;> cases hq : q n <;> simp_all <;> omega
theorem fb_ct_not (p : Nat → Bool) : ∀ n, fb_ct p n + fb_ct (fun k => !p k) n = n
  | 0 => rfl
  | n + 1 => by
    have h := fb_ct_not p n
    rw [fb_ct_succ, fb_ct_succ]
    cases p n <;> simp <;> omega
theorem fb_ct_split (p : Nat → Bool) (m : Nat) : ∀ n, fb_ct p (m + n) = fb_ct p m + fb_ct (fun k => p (m + k)) n
  | 0 => rfl
  | n + 1 => by
    have h := fb_ct_split p m n
    show fb_ct p (m + n + 1) = _
    rw [fb_ct_succ, fb_ct_succ, h, Nat.add_assoc]
theorem fb_ct_zero {p : Nat → Bool} : ∀ {n : Nat}, fb_ct p n = 0 ↔ ∀ k, k < n → p k = false
  | 0 => ⟨fun _ k hk => absurd hk (Nat.not_lt_zero k), fun _ => rfl⟩
  | n + 1 => by
    have h := fb_ct_zero (p := p) (n := n)
    rw [fb_ct_succ]
    constructor
    · intro e k hk
      have e1 : fb_ct p n = 0 := by omega
      rcases Nat.lt_or_ge k n with q | q
      · exact h.mp e1 k q
      · have ek : k = n := by omega
        subst ek
        cases hp : p k
        · rfl
        · simp [hp] at e
    · intro a
      rw [h.mpr (fun k hk => a k (by omega)), a n (by omega)]
      rfl
theorem fb_ct_pos {p : Nat → Bool} {n : Nat} : 0 < fb_ct p n ↔ ∃ k, k < n ∧ p k = true := by
  constructor
  · intro h
    refine Classical.byContradiction fun hx => ?_
    have := fb_ct_zero.mpr (fun k hk => by
      cases hp : p k
      · rfl
      · exact absurd ⟨k, hk, hp⟩ hx : ∀ k, k < n → p k = false)
    omega
  · rintro ⟨k, hk, hp⟩
    rcases Nat.eq_zero_or_pos (fb_ct p n) with e | e
    · have := fb_ct_zero.mp e k hk
      rw [this] at hp
      cases hp
    · exact e
theorem fb_ct_all {p : Nat → Bool} {n : Nat} : fb_ct p n = n ↔ ∀ k, k < n → p k = true := by
  have h := fb_ct_not p n
  constructor
  · intro e k hk
    have z : fb_ct (fun k => !p k) n = 0 := by omega
    have := fb_ct_zero.mp z k hk
    cases hp : p k
    · simp [hp] at this
    · rfl
  · intro a
    have z : fb_ct (fun k => !p k) n = 0 := fb_ct_zero.mpr (fun k hk => by simp [a k hk])
    omega
/-- the k-th place with the property -/
theorem fb_ct_kth {p : Nat → Bool} {k : Nat} : ∀ {n : Nat}, k < fb_ct p n → ∃ i, i < n ∧ p i = true ∧ fb_ct p i = k
  | 0, h => absurd h (Nat.not_lt_zero k)
  | n + 1, h => by
    rcases Nat.lt_or_ge k (fb_ct p n) with q | q
    · obtain ⟨i, h1, h2⟩ := fb_ct_kth q
      exact ⟨i, by omega, h2⟩
    · rw [fb_ct_succ] at h
      cases hp : p n
      · simp [hp] at h; omega
      · simp [hp] at h
        exact ⟨n, by omega, hp, by omega⟩
theorem fb_ct_kth_one {p : Nat → Bool} {i j : Nat} (hi : p i = true) (hj : p j = true) (e : fb_ct p i = fb_ct p j) : i = j := by
  have key : ∀ a b : Nat, a < b → p a = true → fb_ct p a < fb_ct p b := by
    intro a b hab ha
    have h := fb_ct_mono p (show a + 1 ≤ b from hab)
    rw [fb_ct_succ, ha] at h
    simp at h
    omega
  rcases Nat.lt_trichotomy i j with q | q | q
  · have := key i j q hi; omega
  · exact q
  · have := key j i q hj; omega
/-! ===== sums over a range: one place changed, parts, bounds ===== -/
def fb_sm (f : Nat → Nat) : Nat → Nat
  | 0 => 0
  | n + 1 => fb_sm f n + f n
theorem fb_sm_succ (f : Nat → Nat) (n : Nat) : fb_sm f (n + 1) = fb_sm f n + f n := rfl
theorem fb_sm_cong {f g : Nat → Nat} : ∀ {n : Nat}, (∀ k, k < n → f k = g k) → fb_sm f n = fb_sm g n
  | 0, _ => rfl
  | n + 1, h => by rw [fb_sm_succ, fb_sm_succ, fb_sm_cong (fun k hk => h k (by omega)), h n (by omega)]
theorem fb_sm_out (f : Nat → Nat) (v : Nat) {i n : Nat} (h : n ≤ i) : fb_sm (fun k => if k = i then v else f k) n = fb_sm f n :=
  fb_sm_cong fun k hk => if_neg (by omega)
theorem fb_sm_upd (f : Nat → Nat) (v : Nat) {i : Nat} : ∀ {n : Nat}, i < n → fb_sm (fun k => if k = i then v else f k) n + f i = fb_sm f n + v
  | 0, h => absurd h (Nat.not_lt_zero i)
  | n + 1, h => by
    rw [fb_sm_succ, fb_sm_succ]
    rcases Nat.lt_or_ge i n with q | q
    · have := fb_sm_upd f v q
      have e : (if n = i then v else f n) = f n := if_neg (by omega)
      rw [e]
      omega
    · have e : i = n := by omega
      subst e
      rw [fb_sm_out f v (Nat.le_refl _)]
      simp only [if_true]
      omega
theorem fb_sm_add (f g : Nat → Nat) : ∀ n, fb_sm (fun k => f k + g k) n = fb_sm f n + fb_sm g n
  | 0 => rfl
  | n + 1 => by
    have h := fb_sm_add f g n
    rw [fb_sm_succ, fb_sm_succ, fb_sm_succ, h]
    omega
theorem fb_sm_le {f g : Nat → Nat} : ∀ {n : Nat}, (∀ k, k < n → f k ≤ g k) → fb_sm f n ≤ fb_sm g n
  | 0, _ => Nat.le_refl _
  | n + 1, h => by
    have h1 := fb_sm_le (n := n) (f := f) (g := g) (fun k hk => h k (by omega))
    have h2 := h n (by omega)
    rw [fb_sm_succ, fb_sm_succ]
    omega
theorem fb_sm_const (c : Nat) : ∀ n, fb_sm (fun _ => c) n = n * c
  | 0 => by rw [Nat.zero_mul]; rfl
  | n + 1 => by rw [fb_sm_succ, fb_sm_const c n, Nat.succ_mul]
theorem fb_sm_bound {f : Nat → Nat} {c n : Nat} (h : ∀ k, k < n → f k ≤ c) : fb_sm f n ≤ n * c := by
  rw [← fb_sm_const c n]
  exact fb_sm_le h
theorem fb_sm_mono (f : Nat → Nat) (m : Nat) : ∀ n, fb_sm f m ≤ fb_sm f (m + n)
  | 0 => Nat.le_refl _
  | n + 1 => by
    have h := fb_sm_mono f m n
    show fb_sm f m ≤ fb_sm f (m + n + 1)
    rw [fb_sm_succ]
    omega
theorem fb_sm_part (f : Nat → Nat) {i n : Nat} (h : i < n) : fb_sm f i + f i ≤ fb_sm f n := by
  have := fb_sm_mono f (i + 1) (n - (i + 1))
  rw [fb_sm_succ, show i + 1 + (n - (i + 1)) = n by omega] at this
  exact this
theorem fb_sm_split (f : Nat → Nat) (m : Nat) : ∀ n, fb_sm f (m + n) = fb_sm f m + fb_sm (fun k => f (m + k)) n
  | 0 => rfl
  | n + 1 => by
    have h := fb_sm_split f m n
    show fb_sm f (m + n + 1) = _
    rw [fb_sm_succ, fb_sm_succ, h, Nat.add_assoc]
theorem fb_sm_zero {f : Nat → Nat} {n : Nat} (h : fb_sm f n = 0) : ∀ k, k < n → f k = 0 := fun k hk => by
  have := fb_sm_part f hk
  omega
/-- the same over whole numbers -/
def fb_si (f : Nat → Int) : Nat → Int
  | 0 => 0
  | n + 1 => fb_si f n + f n
theorem fb_si_succ (f : Nat → Int) (n : Nat) : fb_si f (n + 1) = fb_si f n + f n := rfl
theorem fb_si_cong {f g : Nat → Int} : ∀ {n : Nat}, (∀ k, k < n → f k = g k) → fb_si f n = fb_si g n
  | 0, _ => rfl
  | n + 1, h => by rw [fb_si_succ, fb_si_succ, fb_si_cong (fun k hk => h k (by omega)), h n (by omega)]
theorem fb_si_out (f : Nat → Int) (v : Int) {i n : Nat} (h : n ≤ i) : fb_si (fun k => if k = i then v else f k) n = fb_si f n :=
  fb_si_cong fun k hk => if_neg (by omega)
theorem fb_si_upd (f : Nat → Int) (v : Int) {i : Nat} : ∀ {n : Nat}, i < n → fb_si (fun k => if k = i then v else f k) n = fb_si f n - f i + v
  | 0, h => absurd h (Nat.not_lt_zero i)
  | n + 1, h => by
    rw [fb_si_succ, fb_si_succ]
    rcases Nat.lt_or_ge i n with q | q
    · have := fb_si_upd f v q
      have e : (if n = i then v else f n) = f n := if_neg (by omega)
      rw [e]
      omega
    · have e : i = n := by omega
      subst e
      rw [fb_si_out f v (Nat.le_refl _)]
      simp only [if_true]
      omega
theorem fb_si_add (f g : Nat → Int) : ∀ n, fb_si (fun k => f k + g k) n = fb_si f n + fb_si g n
  | 0 => rfl
  | n + 1 => by
    have h := fb_si_add f g n
    rw [fb_si_succ, fb_si_succ, fb_si_succ, h]
    omega
theorem fb_si_sub (f g : Nat → Int) : ∀ n, fb_si (fun k => f k - g k) n = fb_si f n - fb_si g n
  | 0 => rfl
  | n + 1 => by
    have h := fb_si_sub f g n
    rw [fb_si_succ, fb_si_succ, fb_si_succ, h]
    omega
theorem fb_si_mul (c : Int) (f : Nat → Int) : ∀ n, fb_si (fun k => c * f k) n = c * fb_si f n
  | 0 => (Int.mul_zero c).symm
  | n + 1 => by
    have h := fb_si_mul c f n
    rw [fb_si_succ, fb_si_succ, h, Int.mul_add]
theorem fb_si_split (f : Nat → Int) (m : Nat) : ∀ n, fb_si f (m + n) = fb_si f m + fb_si (fun k => f (m + k)) n
  | 0 => (Int.add_zero _).symm
  | n + 1 => by
    have h := fb_si_split f m n
    show fb_si f (m + n + 1) = _
    rw [fb_si_succ, fb_si_succ, h, Int.add_assoc]
theorem fb_si_nat (f : Nat → Nat) : ∀ n, fb_si (fun k => (f k : Int)) n = (fb_sm f n : Int)
  | 0 => rfl
  | n + 1 => by
    have h := fb_si_nat f n
    rw [fb_si_succ, fb_sm_succ, h]
    omega
theorem fb_si_bound {f : Nat → Int} {c : Int} (hc : 0 ≤ c) : ∀ {n : Nat}, (∀ k, k < n → -c ≤ f k ∧ f k ≤ c) → -(n * c) ≤ fb_si f n ∧ fb_si f n ≤ n * c
  | 0, _ => by simp [fb_si]
  | n + 1, h => by
    have h1 := fb_si_bound (n := n) (f := f) hc (fun k hk => h k (by omega))
    have h2 := h n (by omega)
    have e : ((n + 1 : Nat) : Int) * c = n * c + c := by rw [Int.natCast_add, Int.add_mul]; simp
    rw [fb_si_succ, e]
    omega
/-! ===== bits of a long that isn't negative ===== -/
theorem fb_andL (a b : Nat) : lN a &&& lN b = lN (a &&& b) := by
  apply Int64.toBitVec_inj.1
  show BitVec.ofNat 64 a &&& BitVec.ofNat 64 b = BitVec.ofNat 64 (a &&& b)
  apply BitVec.eq_of_getLsbD_eq
  intro i hi
  simp [hi]
theorem fb_orL (a b : Nat) : lN a ||| lN b = lN (a ||| b) := by
  apply Int64.toBitVec_inj.1
  show BitVec.ofNat 64 a ||| BitVec.ofNat 64 b = BitVec.ofNat 64 (a ||| b)
  apply BitVec.eq_of_getLsbD_eq
  intro i hi
  simp [hi]
theorem fb_xorL (a b : Nat) : lN a ^^^ lN b = lN (a ^^^ b) := by
  apply Int64.toBitVec_inj.1
  show BitVec.ofNat 64 a ^^^ BitVec.ofNat 64 b = BitVec.ofNat 64 (a ^^^ b)
  apply BitVec.eq_of_getLsbD_eq
  intro i hi
  simp [hi]
theorem fb_xorI (a b : Nat) : nI a ^^^ nI b = nI (a ^^^ b) := by
  apply Int32.toBitVec_inj.1
  show BitVec.ofNat 32 a ^^^ BitVec.ofNat 32 b = BitVec.ofNat 32 (a ^^^ b)
  apply BitVec.eq_of_getLsbD_eq
  intro i hi
  simp [hi]
theorem fb_maskL (n k : Nat) : lN n &&& lN (2 ^ k - 1) = lN (n % 2 ^ k) := by rw [fb_andL, Nat.and_two_pow_sub_one_eq_mod]
theorem fb_or_sumL {a k : Nat} (b : Nat) (h : a < 2 ^ k) : lN (2 ^ k * b) ||| lN a = lN (2 ^ k * b + a) := by rw [fb_orL, Nat.two_pow_add_eq_or_of_lt h]
theorem fb_lN_inj {a b : Nat} (ha : a < 2 ^ 63) (hb : b < 2 ^ 63) : lN a = lN b ↔ a = b := by
  constructor
  · intro h
    have h1 : (BitVec.ofNat 64 a).toNat = (BitVec.ofNat 64 b).toNat := congrArg (fun x : Int64 => x.toBitVec.toNat) h
    rw [BitVec.toNat_ofNat, BitVec.toNat_ofNat, Nat.mod_eq_of_lt (by omega), Nat.mod_eq_of_lt (by omega)] at h1
    exact h1
  · rintro rfl; rfl
theorem fb_bit_nat (n j : Nat) : n &&& 2 ^ j = 0 ↔ n.testBit j = false := by
  constructor
  · intro h
    have h1 : (n &&& 2 ^ j).testBit j = false := by rw [h]; simp
    rw [Nat.testBit_and] at h1
    simpa using h1
  · intro h
    apply Nat.eq_of_testBit_eq
    intro i
    rw [Nat.testBit_and]
    by_cases hi : j = i
    · subst hi; simp [h]
    · first | (simp [Nat.testBit_two_pow, hi]; done) | (simp [Nat.testBit_two_pow_of_ne hi]; done)
/-- one bit of a long -/
theorem fb_bitL {n j : Nat} (hj : j < 63) : lN n &&& lN (2 ^ j) = 0 ↔ n.testBit j = false := by
  have h2 : (2 : Nat) ^ j < 2 ^ 63 := Nat.pow_lt_pow_right (by decide) hj
  have hle : n &&& 2 ^ j ≤ 2 ^ j := Nat.and_le_right
  rw [fb_andL, ← fb_bit_nat, show (0 : Int64) = lN 0 from rfl]
  exact fb_lN_inj (by omega) (by decide)
/-- a bit set, a bit taken off -/
theorem fb_bit_set (n j i : Nat) : (n ||| 2 ^ j).testBit i = (n.testBit i || decide (i = j)) := by
  rw [Nat.testBit_or]
  by_cases h : j = i
  · subst h; simp
  · have h2 : ¬ i = j := fun e => h e.symm
    first | (simp [Nat.testBit_two_pow, h, h2]; done) | (simp [Nat.testBit_two_pow_of_ne h, h2]; done)
theorem fb_bit_flip (n j i : Nat) : (n ^^^ 2 ^ j).testBit i = (n.testBit i ^^ decide (i = j)) := by
  rw [Nat.testBit_xor]
  by_cases h : j = i
  · subst h; simp
  · have h2 : ¬ i = j := fun e => h e.symm
    first | (simp [Nat.testBit_two_pow, h, h2]; done) | (simp [Nat.testBit_two_pow_of_ne h, h2]; done)
/-! ===== a stretch of an array written over by a function ===== -/
def fb_put {α : Type} (f g : Nat → α) (a n : Nat) : Nat → α := fun k => if a ≤ k ∧ k < a + n then g (k - a) else f k
theorem fb_put_0 {α : Type} (f g : Nat → α) (a : Nat) : fb_put f g a 0 = f := funext fun k => if_neg (by omega)
theorem fb_put_in {α : Type} {f g : Nat → α} {a n k : Nat} (h1 : a ≤ k) (h2 : k < a + n) : fb_put f g a n k = g (k - a) := if_pos ⟨h1, h2⟩
theorem fb_put_out {α : Type} {f g : Nat → α} {a n k : Nat} (h : k < a ∨ a + n ≤ k) : fb_put f g a n k = f k := if_neg (by omega)
theorem fb_put_succ (f g : Nat → Int32) (a n : Nat) : upd (fb_put f g a n) (a + n) (g n) = fb_put f g a (n + 1) := by
  funext k
  by_cases h : k = a + n
  · subst h
    simp [upd, fb_put]
  · by_cases h1 : a ≤ k ∧ k < a + n
    · have h2 : a ≤ k ∧ k < a + (n + 1) := by omega
      simp only [upd, fb_put, if_neg h, if_pos h1, if_pos h2]
    · have h2 : ¬ (a ≤ k ∧ k < a + (n + 1)) := by omega
      simp only [upd, fb_put, if_neg h, if_neg h1, if_neg h2]
/-- .. from the far end down -/
theorem fb_put_down (f g : Nat → Int32) {a n m : Nat} (h : m < n) : upd (fb_put f (fun k => g (k + (m + 1))) (a + (m + 1)) (n - (m + 1))) (a + m) (g m) = fb_put f (fun k => g (k + m)) (a + m) (n - m) := by
  funext k
  by_cases h0 : k = a + m
  · subst h0
    simp only [upd, if_true]
    rw [fb_put_in (by omega) (by omega)]
    exact congrArg g (by omega)
  · simp only [upd, if_neg h0]
    by_cases h1 : a + (m + 1) ≤ k ∧ k < a + (m + 1) + (n - (m + 1))
    · rw [fb_put_in h1.1 h1.2, fb_put_in (by omega) (by omega)]
      exact congrArg g (by omega)
    · rw [fb_put_out (by omega), fb_put_out (by omega)]
theorem fb_put_cong {α : Type} {f f2 g g2 : Nat → α} {a n : Nat} (hf : ∀ k, (k < a ∨ a + n ≤ k) → f k = f2 k) (hg : ∀ k, k < n → g k = g2 k) : fb_put f g a n = fb_put f2 g2 a n := by
  funext k
  by_cases h : a ≤ k ∧ k < a + n
  · rw [fb_put_in h.1 h.2, fb_put_in h.1 h.2, hg _ (by omega)]
  · rw [fb_put_out (by omega), fb_put_out (by omega), hf _ (by omega)]
/-! ===== the least, the first, the best so far; that there is one alone ===== -/
theorem fb_first {p : Nat → Prop} [DecidablePred p] : ∀ {n : Nat}, (∃ i, i < n ∧ p i) → ∃ i, i < n ∧ p i ∧ ∀ j, j < i → ¬ p j
  | 0, h => by obtain ⟨i, hi, -⟩ := h; exact absurd hi (Nat.not_lt_zero i)
  | n + 1, h => by
    by_cases q : ∃ i, i < n ∧ p i
    · obtain ⟨i, h1, h2⟩ := fb_first q
      exact ⟨i, by omega, h2⟩
    · obtain ⟨i, h1, h2⟩ := h
      have e : i = n := by
        rcases Nat.lt_or_ge i n with r | r
        · exact absurd ⟨i, r, h2⟩ q
        · omega
      subst e
      exact ⟨i, by omega, h2, fun j hj hp => q ⟨j, hj, hp⟩⟩
theorem fb_first_one {p : Nat → Prop} {i j : Nat} (hi : p i) (hi2 : ∀ k, k < i → ¬ p k) (hj : p j) (hj2 : ∀ k, k < j → ¬ p k) : i = j := by
  rcases Nat.lt_trichotomy i j with q | q | q
  · exact absurd hi (hj2 i q)
  · exact q
  · exact absurd hj (hi2 j q)
theorem fb_last {p : Nat → Prop} [DecidablePred p] : ∀ {n : Nat}, (∃ i, i < n ∧ p i) → ∃ i, i < n ∧ p i ∧ ∀ j, i < j → j < n → ¬ p j
  | 0, h => by obtain ⟨i, hi, -⟩ := h; exact absurd hi (Nat.not_lt_zero i)
  | n + 1, h => by
    by_cases q : p n
    · exact ⟨n, by omega, q, fun j h1 h2 => by omega⟩
    · obtain ⟨i, h1, h2⟩ := h
      have hi : i < n := by
        rcases Nat.lt_or_ge i n with r | r
        · exact r
        · have e : i = n := by omega
          subst e
          exact absurd h2 q
      obtain ⟨i2, a1, a2, a3⟩ := fb_last (n := n) ⟨i, hi, h2⟩
      refine ⟨i2, by omega, a2, fun j b1 b2 => ?_⟩
      rcases Nat.lt_or_ge j n with r | r
      · exact a3 j b1 r
      · have e : j = n := by omega
        subst e
        exact q
/-- the first greatest -/
theorem fb_best (f : Nat → Int) : ∀ {n : Nat}, 0 < n → ∃ i, i < n ∧ (∀ j, j < n → f j ≤ f i) ∧ ∀ j, j < i → f j < f i
  | 0, h => absurd h (Nat.lt_irrefl 0)
  | 1, _ => ⟨0, by omega, fun j hj => by have e : j = 0 := by omega
                                         subst e; exact Int.le_refl _, fun j hj => absurd hj (Nat.not_lt_zero j)⟩
  | n + 2, _ => by
    obtain ⟨i, h1, h2, h3⟩ := fb_best f (n := n + 1) (by omega)
    by_cases q : f i < f (n + 1)
    · refine ⟨n + 1, by omega, fun j hj => ?_, fun j hj => ?_⟩
      · rcases Nat.lt_or_ge j (n + 1) with r | r
        · have := h2 j r; omega
        · have e : j = n + 1 := by omega
          subst e; exact Int.le_refl _
      · have := h2 j hj; omega
    · refine ⟨i, by omega, fun j hj => ?_, h3⟩
      rcases Nat.lt_or_ge j (n + 1) with r | r
      · exact h2 j r
      · have e : j = n + 1 := by omega
        subst e; omega
theorem fb_best_one {f : Nat → Int} {n i j : Nat} (hi : i < n) (hi2 : ∀ k, k < n → f k ≤ f i) (hi3 : ∀ k, k < i → f k < f i) (hj : j < n) (hj2 : ∀ k, k < n → f k ≤ f j) (hj3 : ∀ k, k < j → f k < f j) : i = j := by
  rcases Nat.lt_trichotomy i j with q | q | q
  · have a := hj3 i q
    have b := hi2 j hj
    omega
  · exact q
  · have a := hi3 j q
    have b := hj2 i hi
    omega
/-- the first least -/
theorem fb_low (f : Nat → Int) {n : Nat} (h : 0 < n) : ∃ i, i < n ∧ (∀ j, j < n → f i ≤ f j) ∧ ∀ j, j < i → f i < f j := by
  obtain ⟨i, h1, h2, h3⟩ := fb_best (fun k => -f k) h
  exact ⟨i, h1, fun j hj => by have := h2 j hj; omega, fun j hj => by have := h3 j hj; omega⟩
/-! ===== signed ints as whole numbers, within bounds ===== -/
theorem fb_rng (x : Int32) : -2147483648 ≤ x.toInt ∧ x.toInt < 2147483648 := by
  have h1 := Int32.le_toInt x
  have h2 := Int32.toInt_lt x
  omega
theorem fb_bmod {z : Int} (h1 : -2147483648 ≤ z) (h2 : z < 2147483648) : z.bmod (2 ^ 32) = z := by
  rw [Int.bmod_eq_of_le (by omega) (by omega)]
theorem fb_addI {x y : Int32} (h1 : -2147483648 ≤ x.toInt + y.toInt) (h2 : x.toInt + y.toInt < 2147483648) : (x + y).toInt = x.toInt + y.toInt := by
  rw [Int32.toInt_add, fb_bmod h1 h2]
theorem fb_subI {x y : Int32} (h1 : -2147483648 ≤ x.toInt - y.toInt) (h2 : x.toInt - y.toInt < 2147483648) : (x - y).toInt = x.toInt - y.toInt := by
  rw [Int32.toInt_sub, fb_bmod h1 h2]
theorem fb_mulI {x y : Int32} (h1 : -2147483648 ≤ x.toInt * y.toInt) (h2 : x.toInt * y.toInt < 2147483648) : (x * y).toInt = x.toInt * y.toInt := by
  rw [Int32.toInt_mul, fb_bmod h1 h2]
theorem fb_negI {x : Int32} (h : x.toInt ≠ -2147483648) : (-x).toInt = -x.toInt := by
  have := fb_rng x
  rw [Int32.toInt_neg, fb_bmod (by omega) (by omega)]
theorem fb_ofI {z : Int} (h1 : -2147483648 ≤ z) (h2 : z < 2147483648) : (Int32.ofInt z).toInt = z := by
  rw [Int32.toInt_ofInt, fb_bmod h1 h2]
theorem fb_asI (x : Int32) : Int32.ofInt x.toInt = x := Int32.ofInt_toInt x
theorem fb_rngL (x : Int64) : -9223372036854775808 ≤ x.toInt ∧ x.toInt < 9223372036854775808 := by
  have h1 := Int64.le_toInt x
  have h2 := Int64.toInt_lt x
  omega
theorem fb_bmodL {z : Int} (h1 : -9223372036854775808 ≤ z) (h2 : z < 9223372036854775808) : z.bmod (2 ^ 64) = z := by
  rw [Int.bmod_eq_of_le (by omega) (by omega)]
theorem fb_addL {x y : Int64} (h1 : -9223372036854775808 ≤ x.toInt + y.toInt) (h2 : x.toInt + y.toInt < 9223372036854775808) : (x + y).toInt = x.toInt + y.toInt := by
  rw [Int64.toInt_add, fb_bmodL h1 h2]
theorem fb_subL {x y : Int64} (h1 : -9223372036854775808 ≤ x.toInt - y.toInt) (h2 : x.toInt - y.toInt < 9223372036854775808) : (x - y).toInt = x.toInt - y.toInt := by
  rw [Int64.toInt_sub, fb_bmodL h1 h2]
theorem fb_mulL {x y : Int64} (h1 : -9223372036854775808 ≤ x.toInt * y.toInt) (h2 : x.toInt * y.toInt < 9223372036854775808) : (x * y).toInt = x.toInt * y.toInt := by
  rw [Int64.toInt_mul, fb_bmodL h1 h2]
/-! ===== cuts of what is narrow already ===== -/
theorem fb_byte {x : Int32} (h1 : -128 ≤ x.toInt) (h2 : x.toInt < 128) : x.toInt8.toInt32 = x := by
  apply Int32.toInt_inj.1
  rw [Int8.toInt_toInt32, Int32.toInt_toInt8, Int.bmod_eq_of_le (by omega) (by omega)]
theorem fb_short {x : Int32} (h1 : -32768 ≤ x.toInt) (h2 : x.toInt < 32768) : x.toInt16.toInt32 = x := by
  apply Int32.toInt_inj.1
  rw [Int16.toInt_toInt32, Int32.toInt_toInt16, Int.bmod_eq_of_le (by omega) (by omega)]
theorem fb_byte_rng (x : Int32) : -128 ≤ x.toInt8.toInt32.toInt ∧ x.toInt8.toInt32.toInt < 128 := by
  rw [Int8.toInt_toInt32]
  have h1 := Int8.le_toInt x.toInt8
  have h2 := Int8.toInt_lt x.toInt8
  omega
theorem fb_short_rng (x : Int32) : -32768 ≤ x.toInt16.toInt32.toInt ∧ x.toInt16.toInt32.toInt < 32768 := by
  rw [Int16.toInt_toInt32]
  have h1 := Int16.le_toInt x.toInt16
  have h2 := Int16.toInt_lt x.toInt16
  omega
theorem fb_byte_twice (x : Int32) : x.toInt8.toInt32.toInt8.toInt32 = x.toInt8.toInt32 := fb_byte (fb_byte_rng x).1 (fb_byte_rng x).2
theorem fb_short_twice (x : Int32) : x.toInt16.toInt32.toInt16.toInt32 = x.toInt16.toInt32 := fb_short (fb_short_rng x).1 (fb_short_rng x).2
theorem fb_char {n : Nat} (h : n < 65536) : (nI n).toUInt32.toUInt16.toUInt32.toInt32 = nI n := by
  apply Int32.toBitVec_inj.1
  apply BitVec.eq_of_toNat_eq
  have e1 : (nI n).toBitVec.toNat = n := by
    show (BitVec.ofNat 32 n).toNat = n
    rw [BitVec.toNat_ofNat, Nat.mod_eq_of_lt (by omega)]
  have e2 : ((nI n).toUInt32.toUInt16.toUInt32).toNat = n := by
    rw [UInt16.toNat_toUInt32, UInt32.toNat_toUInt16]
    show (nI n).toBitVec.toNat % 2 ^ 16 = n
    rw [e1, Nat.mod_eq_of_lt (by omega)]
  rw [e1]
  exact e2
theorem s_l : ∀ n, n < 32 → ((nI n &&& 31).toBitVec.smod 32).toNat = n := by decide +kernel
end
section
/-! the walk's own judgement: a frame with its world as plain data (heap, locals' array hidden) -/
set_option maxRecDepth 100000
abbrev vwCl : List vw_C := [(RX0, TX0, 14), (RX1, TX1, 4)]
def updN (f : Nat → Nat) (k x : Nat) : Nat → Nat := fun j => if j = k then x else f j
def aN (f : Nat → Nat) : Nat → Int32 := fun i => nI (f i)
/-- -1 for 0, else the number before -/
def eN (x : Nat) : Int32 := match x with
  | 0 => -1
  | n + 1 => nI n
def eA (f : Nat → Nat) : Nat → Int32 := fun i => eN (f i)
theorem updN_same (f : Nat → Nat) (k x : Nat) : updN f k x k = x := if_pos rfl
theorem updN_other {f : Nat → Nat} {k x j : Nat} (h : j ≠ k) : updN f k x j = f j := if_neg h
theorem upd_aN (f : Nat → Nat) (k x : Nat) : upd (aN f) k (nI x) = aN (updN f k x) := by
  funext j
  unfold upd aN updN
  by_cases h : j = k
  · simp [h]
  · simp [h]
theorem upd_eA (f : Nat → Nat) (k x : Nat) : upd (eA f) k (eN x) = eA (updN f k x) := by
  funext j
  unfold upd eA updN
  by_cases h : j = k
  · simp [h]
  · simp [h]
def rmN (n : Nat) : Room := { frames := n, cells := 0, slots := 0, locals := 40 * n }
abbrev GP : Type := Program × Launch × Env × Room × State × MethodId × Array Value × List Frame × Method × Code × Nat × Nat × (State → Prop) × va_G × (Nat → Prop)
def G (Γ : GP) (ws : va_W) (pc : Nat) (lv : List (Nat × Value)) (st : List Value) : Prop :=
  match Γ with
  | (p, l, e, R, s, m, args, below, meth, c, cells, slots, Q, D, A) => ∀ (H : Heap) (locs : List Loc) (ls : Array Slot), va_P D vwCl ws H → va_D A ws → va_S A s.heap H locs → lv_has ls c.maxLocals lv → W p l e R s m args below meth c H locs cells slots Q (F0 m pc ls st)
def GC (Γ : GP) (cc : ByteArray) (nL : Nat) (own : String) (tys : List (ClassId × FieldType)) (lev : Nat) : Prop :=
  match Γ with
  | (p, l, e, R, s, m, args, below, meth, c, cells, slots, Q, D, A) => p.tables.exec = Jvm.exec ∧ c.code = cc ∧ c.maxLocals = nL ∧ s.vm.findClass own = some m.cls ∧ (∀ w ∈ lw_all, w.before args s = true) ∧ va_K D vwCl tys s ∧ (∀ q, s.heap.size ≤ q → A q) ∧ (lev ≤ R.frames ∧ 40 * lev ≤ R.locals) ∧ (cells ≤ R.cells ∧ slots ≤ R.slots)
section GK
variable {Γ : GP} {cc : ByteArray} {nL : Nat} {own : String} {tys : List (ClassId × FieldType)} {lev : Nat} {ws ws' : va_W} {pc : Nat} {lv lv' : List (Nat × Value)} {st : List Value}
theorem g_top {v v' : Value} (h : v = v') (k : G Γ ws pc lv (v' :: st)) : G Γ ws pc lv (v :: st) := h ▸ k
theorem g_pc {pc' : Nat} (h : pc = pc') (k : G Γ ws pc' lv st) : G Γ ws pc lv st := h ▸ k
theorem g_lv (ks : List Nat) (h : lv_pick lv ks = lv') (k : G Γ ws pc lv' st) : G Γ ws pc lv st := by
  obtain ⟨p, l, e, R, s, m, args, below, meth, c, cells, slots, Q, D, A⟩ := Γ
  intro H locs ls hP hD hS hl
  exact k H locs ls hP hD hS (lv_sub hl ks h)
theorem g_iconst (hc : GC Γ cc nL own tys lev) {n : Int} {v : Int32} (hd : decode cc pc = .ok (.iconst n, 1)) (hv : Int32.ofInt n = v) (k : G Γ ws (pc + 1) lv (.int v :: st)) : G Γ ws pc lv st := by
  obtain ⟨p, l, e, R, s, m, args, below, meth, c, cells, slots, Q, D, A⟩ := Γ
  intro H locs ls hP hD hS hl
  exact lv_iconst hc.1 hc.2.1 hd hv (k H locs ls hP hD hS hl)
theorem g_bipush (hc : GC Γ cc nL own tys lev) {n : Int} {v : Int32} (hd : decode cc pc = .ok (.bipush n, 2)) (hv : (Int8.ofInt n).toInt32 = v) (k : G Γ ws (pc + 2) lv (.int v :: st)) : G Γ ws pc lv st := by
  obtain ⟨p, l, e, R, s, m, args, below, meth, c, cells, slots, Q, D, A⟩ := Γ
  intro H locs ls hP hD hS hl
  exact lv_bipush hc.1 hc.2.1 hd hv (k H locs ls hP hD hS hl)
theorem g_sipush (hc : GC Γ cc nL own tys lev) {n : Int} {v : Int32} (hd : decode cc pc = .ok (.sipush n, 3)) (hv : (Int16.ofInt n).toInt32 = v) (k : G Γ ws (pc + 3) lv (.int v :: st)) : G Γ ws pc lv st := by
  obtain ⟨p, l, e, R, s, m, args, below, meth, c, cells, slots, Q, D, A⟩ := Γ
  intro H locs ls hP hD hS hl
  exact lv_sipush hc.1 hc.2.1 hd hv (k H locs ls hP hD hS hl)
theorem g_ldc (hc : GC Γ cc nL own tys lev) {index : Nat} {v : Int32} (hk : Cond.constant own index v ∈ lw_all) (hd : decode cc pc = .ok (.ldc index, 2)) (k : G Γ ws (pc + 2) lv (.int v :: st)) : G Γ ws pc lv st := by
  obtain ⟨p, l, e, R, s, m, args, below, meth, c, cells, slots, Q, D, A⟩ := Γ
  intro H locs ls hP hD hS hl
  exact lv_ldc hc.1 hc.2.1 hc.2.2.2.1 (hc.2.2.2.2.1 _ hk) hd (k H locs ls hP hD hS hl)
theorem g_iload_n (hc : GC Γ cc nL own tys lev) {j : Fin 4} {i : Nat} {x : Int32} (hd : decode cc pc = .ok (.iload_n j, 1)) (hi : (j : Nat) = i) (q : Nat) (hq : lv[q]? = some (i, .int x)) (k : G Γ ws (pc + 1) lv (.int x :: st)) : G Γ ws pc lv st := by
  obtain ⟨p, l, e, R, s, m, args, below, meth, c, cells, slots, Q, D, A⟩ := Γ
  intro H locs ls hP hD hS hl
  exact lv_iload_n hc.1 hc.2.1 hd hi (lv_at hl q hq) (k H locs ls hP hD hS hl)
theorem g_iload (hc : GC Γ cc nL own tys lev) {i : Nat} {x : Int32} (hd : decode cc pc = .ok (.iload i, 2)) (q : Nat) (hq : lv[q]? = some (i, .int x)) (k : G Γ ws (pc + 2) lv (.int x :: st)) : G Γ ws pc lv st := by
  obtain ⟨p, l, e, R, s, m, args, below, meth, c, cells, slots, Q, D, A⟩ := Γ
  intro H locs ls hP hD hS hl
  exact lv_iload hc.1 hc.2.1 hd (lv_at hl q hq) (k H locs ls hP hD hS hl)
theorem g_aload_n (hc : GC Γ cc nL own tys lev) {j : Fin 4} {i : Nat} {x : Nat} (hd : decode cc pc = .ok (.aload_n j, 1)) (hi : (j : Nat) = i) (q : Nat) (hq : lv[q]? = some (i, .ref x)) (k : G Γ ws (pc + 1) lv (.ref x :: st)) : G Γ ws pc lv st := by
  obtain ⟨p, l, e, R, s, m, args, below, meth, c, cells, slots, Q, D, A⟩ := Γ
  intro H locs ls hP hD hS hl
  exact lv_aload_n hc.1 hc.2.1 hd hi (lv_at hl q hq) (k H locs ls hP hD hS hl)
theorem g_istore_n (hc : GC Γ cc nL own tys lev) {j : Fin 4} {i : Nat} {x : Int32} (hd : decode cc pc = .ok (.istore_n j, 1)) (hi : (j : Nat) = i) (hn : i < nL) (ks : List Nat) (h : lv_pick ((i, Value.int x) :: lv.filter (fun q => !(q.1 == i) && !(q.1 + 1 == i && q.2.category == 2))) ks = lv') (k : G Γ ws (pc + 1) lv' st) : G Γ ws pc lv (.int x :: st) := by
  obtain ⟨p, l, e, R, s, m, args, below, meth, c, cells, slots, Q, D, A⟩ := Γ
  intro H locs ls hP hD hS hl
  exact lv_istore_n hc.1 hc.2.1 hd hi hl (by rw [hc.2.2.1]; exact hn) rfl (fun ls hl => k H locs ls hP hD hS (lv_sub hl ks h))
theorem g_istore (hc : GC Γ cc nL own tys lev) {i : Nat} {x : Int32} (hd : decode cc pc = .ok (.istore i, 2)) (hn : i < nL) (ks : List Nat) (h : lv_pick ((i, Value.int x) :: lv.filter (fun q => !(q.1 == i) && !(q.1 + 1 == i && q.2.category == 2))) ks = lv') (k : G Γ ws (pc + 2) lv' st) : G Γ ws pc lv (.int x :: st) := by
  obtain ⟨p, l, e, R, s, m, args, below, meth, c, cells, slots, Q, D, A⟩ := Γ
  intro H locs ls hP hD hS hl
  exact lv_istore hc.1 hc.2.1 hd hl (by rw [hc.2.2.1]; exact hn) rfl (fun ls hl => k H locs ls hP hD hS (lv_sub hl ks h))
theorem g_iinc (hc : GC Γ cc nL own tys lev) {i q : Nat} {n : Int} {x v : Int32} (hd : decode cc pc = .ok (.iinc i n, 3)) (hq : lv[q]? = some (i, .int x)) (hv : x + Int32.ofInt n = v) (hn : i < nL) (ks : List Nat) (h : lv_pick ((i, Value.int v) :: lv.filter (fun q => !(q.1 == i) && !(q.1 + 1 == i && q.2.category == 2))) ks = lv') (k : G Γ ws (pc + 3) lv' st) : G Γ ws pc lv st := by
  obtain ⟨p, l, e, R, s, m, args, below, meth, c, cells, slots, Q, D, A⟩ := Γ
  intro H locs ls hP hD hS hl
  exact lv_iinc hc.1 hc.2.1 hd hl hq hv (by rw [hc.2.2.1]; exact hn) rfl (fun ls hl => k H locs ls hP hD hS (lv_sub hl ks h))
theorem g_iadd (hc : GC Γ cc nL own tys lev) {x y : Int32} (hd : decode cc pc = .ok (.iadd, 1)) (k : G Γ ws (pc + 1) lv (.int (x + y) :: st)) : G Γ ws pc lv (.int y :: .int x :: st) := by
  obtain ⟨p, l, e, R, s, m, args, below, meth, c, cells, slots, Q, D, A⟩ := Γ
  intro H locs ls hP hD hS hl
  exact lv_iadd hc.1 hc.2.1 hd (k H locs ls hP hD hS hl)
theorem g_isub (hc : GC Γ cc nL own tys lev) {x y : Int32} (hd : decode cc pc = .ok (.isub, 1)) (k : G Γ ws (pc + 1) lv (.int (x - y) :: st)) : G Γ ws pc lv (.int y :: .int x :: st) := by
  obtain ⟨p, l, e, R, s, m, args, below, meth, c, cells, slots, Q, D, A⟩ := Γ
  intro H locs ls hP hD hS hl
  exact lv_isub hc.1 hc.2.1 hd (k H locs ls hP hD hS hl)
theorem g_imul (hc : GC Γ cc nL own tys lev) {x y : Int32} (hd : decode cc pc = .ok (.imul, 1)) (k : G Γ ws (pc + 1) lv (.int (x * y) :: st)) : G Γ ws pc lv (.int y :: .int x :: st) := by
  obtain ⟨p, l, e, R, s, m, args, below, meth, c, cells, slots, Q, D, A⟩ := Γ
  intro H locs ls hP hD hS hl
  exact lv_imul hc.1 hc.2.1 hd (k H locs ls hP hD hS hl)
theorem g_iand (hc : GC Γ cc nL own tys lev) {x y : Int32} (hd : decode cc pc = .ok (.iand, 1)) (k : G Γ ws (pc + 1) lv (.int (x &&& y) :: st)) : G Γ ws pc lv (.int y :: .int x :: st) := by
  obtain ⟨p, l, e, R, s, m, args, below, meth, c, cells, slots, Q, D, A⟩ := Γ
  intro H locs ls hP hD hS hl
  exact lv_iand hc.1 hc.2.1 hd (k H locs ls hP hD hS hl)
theorem g_ior (hc : GC Γ cc nL own tys lev) {x y : Int32} (hd : decode cc pc = .ok (.ior, 1)) (k : G Γ ws (pc + 1) lv (.int (x ||| y) :: st)) : G Γ ws pc lv (.int y :: .int x :: st) := by
  obtain ⟨p, l, e, R, s, m, args, below, meth, c, cells, slots, Q, D, A⟩ := Γ
  intro H locs ls hP hD hS hl
  exact lv_ior hc.1 hc.2.1 hd (k H locs ls hP hD hS hl)
theorem g_ixor (hc : GC Γ cc nL own tys lev) {x y : Int32} (hd : decode cc pc = .ok (.ixor, 1)) (k : G Γ ws (pc + 1) lv (.int (x ^^^ y) :: st)) : G Γ ws pc lv (.int y :: .int x :: st) := by
  obtain ⟨p, l, e, R, s, m, args, below, meth, c, cells, slots, Q, D, A⟩ := Γ
  intro H locs ls hP hD hS hl
  exact lv_ixor hc.1 hc.2.1 hd (k H locs ls hP hD hS hl)
theorem g_ishl (hc : GC Γ cc nL own tys lev) {x y : Int32} (hd : decode cc pc = .ok (.ishl, 1)) (k : G Γ ws (pc + 1) lv (.int (x <<< (y &&& 31)) :: st)) : G Γ ws pc lv (.int y :: .int x :: st) := by
  obtain ⟨p, l, e, R, s, m, args, below, meth, c, cells, slots, Q, D, A⟩ := Γ
  intro H locs ls hP hD hS hl
  exact lv_ishl hc.1 hc.2.1 hd (k H locs ls hP hD hS hl)
theorem g_ishr (hc : GC Γ cc nL own tys lev) {x y : Int32} (hd : decode cc pc = .ok (.ishr, 1)) (k : G Γ ws (pc + 1) lv (.int (x >>> (y &&& 31)) :: st)) : G Γ ws pc lv (.int y :: .int x :: st) := by
  obtain ⟨p, l, e, R, s, m, args, below, meth, c, cells, slots, Q, D, A⟩ := Γ
  intro H locs ls hP hD hS hl
  exact lv_ishr hc.1 hc.2.1 hd (k H locs ls hP hD hS hl)
theorem g_idiv (hc : GC Γ cc nL own tys lev) {x y : Int32} (hd : decode cc pc = .ok (.idiv, 1)) (hne : ¬ y = 0) (k : G Γ ws (pc + 1) lv (.int (x / y) :: st)) : G Γ ws pc lv (.int y :: .int x :: st) := by
  obtain ⟨p, l, e, R, s, m, args, below, meth, c, cells, slots, Q, D, A⟩ := Γ
  intro H locs ls hP hD hS hl
  exact lv_idiv hc.1 hc.2.1 hd hne (k H locs ls hP hD hS hl)
theorem g_irem (hc : GC Γ cc nL own tys lev) {x y : Int32} (hd : decode cc pc = .ok (.irem, 1)) (hne : ¬ y = 0) (k : G Γ ws (pc + 1) lv (.int (x - x / y * y) :: st)) : G Γ ws pc lv (.int y :: .int x :: st) := by
  obtain ⟨p, l, e, R, s, m, args, below, meth, c, cells, slots, Q, D, A⟩ := Γ
  intro H locs ls hP hD hS hl
  exact lv_irem hc.1 hc.2.1 hd hne (k H locs ls hP hD hS hl)
theorem g_i2b (hc : GC Γ cc nL own tys lev) {x v : Int32} (hd : decode cc pc = .ok (.i2b, 1)) (hv : x.toInt8.toInt32 = v) (k : G Γ ws (pc + 1) lv (.int v :: st)) : G Γ ws pc lv (.int x :: st) := by
  obtain ⟨p, l, e, R, s, m, args, below, meth, c, cells, slots, Q, D, A⟩ := Γ
  intro H locs ls hP hD hS hl
  exact lv_i2b hc.1 hc.2.1 hd hv (k H locs ls hP hD hS hl)
theorem g_i2s (hc : GC Γ cc nL own tys lev) {x v : Int32} (hd : decode cc pc = .ok (.i2s, 1)) (hv : x.toInt16.toInt32 = v) (k : G Γ ws (pc + 1) lv (.int v :: st)) : G Γ ws pc lv (.int x :: st) := by
  obtain ⟨p, l, e, R, s, m, args, below, meth, c, cells, slots, Q, D, A⟩ := Γ
  intro H locs ls hP hD hS hl
  exact lv_i2s hc.1 hc.2.1 hd hv (k H locs ls hP hD hS hl)
theorem g_dup (hc : GC Γ cc nL own tys lev) {va : Value} (hd : decode cc pc = .ok (.dup, 1)) (hva : va.category = 1) (k : G Γ ws (pc + 1) lv (va :: va :: st)) : G Γ ws pc lv (va :: st) := by
  obtain ⟨p, l, e, R, s, m, args, below, meth, c, cells, slots, Q, D, A⟩ := Γ
  intro H locs ls hP hD hS hl
  exact lv_dup hc.1 hc.2.1 hd hva (k H locs ls hP hD hS hl)
theorem g_goto (hc : GC Γ cc nL own tys lev) {off : Int} {tgt : Nat} (hd : decode cc pc = .ok (.goto off, 3)) (ht : (pc : Int) + off = (tgt : Int)) (k : G Γ ws tgt lv st) : G Γ ws pc lv st := by
  obtain ⟨p, l, e, R, s, m, args, below, meth, c, cells, slots, Q, D, A⟩ := Γ
  intro H locs ls hP hD hS hl
  exact lv_goto hc.1 hc.2.1 hd ht (k H locs ls hP hD hS hl)
theorem g_icmp_eq (hc : GC Γ cc nL own tys lev) {x y : Int32} {off : Int} {tgt : Nat} (hd : decode cc pc = .ok (.if_icmp .eq off, 3)) (ht : (pc : Int) + off = (tgt : Int)) (kt : x = y → G Γ ws tgt lv st) (kf : ¬ x = y → G Γ ws (pc + 3) lv st) : G Γ ws pc lv (.int y :: .int x :: st) := by
  obtain ⟨p, l, e, R, s, m, args, below, meth, c, cells, slots, Q, D, A⟩ := Γ
  intro H locs ls hP hD hS hl
  exact lv_icmp_eq hc.1 hc.2.1 hd ht (fun h => kt h H locs ls hP hD hS hl) (fun h => kf h H locs ls hP hD hS hl)
theorem g_icmp_ne (hc : GC Γ cc nL own tys lev) {x y : Int32} {off : Int} {tgt : Nat} (hd : decode cc pc = .ok (.if_icmp .ne off, 3)) (ht : (pc : Int) + off = (tgt : Int)) (kt : ¬ x = y → G Γ ws tgt lv st) (kf : x = y → G Γ ws (pc + 3) lv st) : G Γ ws pc lv (.int y :: .int x :: st) := by
  obtain ⟨p, l, e, R, s, m, args, below, meth, c, cells, slots, Q, D, A⟩ := Γ
  intro H locs ls hP hD hS hl
  exact lv_icmp_ne hc.1 hc.2.1 hd ht (fun h => kt h H locs ls hP hD hS hl) (fun h => kf h H locs ls hP hD hS hl)
theorem g_icmp_lt (hc : GC Γ cc nL own tys lev) {x y : Int32} {off : Int} {tgt : Nat} (hd : decode cc pc = .ok (.if_icmp .lt off, 3)) (ht : (pc : Int) + off = (tgt : Int)) (kt : x < y → G Γ ws tgt lv st) (kf : ¬ x < y → G Γ ws (pc + 3) lv st) : G Γ ws pc lv (.int y :: .int x :: st) := by
  obtain ⟨p, l, e, R, s, m, args, below, meth, c, cells, slots, Q, D, A⟩ := Γ
  intro H locs ls hP hD hS hl
  exact lv_icmp_lt hc.1 hc.2.1 hd ht (fun h => kt h H locs ls hP hD hS hl) (fun h => kf h H locs ls hP hD hS hl)
theorem g_icmp_ge (hc : GC Γ cc nL own tys lev) {x y : Int32} {off : Int} {tgt : Nat} (hd : decode cc pc = .ok (.if_icmp .ge off, 3)) (ht : (pc : Int) + off = (tgt : Int)) (kt : y ≤ x → G Γ ws tgt lv st) (kf : ¬ y ≤ x → G Γ ws (pc + 3) lv st) : G Γ ws pc lv (.int y :: .int x :: st) := by
  obtain ⟨p, l, e, R, s, m, args, below, meth, c, cells, slots, Q, D, A⟩ := Γ
  intro H locs ls hP hD hS hl
  exact lv_icmp_ge hc.1 hc.2.1 hd ht (fun h => kt h H locs ls hP hD hS hl) (fun h => kf h H locs ls hP hD hS hl)
theorem g_icmp_gt (hc : GC Γ cc nL own tys lev) {x y : Int32} {off : Int} {tgt : Nat} (hd : decode cc pc = .ok (.if_icmp .gt off, 3)) (ht : (pc : Int) + off = (tgt : Int)) (kt : y < x → G Γ ws tgt lv st) (kf : ¬ y < x → G Γ ws (pc + 3) lv st) : G Γ ws pc lv (.int y :: .int x :: st) := by
  obtain ⟨p, l, e, R, s, m, args, below, meth, c, cells, slots, Q, D, A⟩ := Γ
  intro H locs ls hP hD hS hl
  exact lv_icmp_gt hc.1 hc.2.1 hd ht (fun h => kt h H locs ls hP hD hS hl) (fun h => kf h H locs ls hP hD hS hl)
theorem g_icmp_le (hc : GC Γ cc nL own tys lev) {x y : Int32} {off : Int} {tgt : Nat} (hd : decode cc pc = .ok (.if_icmp .le off, 3)) (ht : (pc : Int) + off = (tgt : Int)) (kt : x ≤ y → G Γ ws tgt lv st) (kf : ¬ x ≤ y → G Γ ws (pc + 3) lv st) : G Γ ws pc lv (.int y :: .int x :: st) := by
  obtain ⟨p, l, e, R, s, m, args, below, meth, c, cells, slots, Q, D, A⟩ := Γ
  intro H locs ls hP hD hS hl
  exact lv_icmp_le hc.1 hc.2.1 hd ht (fun h => kt h H locs ls hP hD hS hl) (fun h => kf h H locs ls hP hD hS hl)
theorem g_if_eq (hc : GC Γ cc nL own tys lev) {x : Int32} {off : Int} {tgt : Nat} (hd : decode cc pc = .ok (.ifCond .eq off, 3)) (ht : (pc : Int) + off = (tgt : Int)) (kt : x = 0 → G Γ ws tgt lv st) (kf : ¬ x = 0 → G Γ ws (pc + 3) lv st) : G Γ ws pc lv (.int x :: st) := by
  obtain ⟨p, l, e, R, s, m, args, below, meth, c, cells, slots, Q, D, A⟩ := Γ
  intro H locs ls hP hD hS hl
  exact lv_if_eq hc.1 hc.2.1 hd ht (fun h => kt h H locs ls hP hD hS hl) (fun h => kf h H locs ls hP hD hS hl)
theorem g_if_ne (hc : GC Γ cc nL own tys lev) {x : Int32} {off : Int} {tgt : Nat} (hd : decode cc pc = .ok (.ifCond .ne off, 3)) (ht : (pc : Int) + off = (tgt : Int)) (kt : ¬ x = 0 → G Γ ws tgt lv st) (kf : x = 0 → G Γ ws (pc + 3) lv st) : G Γ ws pc lv (.int x :: st) := by
  obtain ⟨p, l, e, R, s, m, args, below, meth, c, cells, slots, Q, D, A⟩ := Γ
  intro H locs ls hP hD hS hl
  exact lv_if_ne hc.1 hc.2.1 hd ht (fun h => kt h H locs ls hP hD hS hl) (fun h => kf h H locs ls hP hD hS hl)
theorem g_if_lt (hc : GC Γ cc nL own tys lev) {x : Int32} {off : Int} {tgt : Nat} (hd : decode cc pc = .ok (.ifCond .lt off, 3)) (ht : (pc : Int) + off = (tgt : Int)) (kt : x < 0 → G Γ ws tgt lv st) (kf : ¬ x < 0 → G Γ ws (pc + 3) lv st) : G Γ ws pc lv (.int x :: st) := by
  obtain ⟨p, l, e, R, s, m, args, below, meth, c, cells, slots, Q, D, A⟩ := Γ
  intro H locs ls hP hD hS hl
  exact lv_if_lt hc.1 hc.2.1 hd ht (fun h => kt h H locs ls hP hD hS hl) (fun h => kf h H locs ls hP hD hS hl)
theorem g_if_ge (hc : GC Γ cc nL own tys lev) {x : Int32} {off : Int} {tgt : Nat} (hd : decode cc pc = .ok (.ifCond .ge off, 3)) (ht : (pc : Int) + off = (tgt : Int)) (kt : 0 ≤ x → G Γ ws tgt lv st) (kf : ¬ 0 ≤ x → G Γ ws (pc + 3) lv st) : G Γ ws pc lv (.int x :: st) := by
  obtain ⟨p, l, e, R, s, m, args, below, meth, c, cells, slots, Q, D, A⟩ := Γ
  intro H locs ls hP hD hS hl
  exact lv_if_ge hc.1 hc.2.1 hd ht (fun h => kt h H locs ls hP hD hS hl) (fun h => kf h H locs ls hP hD hS hl)
theorem g_if_le (hc : GC Γ cc nL own tys lev) {x : Int32} {off : Int} {tgt : Nat} (hd : decode cc pc = .ok (.ifCond .le off, 3)) (ht : (pc : Int) + off = (tgt : Int)) (kt : x ≤ 0 → G Γ ws tgt lv st) (kf : ¬ x ≤ 0 → G Γ ws (pc + 3) lv st) : G Γ ws pc lv (.int x :: st) := by
  obtain ⟨p, l, e, R, s, m, args, below, meth, c, cells, slots, Q, D, A⟩ := Γ
  intro H locs ls hP hD hS hl
  exact lv_if_le hc.1 hc.2.1 hd ht (fun h => kt h H locs ls hP hD hS hl) (fun h => kf h H locs ls hP hD hS hl)
end GK
end
section
/-! the walk's judgement: fields, arrays, calls, start and end; numbers as Nat -/
set_option maxRecDepth 100000
theorem nar_b {x : Nat} (h : x < 128) : vp_nar .byte (nI x) = nI x := by rw [vp_nar_byte, fa_byte_small h]
theorem nar_s {x : Nat} (h : x < 32768) : vp_nar .short (nI x) = nI x := by
  rw [vp_nar_short]
  have e := nI_toInt (n := x) (by omega)
  exact fb_short (by omega) (by omega)
theorem nar_e {x : Nat} (h : x ≤ 128) : vp_nar .byte (eN x) = eN x := by
  cases x with
  | zero => rfl
  | succ n => exact nar_b (by omega)
theorem i2b_n {x : Nat} (h : x < 128) : (nI x).toInt8.toInt32 = nI x := fa_byte_small h
theorem i2s_n {x : Nat} (h : x < 32768) : (nI x).toInt16.toInt32 = nI x := by
  have e := nI_toInt (n := x) (by omega)
  exact fb_short (by omega) (by omega)
theorem in_nI {i n : Nat} (h : i < n) (hn : n < 2147483648) : vp_in (nI i) n := vp_in_nI h hn
section GK2
variable {Γ : GP} {cc : ByteArray} {nL : Nat} {own : String} {tys : List (ClassId × FieldType)} {lev : Nat} {ws ws' : va_W} {pc : Nat} {lv lv' : List (Nat × Value)} {st : List Value}
theorem x_get (hc : GC Γ cc nL RX0 tys lev) (k : Nat) (hk : k < 14) {idx : Nat} (hl : Cond.fieldLink RX0 idx RX0 (TX0 k).2.1 (TX0 k).2.2.1 ∈ lw_all) {a : Nat} {fs : List Value} {v : Value} (q0 : Nat) (he : ws[q0]? = some (a, .inr (0, fs))) (hv : fs[k]? = some v) (hd : decode cc pc = .ok (.getfield idx, 3)) (hT : (TX0 k).1 = RX0) (kk : G Γ ws (pc + 3) lv (v :: st)) : G Γ ws pc lv (.ref a :: st) := by
  obtain ⟨p, l, e, R, s, m, args, below, meth, c, cells, slots, Q, D, A⟩ := Γ
  intro H locs ls hP hD hS hlv
  obtain ⟨hx, hb, hml, hown, hts, hK, hA, hR⟩ := hc
  exact va_get (D := D) (ci := 0) (v := v) (C := RX0) (T := TX0) (N := 14) hx hb hts in_X0 hown hK hP q0 he rfl k hk (hts _ hl) (fun x h9 => by rw [hT] at h9; exact h9) hv hd (kk H locs ls hP hD hS hlv)
theorem m_get (hc : GC Γ cc nL RX1 tys lev) (k : Nat) (hk : k < 4) {idx : Nat} (hl : Cond.fieldLink RX1 idx RX1 (TX1 k).2.1 (TX1 k).2.2.1 ∈ lw_all) {a : Nat} {fs : List Value} {v : Value} (q0 : Nat) (he : ws[q0]? = some (a, .inr (1, fs))) (hv : fs[k]? = some v) (hd : decode cc pc = .ok (.getfield idx, 3)) (hT : (TX1 k).1 = RX1) (kk : G Γ ws (pc + 3) lv (v :: st)) : G Γ ws pc lv (.ref a :: st) := by
  obtain ⟨p, l, e, R, s, m, args, below, meth, c, cells, slots, Q, D, A⟩ := Γ
  intro H locs ls hP hD hS hlv
  obtain ⟨hx, hb, hml, hown, hts, hK, hA, hR⟩ := hc
  exact va_get (D := D) (ci := 1) (v := v) (C := RX1) (T := TX1) (N := 4) hx hb hts in_X1 hown hK hP q0 he rfl k hk (hts _ hl) (fun x h9 => by rw [hT] at h9; exact h9) hv hd (kk H locs ls hP hD hS hlv)
theorem x_put (hc : GC Γ cc nL RX0 tys lev) (k : Nat) (hk : k < 14) {idx : Nat} (hl : Cond.fieldLink RX0 idx RX0 (TX0 k).2.1 (TX0 k).2.2.1 ∈ lw_all) {a : Nat} {fs : List Value} {v : Value} {ty : FieldType} (q0 : Nat) (he : ws[q0]? = some (a, .inr (0, fs))) (hfin : (TX0 k).2.2.2 = false) (hdp : parseFieldDescriptor (TX0 k).2.2.1 = some ty) (hn : narrow ty v = v) (hfit : fits ty v = true) (hlen : k < fs.length) (hd : decode cc pc = .ok (.putfield idx, 3)) (hT : (TX0 k).1 = RX0) (hw : ws.set q0 (a, .inr (0, fs.set k v)) = ws') (kk : G Γ ws' (pc + 3) lv st) : G Γ ws pc lv (v :: .ref a :: st) := by
  obtain ⟨p, l, e, R, s, m, args, below, meth, c, cells, slots, Q, D, A⟩ := Γ
  intro H locs ls hP hD hS hlv
  obtain ⟨hx, hb, hml, hown, hts, hK, hA, hR⟩ := hc
  subst hw
  exact va_put (D := D) (ci := 0) (v := v) (ty := ty) (C := RX0) (T := TX0) (N := 14) hx hb hts in_X0 tyX0 tyX0_ok nmX0 hown hK hP hD hS q0 he rfl k hk (hts _ hl) (fun x h9 => by rw [hT] at h9; exact h9) hfin hdp hn hfit hlen hd (fun H locs hP hD hS => kk H locs ls hP hD hS hlv)
theorem m_put (hc : GC Γ cc nL RX1 tys lev) (k : Nat) (hk : k < 4) {idx : Nat} (hl : Cond.fieldLink RX1 idx RX1 (TX1 k).2.1 (TX1 k).2.2.1 ∈ lw_all) {a : Nat} {fs : List Value} {v : Value} {ty : FieldType} (q0 : Nat) (he : ws[q0]? = some (a, .inr (1, fs))) (hfin : (TX1 k).2.2.2 = false) (hdp : parseFieldDescriptor (TX1 k).2.2.1 = some ty) (hn : narrow ty v = v) (hfit : fits ty v = true) (hlen : k < fs.length) (hd : decode cc pc = .ok (.putfield idx, 3)) (hT : (TX1 k).1 = RX1) (hw : ws.set q0 (a, .inr (1, fs.set k v)) = ws') (kk : G Γ ws' (pc + 3) lv st) : G Γ ws pc lv (v :: .ref a :: st) := by
  obtain ⟨p, l, e, R, s, m, args, below, meth, c, cells, slots, Q, D, A⟩ := Γ
  intro H locs ls hP hD hS hlv
  obtain ⟨hx, hb, hml, hown, hts, hK, hA, hR⟩ := hc
  subst hw
  exact va_put (D := D) (ci := 1) (v := v) (ty := ty) (C := RX1) (T := TX1) (N := 4) hx hb hts in_X1 tyX1 tyX1_ok nmX1 hown hK hP hD hS q0 he rfl k hk (hts _ hl) (fun x h9 => by rw [hT] at h9; exact h9) hfin hdp hn hfit hlen hd (fun H locs hP hD hS => kk H locs ls hP hD hS hlv)
theorem g_bald (hc : GC Γ cc nL own tys lev) (q0 t0 : Nat) {cA : ClassId} {n a i : Nat} {f : Nat → Int32} (ha : ws[q0]? = some (a, .inl (cA, n, .inl f))) (ht : tys[t0]? = some (cA, .byte)) (hi : i < n) (hn : n < 2147483648) (hd : decode cc pc = .ok (.baload, 1)) (kk : G Γ ws (pc + 1) lv (.int (f i) :: st)) : G Γ ws pc lv (.int (nI i) :: .ref a :: st) := by
  obtain ⟨p, l, e, R, s, m, args, below, meth, c, cells, slots, Q, D, A⟩ := Γ
  intro H locs ls hP hD hS hlv
  have e1 : (nI i).toNatClampNeg = i := nI_clamp (by omega)
  refine va_bald hc.1 hc.2.1 hc.2.2.2.2.2.1 hP q0 t0 ha ht (in_nI hi hn) hd ?_
  rw [e1]
  exact kk H locs ls hP hD hS hlv
theorem g_sald (hc : GC Γ cc nL own tys lev) (q0 t0 : Nat) {cA : ClassId} {n a i : Nat} {f : Nat → Int32} (ha : ws[q0]? = some (a, .inl (cA, n, .inl f))) (ht : tys[t0]? = some (cA, .short)) (hi : i < n) (hn : n < 2147483648) (hd : decode cc pc = .ok (.saload, 1)) (kk : G Γ ws (pc + 1) lv (.int (f i) :: st)) : G Γ ws pc lv (.int (nI i) :: .ref a :: st) := by
  obtain ⟨p, l, e, R, s, m, args, below, meth, c, cells, slots, Q, D, A⟩ := Γ
  intro H locs ls hP hD hS hlv
  have e1 : (nI i).toNatClampNeg = i := nI_clamp (by omega)
  refine va_sald hc.1 hc.2.1 hc.2.2.2.2.2.1 hP q0 t0 ha ht (in_nI hi hn) hd ?_
  rw [e1]
  exact kk H locs ls hP hD hS hlv
theorem g_iald (hc : GC Γ cc nL own tys lev) (q0 t0 : Nat) {cA : ClassId} {n a i : Nat} {f : Nat → Int32} (ha : ws[q0]? = some (a, .inl (cA, n, .inl f))) (ht : tys[t0]? = some (cA, .int)) (hi : i < n) (hn : n < 2147483648) (hd : decode cc pc = .ok (.iaload, 1)) (kk : G Γ ws (pc + 1) lv (.int (f i) :: st)) : G Γ ws pc lv (.int (nI i) :: .ref a :: st) := by
  obtain ⟨p, l, e, R, s, m, args, below, meth, c, cells, slots, Q, D, A⟩ := Γ
  intro H locs ls hP hD hS hlv
  have e1 : (nI i).toNatClampNeg = i := nI_clamp (by omega)
  refine va_iald hc.1 hc.2.1 hc.2.2.2.2.2.1 hP q0 t0 ha ht (in_nI hi hn) hd ?_
  rw [e1]
  exact kk H locs ls hP hD hS hlv
theorem g_bast (hc : GC Γ cc nL own tys lev) (q0 t0 : Nat) {cA : ClassId} {n a i : Nat} {f : Nat → Int32} {x : Int32} (ha : ws[q0]? = some (a, .inl (cA, n, .inl f))) (ht : tys[t0]? = some (cA, .byte)) (hi : i < n) (hn : n < 2147483648) (hd : decode cc pc = .ok (.bastore, 1)) (hx : vp_nar .byte x = x) {g : Nat → Int32} (hg : upd f i x = g) (hw : ws.set q0 (a, .inl (cA, n, .inl g)) = ws') (kk : G Γ ws' (pc + 1) lv st) : G Γ ws pc lv (.int x :: .int (nI i) :: .ref a :: st) := by
  obtain ⟨p, l, e, R, s, m, args, below, meth, c, cells, slots, Q, D, A⟩ := Γ
  intro H locs ls hP hD hS hlv
  have e1 : (nI i).toNatClampNeg = i := nI_clamp (by omega)
  subst hw; subst hg
  refine va_bast hc.1 hc.2.1 hc.2.2.2.2.2.1 hP hD hS q0 t0 ha ht (in_nI hi hn) hd (fun H1 locs1 hP hD hS => ?_)
  rw [e1, hx] at hP hD
  exact kk H1 locs1 ls hP hD hS hlv
theorem g_sast (hc : GC Γ cc nL own tys lev) (q0 t0 : Nat) {cA : ClassId} {n a i : Nat} {f : Nat → Int32} {x : Int32} (ha : ws[q0]? = some (a, .inl (cA, n, .inl f))) (ht : tys[t0]? = some (cA, .short)) (hi : i < n) (hn : n < 2147483648) (hd : decode cc pc = .ok (.sastore, 1)) (hx : vp_nar .short x = x) {g : Nat → Int32} (hg : upd f i x = g) (hw : ws.set q0 (a, .inl (cA, n, .inl g)) = ws') (kk : G Γ ws' (pc + 1) lv st) : G Γ ws pc lv (.int x :: .int (nI i) :: .ref a :: st) := by
  obtain ⟨p, l, e, R, s, m, args, below, meth, c, cells, slots, Q, D, A⟩ := Γ
  intro H locs ls hP hD hS hlv
  have e1 : (nI i).toNatClampNeg = i := nI_clamp (by omega)
  subst hw; subst hg
  refine va_sast hc.1 hc.2.1 hc.2.2.2.2.2.1 hP hD hS q0 t0 ha ht (in_nI hi hn) hd (fun H1 locs1 hP hD hS => ?_)
  rw [e1, hx] at hP hD
  exact kk H1 locs1 ls hP hD hS hlv
theorem g_iast (hc : GC Γ cc nL own tys lev) (q0 t0 : Nat) {cA : ClassId} {n a i : Nat} {f : Nat → Int32} {x : Int32} (ha : ws[q0]? = some (a, .inl (cA, n, .inl f))) (ht : tys[t0]? = some (cA, .int)) (hi : i < n) (hn : n < 2147483648) (hd : decode cc pc = .ok (.iastore, 1)) {g : Nat → Int32} (hg : upd f i x = g) (hw : ws.set q0 (a, .inl (cA, n, .inl g)) = ws') (kk : G Γ ws' (pc + 1) lv st) : G Γ ws pc lv (.int x :: .int (nI i) :: .ref a :: st) := by
  obtain ⟨p, l, e, R, s, m, args, below, meth, c, cells, slots, Q, D, A⟩ := Γ
  intro H locs ls hP hD hS hlv
  have e1 : (nI i).toNatClampNeg = i := nI_clamp (by omega)
  subst hw; subst hg
  refine va_iast hc.1 hc.2.1 hc.2.2.2.2.2.1 hP hD hS q0 t0 ha ht (in_nI hi hn) hd (fun H1 locs1 hP hD hS => ?_)
  rw [e1] at hP hD
  exact kk H1 locs1 ls hP hD hS hlv
-- numbers as Nat
theorem n_bald (hc : GC Γ cc nL own tys lev) (q0 t0 : Nat) {cA : ClassId} {n a i : Nat} {f : Nat → Nat} (ha : ws[q0]? = some (a, .inl (cA, n, .inl (aN f)))) (ht : tys[t0]? = some (cA, .byte)) (hi : i < n) (hn : n < 2147483648) (hd : decode cc pc = .ok (.baload, 1)) (kk : G Γ ws (pc + 1) lv (.int (nI (f i)) :: st)) : G Γ ws pc lv (.int (nI i) :: .ref a :: st) := g_bald hc q0 t0 ha ht hi hn hd kk
theorem n_sald (hc : GC Γ cc nL own tys lev) (q0 t0 : Nat) {cA : ClassId} {n a i : Nat} {f : Nat → Nat} (ha : ws[q0]? = some (a, .inl (cA, n, .inl (aN f)))) (ht : tys[t0]? = some (cA, .short)) (hi : i < n) (hn : n < 2147483648) (hd : decode cc pc = .ok (.saload, 1)) (kk : G Γ ws (pc + 1) lv (.int (nI (f i)) :: st)) : G Γ ws pc lv (.int (nI i) :: .ref a :: st) := g_sald hc q0 t0 ha ht hi hn hd kk
theorem n_iald (hc : GC Γ cc nL own tys lev) (q0 t0 : Nat) {cA : ClassId} {n a i : Nat} {f : Nat → Nat} (ha : ws[q0]? = some (a, .inl (cA, n, .inl (aN f)))) (ht : tys[t0]? = some (cA, .int)) (hi : i < n) (hn : n < 2147483648) (hd : decode cc pc = .ok (.iaload, 1)) (kk : G Γ ws (pc + 1) lv (.int (nI (f i)) :: st)) : G Γ ws pc lv (.int (nI i) :: .ref a :: st) := g_iald hc q0 t0 ha ht hi hn hd kk
theorem e_bald (hc : GC Γ cc nL own tys lev) (q0 t0 : Nat) {cA : ClassId} {n a i : Nat} {f : Nat → Nat} (ha : ws[q0]? = some (a, .inl (cA, n, .inl (eA f)))) (ht : tys[t0]? = some (cA, .byte)) (hi : i < n) (hn : n < 2147483648) (hd : decode cc pc = .ok (.baload, 1)) (kk : G Γ ws (pc + 1) lv (.int (eN (f i)) :: st)) : G Γ ws pc lv (.int (nI i) :: .ref a :: st) := g_bald hc q0 t0 ha ht hi hn hd kk
theorem n_bast (hc : GC Γ cc nL own tys lev) (q0 t0 : Nat) {cA : ClassId} {n a i x : Nat} {f : Nat → Nat} (ha : ws[q0]? = some (a, .inl (cA, n, .inl (aN f)))) (ht : tys[t0]? = some (cA, .byte)) (hi : i < n) (hn : n < 2147483648) (hd : decode cc pc = .ok (.bastore, 1)) (hx : x < 128) (hw : ws.set q0 (a, .inl (cA, n, .inl (aN (updN f i x)))) = ws') (kk : G Γ ws' (pc + 1) lv st) : G Γ ws pc lv (.int (nI x) :: .int (nI i) :: .ref a :: st) := g_bast hc q0 t0 ha ht hi hn hd (nar_b hx) (upd_aN f i x) hw kk
theorem n_sast (hc : GC Γ cc nL own tys lev) (q0 t0 : Nat) {cA : ClassId} {n a i x : Nat} {f : Nat → Nat} (ha : ws[q0]? = some (a, .inl (cA, n, .inl (aN f)))) (ht : tys[t0]? = some (cA, .short)) (hi : i < n) (hn : n < 2147483648) (hd : decode cc pc = .ok (.sastore, 1)) (hx : x < 32768) (hw : ws.set q0 (a, .inl (cA, n, .inl (aN (updN f i x)))) = ws') (kk : G Γ ws' (pc + 1) lv st) : G Γ ws pc lv (.int (nI x) :: .int (nI i) :: .ref a :: st) := g_sast hc q0 t0 ha ht hi hn hd (nar_s hx) (upd_aN f i x) hw kk
theorem n_iast (hc : GC Γ cc nL own tys lev) (q0 t0 : Nat) {cA : ClassId} {n a i x : Nat} {f : Nat → Nat} (ha : ws[q0]? = some (a, .inl (cA, n, .inl (aN f)))) (ht : tys[t0]? = some (cA, .int)) (hi : i < n) (hn : n < 2147483648) (hd : decode cc pc = .ok (.iastore, 1)) (hw : ws.set q0 (a, .inl (cA, n, .inl (aN (updN f i x)))) = ws') (kk : G Γ ws' (pc + 1) lv st) : G Γ ws pc lv (.int (nI x) :: .int (nI i) :: .ref a :: st) := g_iast hc q0 t0 ha ht hi hn hd (upd_aN f i x) hw kk
theorem e_bast (hc : GC Γ cc nL own tys lev) (q0 t0 : Nat) {cA : ClassId} {n a i x : Nat} {f : Nat → Nat} (ha : ws[q0]? = some (a, .inl (cA, n, .inl (eA f)))) (ht : tys[t0]? = some (cA, .byte)) (hi : i < n) (hn : n < 2147483648) (hd : decode cc pc = .ok (.bastore, 1)) (hx : x ≤ 128) (hw : ws.set q0 (a, .inl (cA, n, .inl (eA (updN f i x)))) = ws') (kk : G Γ ws' (pc + 1) lv st) : G Γ ws pc lv (.int (eN x) :: .int (nI i) :: .ref a :: st) := g_bast hc q0 t0 ha ht hi hn hd (nar_e hx) (upd_eA f i x) hw kk
theorem n_iadd (hc : GC Γ cc nL own tys lev) {x y : Nat} (hd : decode cc pc = .ok (.iadd, 1)) (k : G Γ ws (pc + 1) lv (.int (nI (x + y)) :: st)) : G Γ ws pc lv (.int (nI y) :: .int (nI x) :: st) := g_iadd hc hd (by rw [nI_add]; exact k)
theorem n_imul (hc : GC Γ cc nL own tys lev) {x y : Nat} (hd : decode cc pc = .ok (.imul, 1)) (k : G Γ ws (pc + 1) lv (.int (nI (x * y)) :: st)) : G Γ ws pc lv (.int (nI y) :: .int (nI x) :: st) := g_imul hc hd (by rw [pk_mul]; exact k)
theorem n_isub (hc : GC Γ cc nL own tys lev) {x y : Nat} (hd : decode cc pc = .ok (.isub, 1)) (h : y ≤ x) (k : G Γ ws (pc + 1) lv (.int (nI (x - y)) :: st)) : G Γ ws pc lv (.int (nI y) :: .int (nI x) :: st) := g_isub hc hd (by rw [pk_sub h]; exact k)
theorem n_ior (hc : GC Γ cc nL own tys lev) {x y : Nat} (hd : decode cc pc = .ok (.ior, 1)) (k : G Γ ws (pc + 1) lv (.int (nI (x ||| y)) :: st)) : G Γ ws pc lv (.int (nI y) :: .int (nI x) :: st) := g_ior hc hd (by rw [fa_or]; exact k)
theorem n_iand (hc : GC Γ cc nL own tys lev) {x y : Nat} (hd : decode cc pc = .ok (.iand, 1)) (k : G Γ ws (pc + 1) lv (.int (nI (x &&& y)) :: st)) : G Γ ws pc lv (.int (nI y) :: .int (nI x) :: st) := g_iand hc hd (by rw [fa_and]; exact k)
theorem n_ishl (hc : GC Γ cc nL own tys lev) {x y : Nat} (hd : decode cc pc = .ok (.ishl, 1)) (hy : y < 32) (h : x * 2 ^ y < 4294967296) (k : G Γ ws (pc + 1) lv (.int (nI (x * 2 ^ y)) :: st)) : G Γ ws pc lv (.int (nI y) :: .int (nI x) :: st) := g_ishl hc hd (by rw [pk_shlN (nI y &&& 31) y (s_l y hy) h]; exact k)
theorem n_ishr (hc : GC Γ cc nL own tys lev) {x y : Nat} (hd : decode cc pc = .ok (.ishr, 1)) (hy : y < 32) (h : x < 2147483648) (k : G Γ ws (pc + 1) lv (.int (nI (x / 2 ^ y)) :: st)) : G Γ ws pc lv (.int (nI y) :: .int (nI x) :: st) := g_ishr hc hd (by rw [pk_shrN h (nI y &&& 31) y (s_l y hy)]; exact k)
theorem n_idiv (hc : GC Γ cc nL own tys lev) {x y : Nat} (hd : decode cc pc = .ok (.idiv, 1)) (h0 : 0 < y) (hy : y < 2147483648) (h : x < 2147483648) (k : G Γ ws (pc + 1) lv (.int (nI (x / y)) :: st)) : G Γ ws pc lv (.int (nI y) :: .int (nI x) :: st) := g_idiv hc hd (nI_ne0 h0 hy) (by rw [pk_div h h0 hy]; exact k)
theorem n_irem (hc : GC Γ cc nL own tys lev) {x y : Nat} (hd : decode cc pc = .ok (.irem, 1)) (h0 : 0 < y) (hy : y < 2147483648) (h : x < 2147483648) (k : G Γ ws (pc + 1) lv (.int (nI (x % y)) :: st)) : G Γ ws pc lv (.int (nI y) :: .int (nI x) :: st) := g_irem hc hd (nI_ne0 h0 hy) (by rw [pk_rem h h0 hy]; exact k)
theorem n_i2b (hc : GC Γ cc nL own tys lev) {x : Nat} (hd : decode cc pc = .ok (.i2b, 1)) (h : x < 128) (k : G Γ ws (pc + 1) lv (.int (nI x) :: st)) : G Γ ws pc lv (.int (nI x) :: st) := g_i2b hc hd (i2b_n h) k
theorem n_i2s (hc : GC Γ cc nL own tys lev) {x : Nat} (hd : decode cc pc = .ok (.i2s, 1)) (h : x < 32768) (k : G Γ ws (pc + 1) lv (.int (nI x) :: st)) : G Γ ws pc lv (.int (nI x) :: st) := g_i2s hc hd (i2s_n h) k
theorem n_iinc (hc : GC Γ cc nL own tys lev) {i q x : Nat} (hd : decode cc pc = .ok (.iinc i 1, 3)) (hq : lv[q]? = some (i, .int (nI x))) (hn : i < nL) (ks : List Nat) (h : lv_pick ((i, Value.int (nI (x + 1))) :: lv.filter (fun q => !(q.1 == i) && !(q.1 + 1 == i && q.2.category == 2))) ks = lv') (k : G Γ ws (pc + 3) lv' st) : G Γ ws pc lv st := g_iinc hc hd hq (show nI x + Int32.ofInt 1 = nI (x + 1) from nI_1 x) hn ks h k
theorem n_icmp_eq (hc : GC Γ cc nL own tys lev) {x y : Nat} {off : Int} {tgt : Nat} (hd : decode cc pc = .ok (.if_icmp .eq off, 3)) (ht : (pc : Int) + off = (tgt : Int)) (hx : x < 2147483648) (hy : y < 2147483648) (kt : x = y → G Γ ws tgt lv st) (kf : ¬ x = y → G Γ ws (pc + 3) lv st) : G Γ ws pc lv (.int (nI y) :: .int (nI x) :: st) := g_icmp_eq hc hd ht (fun h => kt ((nI_eq hx hy).mp h)) (fun h => kf (fun e => h (by rw [e])))
theorem n_icmp_ne (hc : GC Γ cc nL own tys lev) {x y : Nat} {off : Int} {tgt : Nat} (hd : decode cc pc = .ok (.if_icmp .ne off, 3)) (ht : (pc : Int) + off = (tgt : Int)) (hx : x < 2147483648) (hy : y < 2147483648) (kt : ¬ x = y → G Γ ws tgt lv st) (kf : x = y → G Γ ws (pc + 3) lv st) : G Γ ws pc lv (.int (nI y) :: .int (nI x) :: st) := g_icmp_ne hc hd ht (fun h => kt (fun e => h (by rw [e]))) (fun h => kf ((nI_eq hx hy).mp h))
theorem n_icmp_lt (hc : GC Γ cc nL own tys lev) {x y : Nat} {off : Int} {tgt : Nat} (hd : decode cc pc = .ok (.if_icmp .lt off, 3)) (ht : (pc : Int) + off = (tgt : Int)) (hx : x < 2147483648) (hy : y < 2147483648) (kt : x < y → G Γ ws tgt lv st) (kf : y ≤ x → G Γ ws (pc + 3) lv st) : G Γ ws pc lv (.int (nI y) :: .int (nI x) :: st) := g_icmp_lt hc hd ht (fun h => kt ((nI_ltI hx hy).mp h)) (fun h => kf (Nat.not_lt.mp (fun e => h ((nI_ltI hx hy).mpr e))))
theorem n_icmp_ge (hc : GC Γ cc nL own tys lev) {x y : Nat} {off : Int} {tgt : Nat} (hd : decode cc pc = .ok (.if_icmp .ge off, 3)) (ht : (pc : Int) + off = (tgt : Int)) (hx : x < 2147483648) (hy : y < 2147483648) (kt : y ≤ x → G Γ ws tgt lv st) (kf : x < y → G Γ ws (pc + 3) lv st) : G Γ ws pc lv (.int (nI y) :: .int (nI x) :: st) := g_icmp_ge hc hd ht (fun h => kt ((nI_leI hy hx).mp h)) (fun h => kf (Nat.not_le.mp (fun e => h ((nI_leI hy hx).mpr e))))
theorem n_icmp_gt (hc : GC Γ cc nL own tys lev) {x y : Nat} {off : Int} {tgt : Nat} (hd : decode cc pc = .ok (.if_icmp .gt off, 3)) (ht : (pc : Int) + off = (tgt : Int)) (hx : x < 2147483648) (hy : y < 2147483648) (kt : y < x → G Γ ws tgt lv st) (kf : x ≤ y → G Γ ws (pc + 3) lv st) : G Γ ws pc lv (.int (nI y) :: .int (nI x) :: st) := g_icmp_gt hc hd ht (fun h => kt ((nI_ltI hy hx).mp h)) (fun h => kf (Nat.not_lt.mp (fun e => h ((nI_ltI hy hx).mpr e))))
theorem n_icmp_le (hc : GC Γ cc nL own tys lev) {x y : Nat} {off : Int} {tgt : Nat} (hd : decode cc pc = .ok (.if_icmp .le off, 3)) (ht : (pc : Int) + off = (tgt : Int)) (hx : x < 2147483648) (hy : y < 2147483648) (kt : x ≤ y → G Γ ws tgt lv st) (kf : y < x → G Γ ws (pc + 3) lv st) : G Γ ws pc lv (.int (nI y) :: .int (nI x) :: st) := g_icmp_le hc hd ht (fun h => kt ((nI_leI hx hy).mp h)) (fun h => kf (Nat.not_le.mp (fun e => h ((nI_leI hx hy).mpr e))))
theorem n_if_eq (hc : GC Γ cc nL own tys lev) {x : Nat} {off : Int} {tgt : Nat} (hd : decode cc pc = .ok (.ifCond .eq off, 3)) (ht : (pc : Int) + off = (tgt : Int)) (hx : x < 2147483648) (kt : x = 0 → G Γ ws tgt lv st) (kf : ¬ x = 0 → G Γ ws (pc + 3) lv st) : G Γ ws pc lv (.int (nI x) :: st) := g_if_eq hc hd ht (fun h => kt ((nI_eq (b := 0) hx (by decide)).mp h)) (fun h => kf (fun e => h (by rw [e]; rfl)))
theorem n_if_ne (hc : GC Γ cc nL own tys lev) {x : Nat} {off : Int} {tgt : Nat} (hd : decode cc pc = .ok (.ifCond .ne off, 3)) (ht : (pc : Int) + off = (tgt : Int)) (hx : x < 2147483648) (kt : ¬ x = 0 → G Γ ws tgt lv st) (kf : x = 0 → G Γ ws (pc + 3) lv st) : G Γ ws pc lv (.int (nI x) :: st) := g_if_ne hc hd ht (fun h => kt (fun e => h (by rw [e]; rfl))) (fun h => kf ((nI_eq (b := 0) hx (by decide)).mp h))
theorem n_if_le (hc : GC Γ cc nL own tys lev) {x : Nat} {off : Int} {tgt : Nat} (hd : decode cc pc = .ok (.ifCond .le off, 3)) (ht : (pc : Int) + off = (tgt : Int)) (hx : x < 2147483648) (kt : x = 0 → G Γ ws tgt lv st) (kf : 0 < x → G Γ ws (pc + 3) lv st) : G Γ ws pc lv (.int (nI x) :: st) := g_if_le hc hd ht (fun h => kt (Nat.le_zero.mp ((nI_leI (b := 0) hx (by decide)).mp h))) (fun h => kf (Nat.pos_of_ne_zero (fun e => h (by rw [e]; decide))))
theorem n_if_ge (hc : GC Γ cc nL own tys lev) {x : Nat} {off : Int} {tgt : Nat} (hd : decode cc pc = .ok (.ifCond .ge off, 3)) (ht : (pc : Int) + off = (tgt : Int)) (hx : x < 2147483648) (kt : G Γ ws tgt lv st) : G Γ ws pc lv (.int (nI x) :: st) := g_if_ge hc hd ht (fun _ => kt) (fun h => absurd (nI_pos' hx) h)
theorem n_if_lt (hc : GC Γ cc nL own tys lev) {x : Nat} {off : Int} {tgt : Nat} (hd : decode cc pc = .ok (.ifCond .lt off, 3)) (ht : (pc : Int) + off = (tgt : Int)) (hx : x < 2147483648) (kf : G Γ ws (pc + 3) lv st) : G Γ ws pc lv (.int (nI x) :: st) := g_if_lt hc hd ht (fun h => absurd h (nI_pos hx)) (fun _ => kf)
theorem e_if_ge (hc : GC Γ cc nL own tys lev) {x : Nat} {off : Int} {tgt : Nat} (hd : decode cc pc = .ok (.ifCond .ge off, 3)) (ht : (pc : Int) + off = (tgt : Int)) (hx : x < 2147483648) (kt : ∀ y, x = y + 1 → G Γ ws tgt lv st) (kf : x = 0 → G Γ ws (pc + 3) lv st) : G Γ ws pc lv (.int (eN x) :: st) := by
  cases x with
  | zero => exact g_if_ge hc hd ht (fun h => absurd h (by decide)) (fun _ => kf rfl)
  | succ y => exact n_if_ge hc hd ht (by omega) (kt y rfl)
theorem e_if_lt (hc : GC Γ cc nL own tys lev) {x : Nat} {off : Int} {tgt : Nat} (hd : decode cc pc = .ok (.ifCond .lt off, 3)) (ht : (pc : Int) + off = (tgt : Int)) (hx : x < 2147483648) (kt : x = 0 → G Γ ws tgt lv st) (kf : ∀ y, x = y + 1 → G Γ ws (pc + 3) lv st) : G Γ ws pc lv (.int (eN x) :: st) := by
  cases x with
  | zero => exact g_if_lt hc hd ht (fun _ => kt rfl) (fun h => absurd (show (-1 : Int32) < 0 by decide) h)
  | succ y => exact n_if_lt hc hd ht (by omega) (kf y rfl)
end GK2
end
section
/-! contracts in the walk's judgement: start, end, calls -/
set_option maxRecDepth 100000
def GB (D : va_G) (tys : List (ClassId × FieldType)) (ws0 : va_W) (sz : Nat) : State → Prop := fun U => U.heap.size = sz ∧ va_P D vwCl ws0 U.heap ∧ va_K D vwCl tys U ∧ va_D (fun _ => True) ws0
def GE (D : va_G) (tys : List (ClassId × FieldType)) (ws0 : va_W) (sz : Nat) {S : Type} (wf : S → va_W) : S → State → Prop := fun u t => va_P D vwCl (wf u) t.heap ∧ va_K D vwCl tys t ∧ va_D (va_A ws0 sz) (wf u)
/-- a contract of a method with an int (or boolean) answer: As its arguments, ws0 its world at the start, wf u its world at the end, post answer u -/
def MI (y : MethodName) (cc : ByteArray) (nL : Nat) (ret : FieldType) (lev : Nat) (tys : List (ClassId × FieldType)) (As : List Value) (ws0 : va_W) {S : Type} (wf : S → va_W) (post : Int32 → S → Prop) : Prop :=
  ∀ (l : Launch) (D : va_G) (sz : Nat), Met l y (ws_ y cc nL (some ret)) (rmN lev) (va_Pc As (GB D tys ws0 sz)) (va_Qi post (GE D tys ws0 sz wf) (va_A ws0 sz)) 0 0 (va_A ws0 sz)
/-- the same without an answer -/
def MV (y : MethodName) (cc : ByteArray) (nL : Nat) (lev : Nat) (tys : List (ClassId × FieldType)) (As : List Value) (ws0 : va_W) {S : Type} (wf : S → va_W) (post : S → Prop) : Prop :=
  ∀ (l : Launch) (D : va_G) (sz : Nat), Met l y (ws_ y cc nL none) (rmN lev) (va_Pc As (GB D tys ws0 sz)) (va_Qv post (GE D tys ws0 sz wf) (va_A ws0 sz)) 0 0 (va_A ws0 sz)
theorem MI.weak {y : MethodName} {cc : ByteArray} {nL : Nat} {ret : FieldType} {lev : Nat} {tys : List (ClassId × FieldType)} {As : List Value} {ws0 : va_W} {S : Type} {wf : S → va_W} {post post' : Int32 → S → Prop} (h : MI y cc nL ret lev tys As ws0 wf post) (hp : ∀ r u, post r u → post' r u) : MI y cc nL ret lev tys As ws0 wf post' := by
  intro l D sz
  intro p e ha hc hk s m args below hf happ hP hK
  obtain ⟨k, o, h1, h2, h3, ⟨⟨⟨r, u, a1, a2, a3⟩, a4⟩, a5⟩⟩ := h l D sz p e ha hc hk s m args below hf happ hP hK
  exact ⟨k, o, h1, h2, h3, ⟨⟨⟨r, u, a1, hp r u a2, a3⟩, a4⟩, a5⟩⟩
section GK3
variable {cc : ByteArray} {nL : Nat} {tys : List (ClassId × FieldType)} {lev : Nat} {ws0 : va_W} {S : Type} {wf : S → va_W} {y : MethodName} {As : List Value} {lv0 : List (Nat × Value)}
theorem g_enterI {ret : FieldType} {post : Int32 → S → Prop} (hy : plainName y.cls = true) (hlen : (lg_sl As).length ≤ nL) (hlv : lv_args 0 As = lv0) (hnar : ∀ r u, post r u → narrow ret (.int r) = .int r)
    (body : ∀ Γ : GP, GC Γ cc nL y.cls tys lev → (∀ (r : Int32) (u : S) (pc : Nat) (lv : List (Nat × Value)), post r u → decode cc pc = .ok (.ireturn, 1) → G Γ (wf u) pc lv [.int r]) → G Γ ws0 0 lv0 []) : MI y cc nL ret lev tys As ws0 wf post := by
  intro l D sz
  refine Met.ofW (cc := cc) (maxL := nL) (ret := some ret) hy rfl ?_
  intro p e s m args below meth c s₁ B hml hv
  obtain ⟨rfl, hsz, hP, hK, hD0⟩ := hv
  have hx := B.exec
  have hb := B.bytes
  have hr := B.returns
  have hts := atoms_spec (ws := ws_ y cc nL (some ret)) B.pre
  have hts : ∀ w ∈ lw_all, w.before _ s = true := fun w h => hts w (List.mem_cons_of_mem _ h)
  have hown : s.vm.findClass y.cls = some m.cls := findClass_of_methodNamed B.named
  have hlocks := B.notSynchronized
  subst hsz
  have hD := hD0.self (sz := s.heap.size)
  have hl := lv_entry As (n := nL) hlen
  rw [lg_entry_eq]
  rw [hlv] at hl
  have hGC : GC (p, l, e, (headSpec (ws_ y cc nL (some ret)) (rmN lev)).room, s, m, As.toArray, below, meth, c, 0, 0, MQ below (va_Qi post (GE D tys ws0 s.heap.size wf) (va_A ws0 s.heap.size)) As.toArray s 0 0 (va_A ws0 s.heap.size), D, va_A ws0 s.heap.size) cc nL y.cls tys lev := ⟨hx, hb, hml, hown, hts, hK, fun q h => Or.inr h, ⟨Nat.le_refl _, Nat.le_refl _⟩, Nat.zero_le _, Nat.zero_le _⟩
  refine body _ hGC ?_ s.heap [] _ hP hD va_S.rf (by rw [hml]; exact hl)
  intro r u pc lv hpost hd H locs ls hP hD hS hlv
  exact W.zret (v := r) hx hb hr (hnar r u hpost) (fun t ht hW => ⟨⟨r, u, rfl, hpost, by rw [ht]; exact hP, va_K.moved hW.alike hK, hD⟩, hS.F ht⟩) hS.2.2 hd
theorem g_enterV {post : S → Prop} (hy : plainName y.cls = true) (hlen : (lg_sl As).length ≤ nL) (hlv : lv_args 0 As = lv0)
    (body : ∀ Γ : GP, GC Γ cc nL y.cls tys lev → (∀ (u : S) (pc : Nat) (lv : List (Nat × Value)), post u → decode cc pc = .ok (.return_, 1) → G Γ (wf u) pc lv []) → G Γ ws0 0 lv0 []) : MV y cc nL lev tys As ws0 wf post := by
  intro l D sz
  refine Met.ofW (cc := cc) (maxL := nL) (ret := none) hy rfl ?_
  intro p e s m args below meth c s₁ B hml hv
  obtain ⟨rfl, hsz, hP, hK, hD0⟩ := hv
  have hx := B.exec
  have hb := B.bytes
  have hr := B.returns
  have hts := atoms_spec (ws := ws_ y cc nL none) B.pre
  have hts : ∀ w ∈ lw_all, w.before _ s = true := fun w h => hts w (List.mem_cons_of_mem _ h)
  have hown : s.vm.findClass y.cls = some m.cls := findClass_of_methodNamed B.named
  have hlocks := B.notSynchronized
  subst hsz
  have hD := hD0.self (sz := s.heap.size)
  have hl := lv_entry As (n := nL) hlen
  rw [lg_entry_eq]
  rw [hlv] at hl
  have hGC : GC (p, l, e, (headSpec (ws_ y cc nL none) (rmN lev)).room, s, m, As.toArray, below, meth, c, 0, 0, MQ below (va_Qv post (GE D tys ws0 s.heap.size wf) (va_A ws0 s.heap.size)) As.toArray s 0 0 (va_A ws0 s.heap.size), D, va_A ws0 s.heap.size) cc nL y.cls tys lev := ⟨hx, hb, hml, hown, hts, hK, fun q h => Or.inr h, ⟨Nat.le_refl _, Nat.le_refl _⟩, Nat.zero_le _, Nat.zero_le _⟩
  refine body _ hGC ?_ s.heap [] _ hP hD va_S.rf (by rw [hml]; exact hl)
  intro u pc lv hpost hd H locs ls hP hD hS hlv
  exact W.vret hx hb hr (fun t ht hW => ⟨⟨u, rfl, hpost, by rw [ht]; exact hP, va_K.moved hW.alike hK, hD⟩, hS.F ht⟩) hS.2.2 hd
end GK3
theorem P_of_map {D : va_G} {cl : List vw_C} {ws ws' : va_W} {H : Heap} (h : va_P D cl ws H) (is : List Nat) (hs : is.map (fun i => ws[i]?) = ws'.map some) : va_P D cl ws' H := by
  intro k q hk
  have h1 : (is.map (fun i => ws[i]?))[k]? = some (some q) := by rw [hs, List.getElem?_map, hk]; rfl
  rw [List.getElem?_map] at h1
  cases hi : is[k]? with
  | none => rw [hi] at h1; cases h1
  | some i => rw [hi] at h1; exact h i q (Option.some.inj h1)
theorem range_map (ws : va_W) : (List.range ws.length).map (fun i => ws[i]?) = ws.map some := by
  apply List.ext_getElem?
  intro i
  by_cases hi : i < ws.length
  · simp [hi]
  · simp [hi]
theorem nd_of {l : List Nat} (h : l.Nodup) : va_nd l = true := by
  induction l with
  | nil => rfl
  | cons a l ih =>
    rw [List.nodup_cons] at h
    simp only [va_nd, Bool.and_eq_true, decide_eq_true_eq]
    exact ⟨h.1, ih h.2⟩
theorem range_nd (n : Nat) : va_nd (List.range n) = true := nd_of List.nodup_range
theorem range_map2 {α : Type} (ws : List α) : (List.range ws.length).map (fun i => ws[i]?) = ws.map some := by
  apply List.ext_getElem?
  intro i
  by_cases hi : i < ws.length
  · simp [hi]
  · simp [hi]
theorem range_fm (ws : List (ClassId × FieldType)) : (List.range ws.length).filterMap (fun i => ws[i]?) = ws := by
  have h1 : (List.range ws.length).filterMap (fun i => ws[i]?) = ((List.range ws.length).map (fun i => ws[i]?)).filterMap id := by rw [List.filterMap_map]; rfl
  rw [h1, range_map2, List.filterMap_map]
  exact List.filterMap_some
theorem gb_blind {D : va_G} {tys : List (ClassId × FieldType)} {ws0 : va_W} {sz : Nat} {As : List Value} : FrameBlind (va_Pc As (GB D tys ws0 sz)) := by
  intro a U g mk q
  obtain ⟨q0, q1, qP, qK, qD⟩ := q
  exact ⟨q0, q1, qP, va_K.moved (u := U) (U := U.calling g mk a) (Vm.Alike.refl U.vm) qK, qD⟩
section GK4
variable {Γ : GP} {cc : ByteArray} {nL : Nat} {own : String} {tys tys' : List (ClassId × FieldType)} {lev : Nat} {ws wr ws0 w2 : va_W} {pc : Nat} {lv : List (Nat × Value)} {st rest : List Value}
variable {S : Type} {wf : S → va_W} {y : MethodName} {As : List Value} {bytes : ByteArray} {maxL lev' idx n : Nat} {C : String}
/-- a call of a method of an object, with an int answer: the callee's cells are those at isC, the rest (isR) stays -/
theorem g_callI {ret : FieldType} {post : Int32 → S → Prop} {b : Nat} (hc : GC Γ cc nL own tys lev) (hM : MI y bytes maxL ret lev' tys' (.ref b :: As) ws0 wf post)
    (hw : GoodIn lw_all (wsV own idx C y (ws_ y bytes maxL (some ret)))) (hd : y.cls = C ∧ y.cls ≠ "java/lang/invoke/MethodHandle" ∧ y.cls ≠ "java/lang/invoke/VarHandle" ∧ (parseMethodDescriptor y.desc).map (fun d => d.parameters.length) = some n)
    (hlev : lev' + 1 ≤ lev) (hL : maxL ≤ 21) (hn : As.length = n) (isC isR ist : List Nat) (hC : isC.map (fun i => ws[i]?) = ws0.map some) (hR : isR.map (fun i => ws[i]?) = wr.map some) (hnC : va_nd isC = true) (hnR : va_nd isR = true) (hdis : ∀ i ∈ isR, i ∉ isC) (hty : ist.filterMap (fun i => tys[i]?) = tys')
    {ci q0 : Nat} {fs : List Value} {T : u_T} {N : Nat} (hcl : vwCl[ci]? = some (C, T, N)) (hrecv : ws0[q0]? = some (b, .inr (ci, fs)))
    (hst : st = As.reverse ++ .ref b :: rest) (hroom : (rest.map fun v => v.category).sum ≤ 8) (hdg : decode cc pc = .ok (.invokevirtual idx, 3))
    (kk : ∀ (r : Int32) (u : S), post r u → G Γ (wr ++ wf u) (pc + 3) lv (.int r :: rest)) : G Γ ws pc lv st := by
  obtain ⟨p, l, e, R, s, m, args, below, meth, c, cells, slots, Q, D, A⟩ := Γ
  intro H locs ls hP hD hS hlv
  obtain ⟨hx, hb, hml, hown, hts, hK, hA, ⟨hf1, hf2⟩, hcs⟩ := hc
  subst hst
  have hPc : va_P D vwCl ws0 H := P_of_map hP isC hC
  have hDc : va_D A ws0 := hD.sub isC hnC hC
  have hKc : va_K D vwCl tys' s := hK.sub ist hty
  have hFc := va_free (wc := ws0) hD hS hA isC hC
  refine va_calli (va_runV (As := As) (rest := rest) ⟨hx, hb, hml, hown, hts⟩ (hM l D H.size) (cwV n hts hw rfl rfl rfl hd ⟨Nat.le_trans hlev hf1, Nat.le_trans (show 8 + (maxL + 11) + 40 * lev' ≤ 40 * lev by omega) hf2⟩) ⟨gb_blind, va_recv hKc hPc (ci := ci) (q0 := q0) hcl hrecv, fun U hU hW => ⟨rfl, by rw [hU], by rw [hU]; exact hPc, va_K.moved hW.alike hKc, hDc.weaken (fun _ _ _ _ => trivial)⟩⟩ rfl hn (hlv.1.trans hml) rfl (lv_room hroom) hdg ⟨hcs.1, hcs.2⟩) hS (fun q _ h => hFc q h) hFc (fun r u t H1 locs ht hvm hw1 hB hz1 hk1 hS => ?_)
  obtain ⟨hP1, hK1, hD1⟩ := hB
  rw [ht] at hP1
  obtain ⟨hP, hD⟩ := va_join (wr := wr) (w1 := wf u) hP hD isC isR hC hR hnR hdis hk1 hFc hP1 hD1
  exact kk r u hw1 H1 locs ls hP hD hS hlv
theorem g_callV {post : S → Prop} {b : Nat} (hc : GC Γ cc nL own tys lev) (hM : MV y bytes maxL lev' tys' (.ref b :: As) ws0 wf post)
    (hw : GoodIn lw_all (wsV own idx C y (ws_ y bytes maxL none))) (hd : y.cls = C ∧ y.cls ≠ "java/lang/invoke/MethodHandle" ∧ y.cls ≠ "java/lang/invoke/VarHandle" ∧ (parseMethodDescriptor y.desc).map (fun d => d.parameters.length) = some n)
    (hlev : lev' + 1 ≤ lev) (hL : maxL ≤ 21) (hn : As.length = n) (isC isR ist : List Nat) (hC : isC.map (fun i => ws[i]?) = ws0.map some) (hR : isR.map (fun i => ws[i]?) = wr.map some) (hnC : va_nd isC = true) (hnR : va_nd isR = true) (hdis : ∀ i ∈ isR, i ∉ isC) (hty : ist.filterMap (fun i => tys[i]?) = tys')
    {ci q0 : Nat} {fs : List Value} {T : u_T} {N : Nat} (hcl : vwCl[ci]? = some (C, T, N)) (hrecv : ws0[q0]? = some (b, .inr (ci, fs)))
    (hst : st = As.reverse ++ .ref b :: rest) (hroom : (rest.map fun v => v.category).sum ≤ 8) (hdg : decode cc pc = .ok (.invokevirtual idx, 3))
    (kk : ∀ (u : S), post u → G Γ (wr ++ wf u) (pc + 3) lv rest) : G Γ ws pc lv st := by
  obtain ⟨p, l, e, R, s, m, args, below, meth, c, cells, slots, Q, D, A⟩ := Γ
  intro H locs ls hP hD hS hlv
  obtain ⟨hx, hb, hml, hown, hts, hK, hA, ⟨hf1, hf2⟩, hcs⟩ := hc
  subst hst
  have hPc : va_P D vwCl ws0 H := P_of_map hP isC hC
  have hDc : va_D A ws0 := hD.sub isC hnC hC
  have hKc : va_K D vwCl tys' s := hK.sub ist hty
  have hFc := va_free (wc := ws0) hD hS hA isC hC
  refine va_callv (va_runV (As := As) (rest := rest) ⟨hx, hb, hml, hown, hts⟩ (hM l D H.size) (cwV n hts hw rfl rfl rfl hd ⟨Nat.le_trans hlev hf1, Nat.le_trans (show 8 + (maxL + 11) + 40 * lev' ≤ 40 * lev by omega) hf2⟩) ⟨gb_blind, va_recv hKc hPc (ci := ci) (q0 := q0) hcl hrecv, fun U hU hW => ⟨rfl, by rw [hU], by rw [hU]; exact hPc, va_K.moved hW.alike hKc, hDc.weaken (fun _ _ _ _ => trivial)⟩⟩ rfl hn (hlv.1.trans hml) rfl (lv_room hroom) hdg ⟨hcs.1, hcs.2⟩) hS (fun q _ h => hFc q h) hFc (fun u t H1 locs ht hvm hw1 hB hz1 hk1 hS => ?_)
  obtain ⟨hP1, hK1, hD1⟩ := hB
  rw [ht] at hP1
  obtain ⟨hP, hD⟩ := va_join (wr := wr) (w1 := wf u) hP hD isC isR hC hR hnR hdis hk1 hFc hP1 hD1
  exact kk u hw1 H1 locs ls hP hD hS hlv
/-- a static call that touches no cell -/
theorem g_callS {ret : FieldType} {post : Int32 → Unit → Prop} (hc : GC Γ cc nL own tys lev) (hM : MI y bytes maxL ret lev' [] As [] (fun _ : Unit => []) post)
    (hw : GoodIn lw_all (va_wsS own idx y (ws_ y bytes maxL (some ret)))) (hd : y.cls ≠ "java/lang/invoke/MethodHandle" ∧ y.cls ≠ "java/lang/invoke/VarHandle" ∧ (parseMethodDescriptor y.desc).map (fun d => d.parameters.length) = some n)
    (hlev : lev' + 1 ≤ lev) (hL : maxL ≤ 21) (hn : As.length = n)
    (hst : st = As.reverse ++ rest) (hroom : (rest.map fun v => v.category).sum ≤ 8) (hdg : decode cc pc = .ok (.invokestatic idx, 3))
    (kk : ∀ (r : Int32), post r () → G Γ ws (pc + 3) lv (.int r :: rest)) : G Γ ws pc lv st := by
  obtain ⟨p, l, e, R, s, m, args, below, meth, c, cells, slots, Q, D, A⟩ := Γ
  intro H locs ls hP hD hS hlv
  obtain ⟨hx, hb, hml, hown, hts, hK, hA, ⟨hf1, hf2⟩, hcs⟩ := hc
  subst hst
  have hPc : va_P D vwCl [] H := fun k q h => by simp at h
  have hDc : va_D A [] := ⟨fun i j p q h => by simp at h, fun k q h => by simp at h⟩
  have hKc : va_K D vwCl [] s := hK.sub [] rfl
  have hFc := va_free (wc := []) hD hS hA [] rfl
  refine va_calli (va_runS (As := As) (rest := rest) ⟨hx, hb, hml, hown, hts⟩ (hM l D H.size) (va_cwS n hts hw rfl rfl rfl hd ⟨Nat.le_trans hlev hf1, Nat.le_trans (show 8 + (maxL + 11) + 40 * lev' ≤ 40 * lev by omega) hf2⟩) ⟨gb_blind, fun U hU hW => ⟨rfl, by rw [hU], by rw [hU]; exact hPc, va_K.moved hW.alike hKc, hDc.weaken (fun _ _ _ _ => trivial)⟩⟩ rfl hn (hlv.1.trans hml) rfl (lv_room hroom) hdg ⟨hcs.1, hcs.2⟩) hS (fun q _ h => hFc q h) hFc (fun r u t H1 locs ht hvm hw1 hB hz1 hk1 hS => ?_)
  obtain ⟨hP1, hK1, hD1⟩ := hB
  rw [ht] at hP1
  obtain ⟨hP, hD⟩ := va_join (wr := ws) (w1 := []) hP hD [] (List.range ws.length) rfl (range_map ws) (range_nd ws.length) (fun i _ h => by cases h) hk1 hFc hP1 hD1
  rw [List.append_nil] at hP hD
  exact kk r hw1 H1 locs ls hP hD hS hlv
end GK4
section GK5
variable {Γ : GP} {cc : ByteArray} {nL : Nat} {tys : List (ClassId × FieldType)} {lev : Nat} {ws0 : va_W} {pc : Nat} {lv : List (Nat × Value)} {st rest : List Value}
variable {S : Type} {wf : S → va_W} {y : MethodName} {As : List Value} {bytes : ByteArray} {maxL lev' idx n : Nat}
theorem x_callI {ret : FieldType} {post : Int32 → S → Prop} {b : Nat} {fs : List Value} {w9 : va_W} (hc : GC Γ cc nL RX0 tys lev) (hM : MI y bytes maxL ret lev' tys (.ref b :: As) ((b, .inr (0, fs)) :: w9) wf post)
    (hw : GoodIn lw_all (wsV RX0 idx RX0 y (ws_ y bytes maxL (some ret)))) (hd : y.cls = RX0 ∧ y.cls ≠ "java/lang/invoke/MethodHandle" ∧ y.cls ≠ "java/lang/invoke/VarHandle" ∧ (parseMethodDescriptor y.desc).map (fun d => d.parameters.length) = some n)
    (hlev : lev' + 1 ≤ lev) (hL : maxL ≤ 21) (hn : As.length = n) (hst : st = As.reverse ++ .ref b :: rest) (hroom : (rest.map fun v => v.category).sum ≤ 8) (hdg : decode cc pc = .ok (.invokevirtual idx, 3))
    (kk : ∀ (r : Int32) (u : S), post r u → G Γ (wf u) (pc + 3) lv (.int r :: rest)) : G Γ ((b, .inr (0, fs)) :: w9) pc lv st :=
  g_callI (wr := []) (ci := 0) (q0 := 0) hc hM hw hd hlev hL hn (List.range (w9.length + 1)) [] (List.range tys.length) (range_map ((b, .inr (0, fs)) :: w9)) rfl (range_nd _) rfl (fun i h => by cases h) (range_fm tys) rfl rfl hst hroom hdg kk
theorem m_callI {ret : FieldType} {post : Int32 → S → Prop} {b : Nat} {fs : List Value} {w9 : va_W} (hc : GC Γ cc nL RX1 tys lev) (hM : MI y bytes maxL ret lev' tys (.ref b :: As) ((b, .inr (1, fs)) :: w9) wf post)
    (hw : GoodIn lw_all (wsV RX1 idx RX1 y (ws_ y bytes maxL (some ret)))) (hd : y.cls = RX1 ∧ y.cls ≠ "java/lang/invoke/MethodHandle" ∧ y.cls ≠ "java/lang/invoke/VarHandle" ∧ (parseMethodDescriptor y.desc).map (fun d => d.parameters.length) = some n)
    (hlev : lev' + 1 ≤ lev) (hL : maxL ≤ 21) (hn : As.length = n) (hst : st = As.reverse ++ .ref b :: rest) (hroom : (rest.map fun v => v.category).sum ≤ 8) (hdg : decode cc pc = .ok (.invokevirtual idx, 3))
    (kk : ∀ (r : Int32) (u : S), post r u → G Γ (wf u) (pc + 3) lv (.int r :: rest)) : G Γ ((b, .inr (1, fs)) :: w9) pc lv st :=
  g_callI (wr := []) (ci := 1) (q0 := 0) hc hM hw hd hlev hL hn (List.range (w9.length + 1)) [] (List.range tys.length) (range_map ((b, .inr (1, fs)) :: w9)) rfl (range_nd _) rfl (fun i h => by cases h) (range_fm tys) rfl rfl hst hroom hdg kk
theorem x_callV {post : S → Prop} {b : Nat} {fs : List Value} {w9 : va_W} (hc : GC Γ cc nL RX0 tys lev) (hM : MV y bytes maxL lev' tys (.ref b :: As) ((b, .inr (0, fs)) :: w9) wf post)
    (hw : GoodIn lw_all (wsV RX0 idx RX0 y (ws_ y bytes maxL none))) (hd : y.cls = RX0 ∧ y.cls ≠ "java/lang/invoke/MethodHandle" ∧ y.cls ≠ "java/lang/invoke/VarHandle" ∧ (parseMethodDescriptor y.desc).map (fun d => d.parameters.length) = some n)
    (hlev : lev' + 1 ≤ lev) (hL : maxL ≤ 21) (hn : As.length = n) (hst : st = As.reverse ++ .ref b :: rest) (hroom : (rest.map fun v => v.category).sum ≤ 8) (hdg : decode cc pc = .ok (.invokevirtual idx, 3))
    (kk : ∀ (u : S), post u → G Γ (wf u) (pc + 3) lv rest) : G Γ ((b, .inr (0, fs)) :: w9) pc lv st :=
  g_callV (wr := []) (ci := 0) (q0 := 0) hc hM hw hd hlev hL hn (List.range (w9.length + 1)) [] (List.range tys.length) (range_map ((b, .inr (0, fs)) :: w9)) rfl (range_nd _) rfl (fun i h => by cases h) (range_fm tys) rfl rfl hst hroom hdg kk
theorem m_callV {post : S → Prop} {b : Nat} {fs : List Value} {w9 : va_W} (hc : GC Γ cc nL RX1 tys lev) (hM : MV y bytes maxL lev' tys (.ref b :: As) ((b, .inr (1, fs)) :: w9) wf post)
    (hw : GoodIn lw_all (wsV RX1 idx RX1 y (ws_ y bytes maxL none))) (hd : y.cls = RX1 ∧ y.cls ≠ "java/lang/invoke/MethodHandle" ∧ y.cls ≠ "java/lang/invoke/VarHandle" ∧ (parseMethodDescriptor y.desc).map (fun d => d.parameters.length) = some n)
    (hlev : lev' + 1 ≤ lev) (hL : maxL ≤ 21) (hn : As.length = n) (hst : st = As.reverse ++ .ref b :: rest) (hroom : (rest.map fun v => v.category).sum ≤ 8) (hdg : decode cc pc = .ok (.invokevirtual idx, 3))
    (kk : ∀ (u : S), post u → G Γ (wf u) (pc + 3) lv rest) : G Γ ((b, .inr (1, fs)) :: w9) pc lv st :=
  g_callV (wr := []) (ci := 1) (q0 := 0) hc hM hw hd hlev hL hn (List.range (w9.length + 1)) [] (List.range tys.length) (range_map ((b, .inr (1, fs)) :: w9)) rfl (range_nd _) rfl (fun i h => by cases h) (range_fm tys) rfl rfl hst hroom hdg kk
end GK5
end
section
/-! worlds of the two classes; contracts of the leaves -/
set_option maxRecDepth 100000
abbrev XW (h : Nat → Nat) (dB dS dI : ClassId) (L : Nat → Nat) (kn fr to wc rc : Nat) (P S W A B R RW D : Nat → Nat) : va_W :=
  [(h 0, .inr (0, [.ref (h 1), .int (nI kn), .int (nI fr), .int (nI to), .int (nI wc), .int (nI rc), .ref (h 2), .ref (h 3), .ref (h 4), .ref (h 5), .ref (h 6), .ref (h 7), .ref (h 8), .ref (h 9)])), (h 1, .inl (dB, 36, .inl (aN L))), (h 2, .inl (dB, 396, .inl (aN P))), (h 3, .inl (dB, 66, .inl (aN S))), (h 4, .inl (dS, 66, .inl (aN W))), (h 5, .inl (dB, 66, .inl (aN A))), (h 6, .inl (dB, 66, .inl (aN B))), (h 7, .inl (dB, 66, .inl (eA R))), (h 8, .inl (dB, 66, .inl (aN RW))), (h 9, .inl (dI, 6, .inl (aN D)))]
abbrev XT (dB dS dI : ClassId) : List (ClassId × FieldType) := [(dB, .byte), (dS, .short), (dI, .int)]
abbrev MW (h : Nat → Nat) (dI : ClassId) (L : Nat → Nat) (cnt : Nat) (Y Z : Nat → Nat) : va_W :=
  [(h 0, .inr (1, [.ref (h 1), .int (nI cnt), .ref (h 2), .ref (h 3)])), (h 1, .inl (dI, 36, .inl (aN L))), (h 2, .inl (dI, 65, .inl (aN Y))), (h 3, .inl (dI, 65, .inl (aN Z)))]
abbrev MT (dI : ClassId) : List (ClassId × FieldType) := [(dI, .int)]
theorem shl_ok {y : Nat} (h : y < 31) : 1 * 2 ^ y < 4294967296 := by
  have := Nat.pow_lt_pow_right (a := 2) (by decide) h
  omega
theorem i2b_e {x : Nat} (h : x ≤ 128) : (eN x).toInt8.toInt32 = eN x := by
  cases x with
  | zero => rfl
  | succ n => exact i2b_n (by omega)
def isPl (a : Int32) : Prop := ∃ a' : Nat, a = nI a' ∧ a' < 6
def isPr (a b : Int32) : Prop := ∃ a' b' : Nat, a = nI a' ∧ b = nI b' ∧ a' < 6 ∧ b' < 6 ∧ a' ≠ b'
theorem isPl_of {a : Int32} (h1 : ¬ a < 0) (h2 : ¬ (nI 6) ≤ a) : isPl a := by
  obtain ⟨j, hj, rfl⟩ := nI_of h1
  refine ⟨j, rfl, ?_⟩
  rcases Nat.lt_or_ge j 6 with h | h
  · exact h
  · exact absurd ((nI_leI (a := 6) (b := j) (by decide) hj).mpr h) h2
theorem not_isPl1 {a : Int32} (h : a < 0) : ¬ isPl a := by
  rintro ⟨j, rfl, hj⟩
  exact nI_pos (n := j) (by omega) h
theorem not_isPl2 {a : Int32} (h : nI 6 ≤ a) : ¬ isPl a := by
  rintro ⟨j, rfl, hj⟩
  have := (nI_leI (a := 6) (b := j) (by decide) (by omega)).mp h
  omega
theorem isPr_of {a b : Int32} (h1 : isPl a) (h2 : isPl b) (h3 : ¬ a = b) : isPr a b := by
  obtain ⟨x, rfl, hx⟩ := h1
  obtain ⟨y, rfl, hy⟩ := h2
  exact ⟨x, y, rfl, rfl, hx, hy, fun e => h3 (by rw [e])⟩
theorem isPr_l {a b : Int32} (h : isPr a b) : isPl a := by
  obtain ⟨x, y, h1, h2, h3, h4, h5⟩ := h
  exact ⟨x, h1, h3⟩
theorem isPr_r {a b : Int32} (h : isPr a b) : isPl b := by
  obtain ⟨x, y, h1, h2, h3, h4, h5⟩ := h
  exact ⟨y, h2, h4⟩
theorem isPr_ne {a b : Int32} (h : isPr a b) : ¬ a = b := by
  obtain ⟨x, y, rfl, rfl, h3, h4, h5⟩ := h
  intro e
  exact h5 ((nI_eq (by omega) (by omega)).mp e)
def bPost (c : Prop) (r : Int32) (_ : Unit) : Prop := (r = nI 1 ∧ c) ∨ (r = nI 0 ∧ ¬ c)
theorem bPost_nar {c : Prop} {r : Int32} {u : Unit} (h : bPost c r u) : narrow .boolean (.int r) = .int r := by
  rcases h with ⟨rfl, _⟩ | ⟨rfl, _⟩ <;> rfl
theorem bit_of {x a : Nat} : (x / 2 ^ a &&& 1 = 0) ↔ ¬ x.testBit a = true := by
  rw [Nat.and_one_is_mod, Nat.testBit_eq_decide_div_mod_eq]
  simp only [decide_eq_true_eq]
  omega

theorem cX_isPlace (a : Int32) : MI yX0_isPlace cX0_isPlace 1 .boolean 0 [] [.int a] [] (fun _ : Unit => []) (bPost (isPl a)) := by
  refine g_enterI (lv0 := [(0, .int a)]) (by decide) (Nat.le_of_ble_eq_true rfl) rfl (fun r u h => bPost_nar h) (fun Γ hc hR => ?_)
  refine g_iload_n hc dX0_isPlace_0 rfl 0 rfl ?_
  refine g_if_lt (tgt := 14) hc dX0_isPlace_1 (by decide) (fun c1 => ?_) (fun c1 => ?_)
  · skip
    refine g_iconst (v := nI 0) hc dX0_isPlace_14 (by decide) ?_
    exact hR _ () _ _ (Or.inr ⟨rfl, not_isPl1 c1⟩) dX0_isPlace_15
  · skip
    refine g_iload_n hc dX0_isPlace_4 rfl 0 rfl ?_
    refine g_bipush (v := nI 6) hc dX0_isPlace_5 (by decide) ?_
    refine g_icmp_ge (tgt := 14) hc dX0_isPlace_7 (by decide) (fun c7 => ?_) (fun c7 => ?_)
    · skip
      refine g_iconst (v := nI 0) hc dX0_isPlace_14 (by decide) ?_
      exact hR _ () _ _ (Or.inr ⟨rfl, not_isPl2 c7⟩) dX0_isPlace_15
    · skip
      refine g_iconst (v := nI 1) hc dX0_isPlace_10 (by decide) ?_
      refine g_goto (tgt := 15) hc dX0_isPlace_11 (by decide) ?_
      exact hR _ () _ _ (Or.inl ⟨rfl, isPl_of c1 c7⟩) dX0_isPlace_15
theorem cX_isPair (a b : Int32) : MI yX0_isPair cX0_isPair 2 .boolean 1 [] [.int a, .int b] [] (fun _ : Unit => []) (bPost (isPr a b)) := by
  refine g_enterI (lv0 := [(0, .int a), (1, .int b)]) (by decide) (Nat.le_of_ble_eq_true rfl) rfl (fun r u h => bPost_nar h) (fun Γ hc hR => ?_)
  refine g_iload_n hc dX0_isPair_0 rfl 0 rfl ?_
  refine g_callS (n := 1) (As := [.int a]) (rest := []) hc (cX_isPlace a) (lw_S q81 q82 q18 q83) (by decide +kernel) (by decide) (by decide) rfl rfl (by simp [Value.category]) dX0_isPair_1 (fun r1 k1 => ?_)
  rcases k1 with ⟨rfl, k1⟩ | ⟨rfl, k1⟩
  · skip
    refine n_if_eq (tgt := 23) hc dX0_isPair_4 (by decide) (by decide) (fun h => absurd h (by decide)) (fun _ => ?_)
    refine g_iload_n hc dX0_isPair_7 rfl 1 rfl ?_
    refine g_callS (n := 1) (As := [.int b]) (rest := []) hc (cX_isPlace b) (lw_S q81 q82 q18 q83) (by decide +kernel) (by decide) (by decide) rfl rfl (by simp [Value.category]) dX0_isPair_8 (fun r8 k8 => ?_)
    rcases k8 with ⟨rfl, k8⟩ | ⟨rfl, k8⟩
    · skip
      refine n_if_eq (tgt := 23) hc dX0_isPair_11 (by decide) (by decide) (fun h => absurd h (by decide)) (fun _ => ?_)
      refine g_iload_n hc dX0_isPair_14 rfl 0 rfl ?_
      refine g_iload_n hc dX0_isPair_15 rfl 1 rfl ?_
      refine g_icmp_eq (tgt := 23) hc dX0_isPair_16 (by decide) (fun c16 => ?_) (fun c16 => ?_)
      · skip
        refine g_iconst (v := nI 0) hc dX0_isPair_23 (by decide) ?_
        exact hR _ () _ _ (Or.inr ⟨rfl, fun h => isPr_ne h c16⟩) dX0_isPair_24
      · skip
        refine g_iconst (v := nI 1) hc dX0_isPair_19 (by decide) ?_
        refine g_goto (tgt := 24) hc dX0_isPair_20 (by decide) ?_
        exact hR _ () _ _ (Or.inl ⟨rfl, isPr_of k1 k8 c16⟩) dX0_isPair_24
    · skip
      refine n_if_eq (tgt := 23) hc dX0_isPair_11 (by decide) (by decide) (fun _ => ?_) (fun h => absurd h (by decide))
      refine g_iconst (v := nI 0) hc dX0_isPair_23 (by decide) ?_
      exact hR _ () _ _ (Or.inr ⟨rfl, fun h => k8 (isPr_r h)⟩) dX0_isPair_24
  · skip
    refine n_if_eq (tgt := 23) hc dX0_isPair_4 (by decide) (by decide) (fun _ => ?_) (fun h => absurd h (by decide))
    refine g_iconst (v := nI 0) hc dX0_isPair_23 (by decide) ?_
    exact hR _ () _ _ (Or.inr ⟨rfl, fun h => k1 (isPr_l h)⟩) dX0_isPair_24
theorem cX_in (x a : Nat) (hx : x < 2147483648) (ha : a < 32) : MI yX0_in cX0_in 2 .boolean 0 [] [.int (nI x), .int (nI a)] [] (fun _ : Unit => []) (bPost (x.testBit a = true)) := by
  refine g_enterI (lv0 := [(0, .int (nI x)), (1, .int (nI a))]) (by decide) (Nat.le_of_ble_eq_true rfl) rfl (fun r u h => bPost_nar h) (fun Γ hc hR => ?_)
  have hb : x / 2 ^ a &&& 1 < 2147483648 := by rw [Nat.and_one_is_mod]; omega
  refine g_iload_n hc dX0_in_0 rfl 0 rfl ?_
  refine g_iload_n hc dX0_in_1 rfl 1 rfl ?_
  refine n_ishr hc dX0_in_2 (by omega) (by omega) ?_
  refine g_iconst (v := nI 1) hc dX0_in_3 (by decide) ?_
  refine n_iand hc dX0_in_4 ?_
  refine n_if_eq (tgt := 12) hc dX0_in_5 (by decide) (by omega) (fun c5 => ?_) (fun c5 => ?_)
  · skip
    refine g_iconst (v := nI 0) hc dX0_in_12 (by decide) ?_
    exact hR _ () _ _ (Or.inr ⟨rfl, bit_of.mp c5⟩) dX0_in_13
  · skip
    refine g_iconst (v := nI 1) hc dX0_in_8 (by decide) ?_
    refine g_goto (tgt := 13) hc dX0_in_9 (by decide) ?_
    exact hR _ () _ _ (Or.inl ⟨rfl, Classical.not_not.mp (fun h => c5 (bit_of.mpr h))⟩) dX0_in_13
end
section
/-! what the methods compute, in plain numbers -/
theorem up_loop {σ : Type} (N : Nat) (Inv : Nat → σ → Prop) (Goal : Nat → σ → Prop) (step : ∀ i s, i ≤ N → Inv i s → (i < N → ∀ s', Inv (i + 1) s' → Goal (i + 1) s') → Goal i s) : ∀ i s, i ≤ N → Inv i s → Goal i s := by
  have key : ∀ n i s, i + n = N → Inv i s → Goal i s := by
    intro n
    induction n with
    | zero => intro i s h hi; exact step i s (by omega) hi (fun h2 => absurd h2 (by omega))
    | succ n ih => intro i s h hi; exact step i s (by omega) hi (fun _ s' hs => ih (i + 1) s' (by omega) hs)
  intro i s h hi
  exact key (N - i) i s (by omega) hi
def okE (L : Nat → Nat) (X a b : Nat) : Bool := decide (0 < L (a * 6 + b)) && !X.testBit a && !X.testBit b
def rlx (L : Nat → Nat) (X a b : Nat) (D : Nat → Nat) : Nat → Nat := if okE L X a b = true ∧ D b + L (a * 6 + b) < D a then updN D a (D b + L (a * 6 + b)) else D
def msB (L : Nat → Nat) (X a : Nat) : Nat → (Nat → Nat) → (Nat → Nat)
  | 0, D => D
  | b + 1, D => rlx L X a b (msB L X a b D)
def msA (L : Nat → Nat) (X : Nat) : Nat → (Nat → Nat) → (Nat → Nat)
  | 0, D => D
  | a + 1, D => msB L X a 6 (msA L X a D)
def msR (L : Nat → Nat) (X : Nat) : Nat → (Nat → Nat) → (Nat → Nat)
  | 0, D => D
  | r + 1, D => msA L X 6 (msR L X r D)
def iniD (g : Nat) (D : Nat → Nat) : Nat → (Nat → Nat)
  | 0 => D
  | v + 1 => updN (iniD g D v) v (if v = g then 0 else 1048576)
def dmeas (L : Nat → Nat) (X g : Nat) (D : Nat → Nat) : Nat → Nat := msR L X 6 (iniD g D 6)
def bd6 (D : Nat → Nat) : Prop := ∀ v, v < 6 → D v ≤ 1048576
theorem okE_iff {L : Nat → Nat} {X a b : Nat} : okE L X a b = true ↔ 0 < L (a * 6 + b) ∧ ¬ X.testBit a = true ∧ ¬ X.testBit b = true := by
  unfold okE
  simp [Bool.and_eq_true, and_assoc]
theorem msB_no {L : Nat → Nat} {X a b : Nat} {D D1 : Nat → Nat} (e : D1 = msB L X a b D) (h : ¬ (okE L X a b = true ∧ D1 b + L (a * 6 + b) < D1 a)) : D1 = msB L X a (b + 1) D := by
  rw [msB, ← e, rlx, if_neg h]
theorem msB_yes {L : Nat → Nat} {X a b : Nat} {D D1 : Nat → Nat} (e : D1 = msB L X a b D) (h : okE L X a b = true) (h2 : D1 b + L (a * 6 + b) < D1 a) : updN D1 a (D1 b + L (a * 6 + b)) = msB L X a (b + 1) D := by
  rw [msB, ← e, rlx, if_pos ⟨h, h2⟩]
theorem bd6_upd {D : Nat → Nat} {k x : Nat} (h : bd6 D) (hx : x ≤ 1048576) : bd6 (updN D k x) := by
  intro v hv
  unfold updN
  by_cases e : v = k
  · simp [e]; exact hx
  · simp [e]; exact h v hv
/-- bestNext: (the place + 1, or 0; the least sum) -/
def bNx (L D : Nat → Nat) (a X : Nat) : Nat → Nat × Nat
  | 0 => (0, 1048576)
  | b + 1 => if 0 < L (a * 6 + b) ∧ ¬ X.testBit b = true ∧ D b < 1048576 ∧ D b + L (a * 6 + b) < (bNx L D a X b).2 then (b + 1, D b + L (a * 6 + b)) else bNx L D a X b
def bNext (L D : Nat → Nat) (a X : Nat) : Nat := (bNx L D a X 6).1
theorem bNx_le (L D : Nat → Nat) (a X : Nat) : ∀ n, (bNx L D a X n).1 ≤ n ∧ (bNx L D a X n).2 ≤ 1048576 := by
  intro n
  induction n with
  | zero => exact ⟨Nat.le_refl _, Nat.le_refl _⟩
  | succ n ih =>
    unfold bNx
    split
    · rename_i h
      exact ⟨Nat.le_refl _, by simp only; omega⟩
    · exact ⟨by omega, ih.2⟩
/-- first difference of two rows, from place i on -/
def lxF (f g : Nat → Nat) : Nat → Nat → Bool
  | _, 0 => false
  | i, n + 1 => if f i = g i then lxF f g (i + 1) n else decide (f i < g i)
def cmpF (x y : Nat) (f g : Nat → Nat) : Bool := if x = y then lxF f g 0 6 else decide (x < y)
def gB (W P : Nat → Nat) (v w : Nat) : Bool := cmpF (W v) (W w) (fun i => P (v * 6 + i)) (fun i => P (w * 6 + i))
def bC (W P R : Nat → Nat) : Nat → Nat
  | 0 => 0
  | w + 1 => if R w = 0 ∧ (bC W P R w = 0 ∨ gB W P w (bC W P R w - 1) = true) then w + 1 else bC W P R w
theorem bC_le (W P R : Nat → Nat) : ∀ n, bC W P R n ≤ n := by
  intro n
  induction n with
  | zero => exact Nat.le_refl _
  | succ n ih =>
    unfold bC
    split
    · exact Nat.le_refl _
    · omega
/-- the set of the first k places of a row -/
def bef (P : Nat → Nat) (w : Nat) : Nat → Nat
  | 0 => 0
  | k + 1 => bef P w k ||| 1 * 2 ^ (P (w * 6 + k))
theorem bef_lt {P : Nat → Nat} (hP : ∀ i, P i < 6) (w : Nat) : ∀ k, bef P w k < 64 := by
  intro k
  induction k with
  | zero => show 0 < 64; decide
  | succ k ih =>
    unfold bef
    have h1 : 1 * 2 ^ (P (w * 6 + k)) < 2 ^ 6 := by
      rw [Nat.one_mul]
      exact Nat.pow_lt_pow_right (by decide) (hP _)
    exact Nat.or_lt_two_pow (n := 6) ih h1
/-- the copy of a row's beginning into row c, and the length of the way so far -/
def cpyR (L : Nat → Nat) (w c : Nat) (P : Nat → Nat) : Nat → (Nat → Nat) × Nat
  | 0 => (P, 0)
  | k + 1 => (updN (cpyR L w c P k).1 (c * 6 + k) ((cpyR L w c P k).1 (w * 6 + k)),
      (cpyR L w c P k).2 + (if 0 < k then L ((updN (cpyR L w c P k).1 (c * 6 + k) ((cpyR L w c P k).1 (w * 6 + k))) (w * 6 + k - 1) * 6 + (updN (cpyR L w c P k).1 (c * 6 + k) ((cpyR L w c P k).1 (w * 6 + k))) (w * 6 + k)) else 0))
/-- one step of the way on: (sum, places, number of places, where, next + 1) -/
def gst (L D : Nat → Nat) (to X c : Nat) (g : Nat × (Nat → Nat) × Nat × Nat × Nat) : Nat × (Nat → Nat) × Nat × Nat × Nat :=
  if g.2.2.2.2 = 0 then g else (g.1 + L (g.2.2.2.1 * 6 + (g.2.2.2.2 - 1)), updN g.2.1 (c * 6 + g.2.2.1) (g.2.2.2.2 - 1), g.2.2.1 + 1, g.2.2.2.2 - 1, if g.2.2.2.2 - 1 = to then 0 else bNext L D (g.2.2.2.2 - 1) X)
def grd (L D : Nat → Nat) (to X c : Nat) (g : Nat × (Nat → Nat) × Nat × Nat × Nat) : Nat → Nat × (Nat → Nat) × Nat × Nat × Nat
  | 0 => g
  | k + 1 => gst L D to X c (grd L D to X c g k)
/-- placesOf is bef of the whole row -/
def cntPos (L : Nat → Nat) : Nat → Nat
  | 0 => 0
  | i + 1 => cntPos L i + (if 0 < L i then 1 else 0)
theorem cntPos_le (L : Nat → Nat) : ∀ n, cntPos L n ≤ n := by
  intro n
  induction n with
  | zero => exact Nat.le_refl _
  | succ n ih =>
    unfold cntPos
    split <;> omega
end
section
set_option maxRecDepth 100000
set_option maxHeartbeats 4000000
/-- the answer of road -/
def roadA (L : Nat → Nat) (a b r : Int32) : Prop := (∀ x y : Nat, a = nI x → b = nI y → x < 6 → y < 6 → x ≠ y → 0 < L (x * 6 + y) → r = nI (L (x * 6 + y))) ∧ ((¬ isPr a b ∨ ∃ x y : Nat, a = nI x ∧ b = nI y ∧ x < 6 ∧ y < 6 ∧ L (x * 6 + y) = 0) → r = eN 0)
theorem roadA_yes {L : Nat → Nat} {x y : Nat} (hx : x < 6) (hy : y < 6) (hxy : x ≠ y) (h : 0 < L (x * 6 + y)) : roadA L (nI x) (nI y) (nI (L (x * 6 + y))) := by
  refine ⟨fun x' y' e1 e2 h1 h2 _ _ => ?_, fun hn => ?_⟩
  · rw [(nI_eq (by omega) (by omega)).mp e1, (nI_eq (by omega) (by omega)).mp e2]
  · rcases hn with hn | ⟨x', y', e1, e2, h1, h2, h0⟩
    · exact absurd ⟨x, y, rfl, rfl, hx, hy, hxy⟩ hn
    · rw [← (nI_eq (by omega) (by omega)).mp e1, ← (nI_eq (by omega) (by omega)).mp e2] at h0
      omega
theorem roadA_no {L : Nat → Nat} {x y : Nat} (hx : x < 6) (hy : y < 6) (h : L (x * 6 + y) = 0) : roadA L (nI x) (nI y) (eN 0) := by
  refine ⟨fun x' y' e1 e2 h1 h2 _ h3 => ?_, fun hn => rfl⟩
  rw [← (nI_eq (by omega) (by omega)).mp e1, ← (nI_eq (by omega) (by omega)).mp e2] at h3
  omega
theorem roadA_np {L : Nat → Nat} {a b : Int32} (h : ¬ isPr a b) : roadA L a b (eN 0) := ⟨fun x y e1 e2 h1 h2 h3 _ => absurd ⟨x, y, e1, e2, h1, h2, h3⟩ h, fun _ => rfl⟩
theorem cX_road (h : Nat → Nat) (dB dS dI : ClassId) (L : Nat → Nat) (kn fr to wc rc : Nat) (P S W A B R RW D : Nat → Nat) (a b : Int32) (hL : ∀ i, L i ≤ 20) : MI yX0_road cX0_road 3 .int 2 (XT dB dS dI) [.ref (h 0), .int a, .int b] (XW h dB dS dI L kn fr to wc rc P S W A B R RW D) (fun _ : Unit => XW h dB dS dI L kn fr to wc rc P S W A B R RW D) (fun r _ => roadA L a b r) := by
  refine g_enterI (lv0 := [(0, .ref (h 0)), (1, .int a), (2, .int b)]) (by decide) (Nat.le_of_ble_eq_true rfl) rfl (fun r u h => rfl) (fun Γ hc hR => ?_)
  refine g_iload_n hc dX0_road_0 rfl 1 rfl ?_
  refine g_iload_n hc dX0_road_1 rfl 2 rfl ?_
  refine g_callS (n := 2) (As := [.int a, .int b]) (rest := []) hc (cX_isPair a b) (lw_S q78 q79 q18 q80) (by decide +kernel) (by decide) (by decide) rfl rfl (by simp [Value.category]) dX0_road_2 (fun r2 k2 => ?_)
  rcases k2 with ⟨rfl, k2⟩ | ⟨rfl, k2⟩
  · obtain ⟨x1, x2, rfl, rfl, hx1, hx2, hx3⟩ := k2
    refine n_if_eq (tgt := 36) hc dX0_road_5 (by decide) (by decide) (fun h => absurd h (by decide)) (fun _ => ?_)
    refine g_aload_n hc dX0_road_8 rfl 0 rfl ?_
    refine x_get hc 0 (by decide) q28 0 rfl rfl dX0_road_9 rfl ?_
    refine g_iload_n hc dX0_road_12 rfl 1 rfl ?_
    refine g_bipush (v := nI 6) hc dX0_road_13 (by decide) ?_
    refine n_imul hc dX0_road_15 ?_
    refine g_iload_n hc dX0_road_16 rfl 2 rfl ?_
    refine n_iadd hc dX0_road_17 ?_
    refine n_bald hc 1 0 rfl rfl (by omega) (by decide) dX0_road_18 ?_
    have b18 := hL (x1 * 6 + x2)
    refine n_if_le (tgt := 36) hc dX0_road_19 (by decide) (by omega) (fun c19 => ?_) (fun c19 => ?_)
    · skip
      refine g_iconst (v := eN 0) hc dX0_road_36 (by decide) ?_
      exact hR _ () _ _ (roadA_no hx1 hx2 c19) dX0_road_37
    · skip
      refine g_aload_n hc dX0_road_22 rfl 0 rfl ?_
      refine x_get hc 0 (by decide) q28 0 rfl rfl dX0_road_23 rfl ?_
      refine g_iload_n hc dX0_road_26 rfl 1 rfl ?_
      refine g_bipush (v := nI 6) hc dX0_road_27 (by decide) ?_
      refine n_imul hc dX0_road_29 ?_
      refine g_iload_n hc dX0_road_30 rfl 2 rfl ?_
      refine n_iadd hc dX0_road_31 ?_
      refine n_bald hc 1 0 rfl rfl (by omega) (by decide) dX0_road_32 ?_
      have b32 := hL (x1 * 6 + x2)
      refine g_goto (tgt := 37) hc dX0_road_33 (by decide) ?_
      exact hR _ () _ _ (roadA_yes hx1 hx2 hx3 c19) dX0_road_37
  · skip
    refine n_if_eq (tgt := 36) hc dX0_road_5 (by decide) (by decide) (fun _ => ?_) (fun h => absurd h (by decide))
    refine g_iconst (v := eN 0) hc dX0_road_36 (by decide) ?_
    exact hR _ () _ _ (roadA_np k2) dX0_road_37
/-- build: the answer and the roads behind it -/
def bldA (L : Nat → Nat) (a b c : Int32) (r : Int32) (L' : Nat → Nat) (kn kn' : Nat) : Prop := (∃ x y z : Nat, a = nI x ∧ b = nI y ∧ c = nI z ∧ x < 6 ∧ y < 6 ∧ x ≠ y ∧ 1 ≤ z ∧ z ≤ 20 ∧ r = nI 1 ∧ L' = updN L (x * 6 + y) z ∧ kn' = 0) ∨ ((¬ isPr a b ∨ c < nI 1 ∨ nI 20 < c) ∧ r = nI 0 ∧ L' = L ∧ kn' = kn)
theorem z_of {c : Int32} (h1 : ¬ c < nI 1) (h2 : c ≤ nI 20) : ∃ z : Nat, c = nI z ∧ 1 ≤ z ∧ z ≤ 20 := by
  have h0 : ¬ c < 0 := fun h => h1 (by rw [fa_lt] at h ⊢; have : (nI 1).toInt = 1 := rfl; have : (0 : Int32).toInt = 0 := rfl; omega)
  obtain ⟨j, hj, rfl⟩ := nI_of h0
  refine ⟨j, rfl, ?_, ?_⟩
  · rcases Nat.lt_or_ge j 1 with h | h
    · exact absurd ((nI_ltI hj (by decide)).mpr h) h1
    · exact h
  · exact (nI_leI hj (by decide)).mp h2
theorem fa_nle {a b : Int32} (h : ¬ a ≤ b) : b < a := fa_of_nle h
theorem cX_build (h : Nat → Nat) (dB dS dI : ClassId) (L : Nat → Nat) (kn fr to wc rc : Nat) (P S W A B R RW D : Nat → Nat) (a b c : Int32) : MI yX0_build cX0_build 4 .boolean 2 (XT dB dS dI) [.ref (h 0), .int a, .int b, .int c] (XW h dB dS dI L kn fr to wc rc P S W A B R RW D) (fun u : (Nat → Nat) × Nat => XW h dB dS dI u.1 u.2 fr to wc rc P S W A B R RW D) (fun r u => bldA L a b c r u.1 kn u.2) := by
  refine g_enterI (lv0 := [(0, .ref (h 0)), (1, .int a), (2, .int b), (3, .int c)]) (by decide) (Nat.le_of_ble_eq_true rfl) rfl (fun r u h => by rcases h with ⟨_, _, _, _, _, _, _, _, _, _, _, rfl, _⟩ | ⟨_, rfl, _⟩ <;> rfl) (fun Γ hc hR => ?_)
  refine g_iload_n hc dX0_build_0 rfl 1 rfl ?_
  refine g_iload_n hc dX0_build_1 rfl 2 rfl ?_
  refine g_callS (n := 2) (As := [.int a, .int b]) (rest := []) hc (cX_isPair a b) (lw_S q78 q79 q18 q80) (by decide +kernel) (by decide) (by decide) rfl rfl (by simp [Value.category]) dX0_build_2 (fun r2 k2 => ?_)
  rcases k2 with ⟨rfl, k2⟩ | ⟨rfl, k2⟩
  · obtain ⟨x1, x2, rfl, rfl, hx1, hx2, hx3⟩ := k2
    refine n_if_eq (tgt := 19) hc dX0_build_5 (by decide) (by decide) (fun h => absurd h (by decide)) (fun _ => ?_)
    refine g_iload_n hc dX0_build_8 rfl 3 rfl ?_
    refine g_iconst (v := nI 1) hc dX0_build_9 (by decide) ?_
    refine g_icmp_lt (tgt := 19) hc dX0_build_10 (by decide) (fun c10 => ?_) (fun c10 => ?_)
    · skip
      refine g_iconst (v := nI 0) hc dX0_build_19 (by decide) ?_
      exact hR _ (L, kn) _ _ (Or.inr ⟨Or.inr (Or.inl c10), rfl, rfl, rfl⟩) dX0_build_20
    · skip
      refine g_iload_n hc dX0_build_13 rfl 3 rfl ?_
      refine g_bipush (v := nI 20) hc dX0_build_14 (by decide) ?_
      refine g_icmp_le (tgt := 21) hc dX0_build_16 (by decide) (fun c16 => ?_) (fun c16 => ?_)
      · skip
        obtain ⟨z, rfl, hz1, hz2⟩ := z_of c10 c16
        refine g_aload_n hc dX0_build_21 rfl 0 rfl ?_
        refine x_get hc 0 (by decide) q28 0 rfl rfl dX0_build_22 rfl ?_
        refine g_iload_n hc dX0_build_25 rfl 1 rfl ?_
        refine g_bipush (v := nI 6) hc dX0_build_26 (by decide) ?_
        refine n_imul hc dX0_build_28 ?_
        refine g_iload_n hc dX0_build_29 rfl 2 rfl ?_
        refine n_iadd hc dX0_build_30 ?_
        refine g_iload_n hc dX0_build_31 rfl 3 rfl ?_
        refine n_i2b hc dX0_build_32 (by omega) ?_
        refine n_bast (ws' := XW h dB dS dI (updN L (x1 * 6 + x2) z) kn fr to wc rc P S W A B R RW D) hc 1 0 rfl rfl (by omega) (by decide) dX0_build_33 (by omega) rfl ?_
        refine g_aload_n hc dX0_build_34 rfl 0 rfl ?_
        refine g_iconst (v := nI 0) hc dX0_build_35 (by decide) ?_
        refine x_put (ws' := XW h dB dS dI (updN L (x1 * 6 + x2) z) 0 fr to wc rc P S W A B R RW D) (ty := .boolean) hc 1 (by decide) q29 0 rfl rfl (by decide +kernel) rfl rfl (Nat.le_of_ble_eq_true rfl) dX0_build_36 rfl rfl ?_
        refine g_iconst (v := nI 1) hc dX0_build_39 (by decide) ?_
        exact hR _ (updN L (x1 * 6 + x2) z, 0) _ _ (Or.inl ⟨x1, x2, z, rfl, rfl, rfl, hx1, hx2, hx3, hz1, hz2, rfl, rfl, rfl⟩) dX0_build_40
      · skip
        refine g_iconst (v := nI 0) hc dX0_build_19 (by decide) ?_
        exact hR _ (L, kn) _ _ (Or.inr ⟨Or.inr (Or.inr (fa_nle c16)), rfl, rfl, rfl⟩) dX0_build_20
  · skip
    refine n_if_eq (tgt := 19) hc dX0_build_5 (by decide) (by decide) (fun _ => ?_) (fun h => absurd h (by decide))
    refine g_iconst (v := nI 0) hc dX0_build_19 (by decide) ?_
    exact hR _ (L, kn) _ _ (Or.inr ⟨Or.inl k2, rfl, rfl, rfl⟩) dX0_build_20
def clsA (L : Nat → Nat) (a b : Int32) (r : Int32) (L' : Nat → Nat) (kn kn' : Nat) : Prop := (∃ x y : Nat, a = nI x ∧ b = nI y ∧ x < 6 ∧ y < 6 ∧ x ≠ y ∧ 0 < L (x * 6 + y) ∧ r = nI 1 ∧ L' = updN L (x * 6 + y) 0 ∧ kn' = 0) ∨ ((¬ isPr a b ∨ ∃ x y : Nat, a = nI x ∧ b = nI y ∧ x < 6 ∧ y < 6 ∧ L (x * 6 + y) = 0) ∧ r = nI 0 ∧ L' = L ∧ kn' = kn)
theorem roadA_cases {L : Nat → Nat} {a b r : Int32} (h : roadA L a b r) : (r = eN 0 ∧ (¬ isPr a b ∨ ∃ x y : Nat, a = nI x ∧ b = nI y ∧ x < 6 ∧ y < 6 ∧ L (x * 6 + y) = 0)) ∨ ∃ x y : Nat, a = nI x ∧ b = nI y ∧ x < 6 ∧ y < 6 ∧ x ≠ y ∧ 0 < L (x * 6 + y) ∧ r = nI (L (x * 6 + y)) := by
  by_cases hp : isPr a b
  · obtain ⟨x, y, rfl, rfl, hx, hy, hxy⟩ := hp
    rcases Nat.eq_zero_or_pos (L (x * 6 + y)) with h0 | h0
    · have hn : ¬ isPr (nI x) (nI y) ∨ ∃ x' y' : Nat, nI x = nI x' ∧ nI y = nI y' ∧ x' < 6 ∧ y' < 6 ∧ L (x' * 6 + y') = 0 := Or.inr ⟨x, y, rfl, rfl, hx, hy, h0⟩
      exact Or.inl ⟨h.2 hn, hn⟩
    · exact Or.inr ⟨x, y, rfl, rfl, hx, hy, hxy, h0, h.1 x y rfl rfl hx hy hxy h0⟩
  · exact Or.inl ⟨h.2 (Or.inl hp), Or.inl hp⟩
theorem cX_close (h : Nat → Nat) (dB dS dI : ClassId) (L : Nat → Nat) (kn fr to wc rc : Nat) (P S W A B R RW D : Nat → Nat) (a b : Int32) (hL : ∀ i, L i ≤ 20) : MI yX0_close cX0_close 3 .boolean 3 (XT dB dS dI) [.ref (h 0), .int a, .int b] (XW h dB dS dI L kn fr to wc rc P S W A B R RW D) (fun u : (Nat → Nat) × Nat => XW h dB dS dI u.1 u.2 fr to wc rc P S W A B R RW D) (fun r u => clsA L a b r u.1 kn u.2) := by
  refine g_enterI (lv0 := [(0, .ref (h 0)), (1, .int a), (2, .int b)]) (by decide) (Nat.le_of_ble_eq_true rfl) rfl (fun r u h => by rcases h with ⟨_, _, _, _, _, _, _, _, rfl, _⟩ | ⟨_, rfl, _⟩ <;> rfl) (fun Γ hc hR => ?_)
  refine g_aload_n hc dX0_close_0 rfl 0 rfl ?_
  refine g_iload_n hc dX0_close_1 rfl 1 rfl ?_
  refine g_iload_n hc dX0_close_2 rfl 2 rfl ?_
  refine x_callI (n := 2) (As := [.int a, .int b]) (rest := []) hc (cX_road h dB dS dI L kn fr to wc rc P S W A B R RW D a b hL) (lw_V q88 q89 q90 q18 q91) (by decide +kernel) (by decide) (by decide) rfl rfl (by simp [Value.category]) dX0_close_3 (fun r3 u3 k3 => ?_)
  rcases roadA_cases k3 with ⟨rfl, q3⟩ | ⟨x1, x2, rfl, rfl, hx1, hx2, hx3, hx4, rfl⟩
  · skip
    refine e_if_ge (tgt := 11) hc dX0_close_6 (by decide) (by decide) (fun y h => by cases h) (fun _ => ?_)
    refine g_iconst (v := nI 0) hc dX0_close_9 (by decide) ?_
    exact hR _ (L, kn) _ _ (Or.inr ⟨q3, rfl, rfl, rfl⟩) dX0_close_10
  · have b3 := hL (x1 * 6 + x2)
    refine n_if_ge (tgt := 11) hc dX0_close_6 (by decide) (by omega) ?_
    refine g_aload_n hc dX0_close_11 rfl 0 rfl ?_
    refine x_get hc 0 (by decide) q28 0 rfl rfl dX0_close_12 rfl ?_
    refine g_iload_n hc dX0_close_15 rfl 1 rfl ?_
    refine g_bipush (v := nI 6) hc dX0_close_16 (by decide) ?_
    refine n_imul hc dX0_close_18 ?_
    refine g_iload_n hc dX0_close_19 rfl 2 rfl ?_
    refine n_iadd hc dX0_close_20 ?_
    refine g_iconst (v := nI 0) hc dX0_close_21 (by decide) ?_
    refine n_bast (ws' := XW h dB dS dI (updN L (x1 * 6 + x2) 0) kn fr to wc rc P S W A B R RW D) hc 1 0 rfl rfl (by omega) (by decide) dX0_close_22 (by omega) rfl ?_
    refine g_aload_n hc dX0_close_23 rfl 0 rfl ?_
    refine g_iconst (v := nI 0) hc dX0_close_24 (by decide) ?_
    refine x_put (ws' := XW h dB dS dI (updN L (x1 * 6 + x2) 0) 0 fr to wc rc P S W A B R RW D) (ty := .boolean) hc 1 (by decide) q29 0 rfl rfl (by decide +kernel) rfl rfl (Nat.le_of_ble_eq_true rfl) dX0_close_25 rfl rfl ?_
    refine g_iconst (v := nI 1) hc dX0_close_28 (by decide) ?_
    exact hR _ (updN L (x1 * 6 + x2) 0, 0) _ _ (Or.inl ⟨x1, x2, rfl, rfl, hx1, hx2, hx3, hx4, rfl, rfl, rfl⟩) dX0_close_29
theorem cX_roads (h : Nat → Nat) (dB dS dI : ClassId) (L : Nat → Nat) (kn fr to wc rc : Nat) (P S W A B R RW D : Nat → Nat) (hL : ∀ i, L i ≤ 20) : MI yX0_roads cX0_roads 3 .int 0 (XT dB dS dI) [.ref (h 0)] (XW h dB dS dI L kn fr to wc rc P S W A B R RW D) (fun _ : Unit => XW h dB dS dI L kn fr to wc rc P S W A B R RW D) (fun r _ => r = nI (cntPos L 36)) := by
  refine g_enterI (lv0 := [(0, .ref (h 0))]) (by decide) (Nat.le_of_ble_eq_true rfl) rfl (fun r u h => rfl) (fun Γ hc hR => ?_)
  have loop : ∀ (i acc : Nat), i ≤ 36 → acc = cntPos L i → G Γ (XW h dB dS dI L kn fr to wc rc P S W A B R RW D) 4 [(0, .ref (h 0)), (1, .int (nI acc)), (2, .int (nI i))] [] := by
    refine up_loop 36 _ _ ?_
    intro i acc hi e ih
    have hle := cntPos_le L i
    have j25 : ∀ z : Nat, acc + z = cntPos L (i + 1) → i < 36 → G Γ (XW h dB dS dI L kn fr to wc rc P S W A B R RW D) 25 [(0, .ref (h 0)), (1, .int (nI acc)), (2, .int (nI i))] [.int (nI z), .int (nI acc)] := by
      intro z hz hi2
      refine n_iadd hc dX0_roads_25 ?_
      refine g_istore_n (lv' := [(0, .ref (h 0)), (1, .int (nI (acc + z))), (2, .int (nI i))]) hc dX0_roads_26 rfl (by decide) [1, 0, 2] rfl ?_
      refine n_iinc (lv' := [(0, .ref (h 0)), (1, .int (nI (acc + z))), (2, .int (nI (i + 1)))]) (q := 2) hc dX0_roads_27 rfl (by decide) [1, 2, 0] rfl ?_
      refine g_goto (tgt := 4) hc dX0_roads_30 (by decide) ?_
      exact ih hi2 _ hz
    refine g_iload_n hc dX0_roads_4 rfl 2 rfl ?_
    refine g_bipush (v := nI 36) hc dX0_roads_5 (by decide) ?_
    refine n_icmp_ge (tgt := 33) hc dX0_roads_7 (by decide) (by omega) (by omega) (fun c7 => ?_) (fun c7 => ?_)
    · skip
      refine g_iload_n hc dX0_roads_33 rfl 1 rfl ?_
      exact hR _ () _ _ (by rw [e, show i = 36 by omega]) dX0_roads_34
    · skip
      refine g_iload_n hc dX0_roads_10 rfl 1 rfl ?_
      refine g_aload_n hc dX0_roads_11 rfl 0 rfl ?_
      refine x_get hc 0 (by decide) q28 0 rfl rfl dX0_roads_12 rfl ?_
      refine g_iload_n hc dX0_roads_15 rfl 2 rfl ?_
      refine n_bald hc 1 0 rfl rfl (by omega) (by decide) dX0_roads_16 ?_
      have b16 := hL i
      refine n_if_le (tgt := 24) hc dX0_roads_17 (by decide) (by omega) (fun c17 => ?_) (fun c17 => ?_)
      · skip
        refine g_iconst (v := nI 0) hc dX0_roads_24 (by decide) ?_
        exact j25 0 (by rw [cntPos, if_neg (by omega), e]) (by omega)
      · skip
        refine g_iconst (v := nI 1) hc dX0_roads_20 (by decide) ?_
        refine g_goto (tgt := 25) hc dX0_roads_21 (by decide) ?_
        exact j25 1 (by rw [cntPos, if_pos c17, e]) (by omega)
  refine g_iconst (v := nI 0) hc dX0_roads_0 (by decide) ?_
  refine g_istore_n (lv' := [(0, .ref (h 0)), (1, .int (nI 0))]) hc dX0_roads_1 rfl (by decide) [1, 0] rfl ?_
  refine g_iconst (v := nI 0) hc dX0_roads_2 (by decide) ?_
  refine g_istore_n (lv' := [(0, .ref (h 0)), (1, .int (nI 0)), (2, .int (nI 0))]) hc dX0_roads_3 rfl (by decide) [1, 2, 0] rfl ?_
  exact loop 0 0 (by decide) rfl
end
section
set_option maxRecDepth 100000
set_option maxHeartbeats 4000000
theorem cX_measure (h : Nat → Nat) (dB dS dI : ClassId) (L : Nat → Nat) (kn fr to wc rc : Nat) (P S W A B R RW D : Nat → Nat) (g X : Nat) (hL : ∀ i, L i ≤ 20) (hg : g < 6) (hX : X < 64) : MV yX0_measure cX0_measure 7 1 (XT dB dS dI) [.ref (h 0), .int (nI g), .int (nI X)] (XW h dB dS dI L kn fr to wc rc P S W A B R RW D) (fun D' : Nat → Nat => XW h dB dS dI L kn fr to wc rc P S W A B R RW D') (fun D' => D' = dmeas L X g D ∧ bd6 D') := by
  refine g_enterV (lv0 := [(0, .ref (h 0)), (1, .int (nI g)), (2, .int (nI X))]) (by decide) (Nat.le_of_ble_eq_true rfl) rfl (fun Γ hc hR => ?_)
  have loopB : ∀ (r a : Nat) (Da : Nat → Nat), a < 6 → (∀ D1, D1 = msB L X a 6 Da → bd6 D1 → G Γ (XW h dB dS dI L kn fr to wc rc P S W A B R RW D1) 170 [(0, .ref (h 0)), (1, .int (nI g)), (2, .int (nI X)), (3, .int (nI r)), (4, .int (nI a)), (5, .int (nI 6))] []) → ∀ (b : Nat) (D1 : Nat → Nat), b ≤ 6 → (D1 = msB L X a b Da ∧ bd6 D1) → G Γ (XW h dB dS dI L kn fr to wc rc P S W A B R RW D1) 52 [(0, .ref (h 0)), (1, .int (nI g)), (2, .int (nI X)), (3, .int (nI r)), (4, .int (nI a)), (5, .int (nI b))] [] := by
    intro r a Da ha K
    refine up_loop 6 _ _ ?_
    intro b D1 hb6 hI ih
    obtain ⟨e, hB⟩ := hI
    have j98 : ∀ z : Nat, b < 6 → ((z = 1 ∧ okE L X a b = true) ∨ (z = 0 ∧ ¬ okE L X a b = true)) → G Γ (XW h dB dS dI L kn fr to wc rc P S W A B R RW D1) 98 [(0, .ref (h 0)), (1, .int (nI g)), (2, .int (nI X)), (3, .int (nI r)), (4, .int (nI a)), (5, .int (nI b))] [.int (nI z)] := by
      intro z hb hz
      have ha1 := hB a ha
      have hb1 := hB b hb
      rcases hz with ⟨rfl, hz⟩ | ⟨rfl, hz⟩
      · skip
        refine g_istore (lv' := [(0, .ref (h 0)), (1, .int (nI g)), (2, .int (nI X)), (3, .int (nI r)), (4, .int (nI a)), (5, .int (nI b)), (6, .int (nI 1))]) hc dX0_measure_98 (by decide) [1, 2, 3, 4, 5, 6, 0] rfl ?_
        refine g_iload hc dX0_measure_100 6 rfl ?_
        refine n_if_eq (tgt := 164) hc dX0_measure_102 (by decide) (by decide) (fun h => absurd h (by decide)) (fun _ => ?_)
        refine g_aload_n hc dX0_measure_105 rfl 0 rfl ?_
        refine x_get hc 13 (by decide) q41 0 rfl rfl dX0_measure_106 rfl ?_
        refine g_iload hc dX0_measure_109 5 rfl ?_
        refine n_iald hc 9 2 rfl rfl (by omega) (by decide) dX0_measure_111 ?_
        refine g_aload_n hc dX0_measure_112 rfl 0 rfl ?_
        refine x_get hc 0 (by decide) q28 0 rfl rfl dX0_measure_113 rfl ?_
        refine g_iload hc dX0_measure_116 4 rfl ?_
        refine g_bipush (v := nI 6) hc dX0_measure_118 (by decide) ?_
        refine n_imul hc dX0_measure_120 ?_
        refine g_iload hc dX0_measure_121 5 rfl ?_
        refine n_iadd hc dX0_measure_123 ?_
        refine n_bald hc 1 0 rfl rfl (by omega) (by decide) dX0_measure_124 ?_
        have b124 := hL (a * 6 + b)
        refine n_iadd hc dX0_measure_125 ?_
        refine g_aload_n hc dX0_measure_126 rfl 0 rfl ?_
        refine x_get hc 13 (by decide) q41 0 rfl rfl dX0_measure_127 rfl ?_
        refine g_iload hc dX0_measure_130 4 rfl ?_
        refine n_iald hc 9 2 rfl rfl (by omega) (by decide) dX0_measure_132 ?_
        refine n_icmp_ge (tgt := 164) hc dX0_measure_133 (by decide) (by omega) (by omega) (fun c133 => ?_) (fun c133 => ?_)
        · skip
          refine n_iinc (lv' := [(0, .ref (h 0)), (1, .int (nI g)), (2, .int (nI X)), (3, .int (nI r)), (4, .int (nI a)), (5, .int (nI (b + 1))), (6, .int (nI 1))]) (q := 5) hc dX0_measure_164 rfl (by decide) [1, 2, 3, 4, 5, 0, 6] rfl ?_
          refine g_goto (tgt := 52) hc dX0_measure_167 (by decide) ?_
          refine g_lv (lv' := [(0, .ref (h 0)), (1, .int (nI g)), (2, .int (nI X)), (3, .int (nI r)), (4, .int (nI a)), (5, .int (nI (b + 1)))]) [0, 1, 2, 3, 4, 5] rfl ?_
          exact ih hb _ ⟨msB_no e (fun hh => by omega), hB⟩
        · skip
          refine g_aload_n hc dX0_measure_136 rfl 0 rfl ?_
          refine x_get hc 13 (by decide) q41 0 rfl rfl dX0_measure_137 rfl ?_
          refine g_iload hc dX0_measure_140 4 rfl ?_
          refine g_aload_n hc dX0_measure_142 rfl 0 rfl ?_
          refine x_get hc 13 (by decide) q41 0 rfl rfl dX0_measure_143 rfl ?_
          refine g_iload hc dX0_measure_146 5 rfl ?_
          refine n_iald hc 9 2 rfl rfl (by omega) (by decide) dX0_measure_148 ?_
          refine g_aload_n hc dX0_measure_149 rfl 0 rfl ?_
          refine x_get hc 0 (by decide) q28 0 rfl rfl dX0_measure_150 rfl ?_
          refine g_iload hc dX0_measure_153 4 rfl ?_
          refine g_bipush (v := nI 6) hc dX0_measure_155 (by decide) ?_
          refine n_imul hc dX0_measure_157 ?_
          refine g_iload hc dX0_measure_158 5 rfl ?_
          refine n_iadd hc dX0_measure_160 ?_
          refine n_bald hc 1 0 rfl rfl (by omega) (by decide) dX0_measure_161 ?_
          have b161 := hL (a * 6 + b)
          refine n_iadd hc dX0_measure_162 ?_
          refine n_iast (ws' := XW h dB dS dI L kn fr to wc rc P S W A B R RW (updN D1 a (D1 b + (L (a * 6 + b))))) hc 9 2 rfl rfl (by omega) (by decide) dX0_measure_163 rfl ?_
          refine n_iinc (lv' := [(0, .ref (h 0)), (1, .int (nI g)), (2, .int (nI X)), (3, .int (nI r)), (4, .int (nI a)), (5, .int (nI (b + 1))), (6, .int (nI 1))]) (q := 5) hc dX0_measure_164 rfl (by decide) [1, 2, 3, 4, 5, 0, 6] rfl ?_
          refine g_goto (tgt := 52) hc dX0_measure_167 (by decide) ?_
          refine g_lv (lv' := [(0, .ref (h 0)), (1, .int (nI g)), (2, .int (nI X)), (3, .int (nI r)), (4, .int (nI a)), (5, .int (nI (b + 1)))]) [0, 1, 2, 3, 4, 5] rfl ?_
          exact ih hb _ ⟨msB_yes e hz c133, bd6_upd hB (by omega)⟩
      · skip
        refine g_istore (lv' := [(0, .ref (h 0)), (1, .int (nI g)), (2, .int (nI X)), (3, .int (nI r)), (4, .int (nI a)), (5, .int (nI b)), (6, .int (nI 0))]) hc dX0_measure_98 (by decide) [1, 2, 3, 4, 5, 6, 0] rfl ?_
        refine g_iload hc dX0_measure_100 6 rfl ?_
        refine n_if_eq (tgt := 164) hc dX0_measure_102 (by decide) (by decide) (fun _ => ?_) (fun h => absurd h (by decide))
        refine n_iinc (lv' := [(0, .ref (h 0)), (1, .int (nI g)), (2, .int (nI X)), (3, .int (nI r)), (4, .int (nI a)), (5, .int (nI (b + 1))), (6, .int (nI 0))]) (q := 5) hc dX0_measure_164 rfl (by decide) [1, 2, 3, 4, 5, 0, 6] rfl ?_
        refine g_goto (tgt := 52) hc dX0_measure_167 (by decide) ?_
        refine g_lv (lv' := [(0, .ref (h 0)), (1, .int (nI g)), (2, .int (nI X)), (3, .int (nI r)), (4, .int (nI a)), (5, .int (nI (b + 1)))]) [0, 1, 2, 3, 4, 5] rfl ?_
        exact ih hb _ ⟨msB_no e (fun hh => hz hh.1), hB⟩
    refine g_iload hc dX0_measure_52 5 rfl ?_
    refine g_bipush (v := nI 6) hc dX0_measure_54 (by decide) ?_
    refine n_icmp_ge (tgt := 170) hc dX0_measure_56 (by decide) (by omega) (by omega) (fun c56 => ?_) (fun c56 => ?_)
    · skip
      obtain rfl : b = 6 := by omega
      exact K _ e hB
    · skip
      refine g_aload_n hc dX0_measure_59 rfl 0 rfl ?_
      refine x_get hc 0 (by decide) q28 0 rfl rfl dX0_measure_60 rfl ?_
      refine g_iload hc dX0_measure_63 4 rfl ?_
      refine g_bipush (v := nI 6) hc dX0_measure_65 (by decide) ?_
      refine n_imul hc dX0_measure_67 ?_
      refine g_iload hc dX0_measure_68 5 rfl ?_
      refine n_iadd hc dX0_measure_70 ?_
      refine n_bald hc 1 0 rfl rfl (by omega) (by decide) dX0_measure_71 ?_
      have b71 := hL (a * 6 + b)
      refine n_if_le (tgt := 97) hc dX0_measure_72 (by decide) (by omega) (fun c72 => ?_) (fun c72 => ?_)
      · skip
        refine g_iconst (v := nI 0) hc dX0_measure_97 (by decide) ?_
        exact j98 0 c56 (Or.inr ⟨rfl, fun hh => by have := okE_iff.mp hh; omega⟩)
      · skip
        refine g_iload_n hc dX0_measure_75 rfl 2 rfl ?_
        refine g_iload hc dX0_measure_76 4 rfl ?_
        refine g_callS (n := 2) (As := [.int (nI X), .int (nI a)]) (rest := []) hc (cX_in X a (by omega) (by omega)) (lw_S q114 q115 q18 q116) (by decide +kernel) (by decide) (by decide) rfl rfl (by simp [Value.category]) dX0_measure_78 (fun r78 k78 => ?_)
        rcases k78 with ⟨rfl, k78⟩ | ⟨rfl, k78⟩
        · skip
          refine n_if_ne (tgt := 97) hc dX0_measure_81 (by decide) (by decide) (fun _ => ?_) (fun h => absurd h (by decide))
          refine g_iconst (v := nI 0) hc dX0_measure_97 (by decide) ?_
          exact j98 0 c56 (Or.inr ⟨rfl, fun hh => (okE_iff.mp hh).2.1 k78⟩)
        · skip
          refine n_if_ne (tgt := 97) hc dX0_measure_81 (by decide) (by decide) (fun h => absurd h (by decide)) (fun _ => ?_)
          refine g_iload_n hc dX0_measure_84 rfl 2 rfl ?_
          refine g_iload hc dX0_measure_85 5 rfl ?_
          refine g_callS (n := 2) (As := [.int (nI X), .int (nI b)]) (rest := []) hc (cX_in X b (by omega) (by omega)) (lw_S q114 q115 q18 q116) (by decide +kernel) (by decide) (by decide) rfl rfl (by simp [Value.category]) dX0_measure_87 (fun r87 k87 => ?_)
          rcases k87 with ⟨rfl, k87⟩ | ⟨rfl, k87⟩
          · skip
            refine n_if_ne (tgt := 97) hc dX0_measure_90 (by decide) (by decide) (fun _ => ?_) (fun h => absurd h (by decide))
            refine g_iconst (v := nI 0) hc dX0_measure_97 (by decide) ?_
            exact j98 0 c56 (Or.inr ⟨rfl, fun hh => (okE_iff.mp hh).2.2 k87⟩)
          · skip
            refine n_if_ne (tgt := 97) hc dX0_measure_90 (by decide) (by decide) (fun h => absurd h (by decide)) (fun _ => ?_)
            refine g_iconst (v := nI 1) hc dX0_measure_93 (by decide) ?_
            refine g_goto (tgt := 98) hc dX0_measure_94 (by decide) ?_
            exact j98 1 c56 (Or.inl ⟨rfl, okE_iff.mpr ⟨c72, k78, k87⟩⟩)
  have loopA : ∀ (r : Nat) (Dr : Nat → Nat), (∀ D1, D1 = msA L X 6 Dr → bd6 D1 → G Γ (XW h dB dS dI L kn fr to wc rc P S W A B R RW D1) 176 [(0, .ref (h 0)), (1, .int (nI g)), (2, .int (nI X)), (3, .int (nI r)), (4, .int (nI 6))] []) → ∀ (a : Nat) (D1 : Nat → Nat), a ≤ 6 → (D1 = msA L X a Dr ∧ bd6 D1) → G Γ (XW h dB dS dI L kn fr to wc rc P S W A B R RW D1) 42 [(0, .ref (h 0)), (1, .int (nI g)), (2, .int (nI X)), (3, .int (nI r)), (4, .int (nI a))] [] := by
    intro r Dr K
    refine up_loop 6 _ _ ?_
    intro a D1 ha6 hI ih
    obtain ⟨e, hB⟩ := hI
    have K2 : a < 6 → ∀ D2, D2 = msB L X a 6 D1 → bd6 D2 → G Γ (XW h dB dS dI L kn fr to wc rc P S W A B R RW D2) 170 [(0, .ref (h 0)), (1, .int (nI g)), (2, .int (nI X)), (3, .int (nI r)), (4, .int (nI a)), (5, .int (nI 6))] [] := by
      intro ha D2 e2 hB2
      refine n_iinc (lv' := [(0, .ref (h 0)), (1, .int (nI g)), (2, .int (nI X)), (3, .int (nI r)), (4, .int (nI (a + 1))), (5, .int (nI 6))]) (q := 4) hc dX0_measure_170 rfl (by decide) [1, 2, 3, 4, 0, 5] rfl ?_
      refine g_goto (tgt := 42) hc dX0_measure_173 (by decide) ?_
      refine g_lv (lv' := [(0, .ref (h 0)), (1, .int (nI g)), (2, .int (nI X)), (3, .int (nI r)), (4, .int (nI (a + 1)))]) [0, 1, 2, 3, 4] rfl ?_
      exact ih ha D2 ⟨by rw [msA, ← e]; exact e2, hB2⟩
    refine g_iload hc dX0_measure_42 4 rfl ?_
    refine g_bipush (v := nI 6) hc dX0_measure_44 (by decide) ?_
    refine n_icmp_ge (tgt := 176) hc dX0_measure_46 (by decide) (by omega) (by omega) (fun c46 => ?_) (fun c46 => ?_)
    · skip
      obtain rfl : a = 6 := by omega
      exact K _ e hB
    · skip
      refine g_iconst (v := nI 0) hc dX0_measure_49 (by decide) ?_
      refine g_istore (lv' := [(0, .ref (h 0)), (1, .int (nI g)), (2, .int (nI X)), (3, .int (nI r)), (4, .int (nI a)), (5, .int (nI 0))]) hc dX0_measure_50 (by decide) [1, 2, 3, 4, 5, 0] rfl ?_
      exact loopB r a D1 c46 (K2 c46) 0 D1 (by decide) ⟨rfl, hB⟩
  have loopR : ∀ (r : Nat) (D1 : Nat → Nat), r ≤ 6 → (D1 = msR L X r (iniD g D 6) ∧ bd6 D1) → G Γ (XW h dB dS dI L kn fr to wc rc P S W A B R RW D1) 33 [(0, .ref (h 0)), (1, .int (nI g)), (2, .int (nI X)), (3, .int (nI r))] [] := by
    refine up_loop 6 _ _ ?_
    intro r D1 hr6 hI ih
    obtain ⟨e, hB⟩ := hI
    have K2 : r < 6 → ∀ D2, D2 = msA L X 6 D1 → bd6 D2 → G Γ (XW h dB dS dI L kn fr to wc rc P S W A B R RW D2) 176 [(0, .ref (h 0)), (1, .int (nI g)), (2, .int (nI X)), (3, .int (nI r)), (4, .int (nI 6))] [] := by
      intro hr D2 e2 hB2
      refine n_iinc (lv' := [(0, .ref (h 0)), (1, .int (nI g)), (2, .int (nI X)), (3, .int (nI (r + 1))), (4, .int (nI 6))]) (q := 3) hc dX0_measure_176 rfl (by decide) [1, 2, 3, 0, 4] rfl ?_
      refine g_goto (tgt := 33) hc dX0_measure_179 (by decide) ?_
      refine g_lv (lv' := [(0, .ref (h 0)), (1, .int (nI g)), (2, .int (nI X)), (3, .int (nI (r + 1)))]) [0, 1, 2, 3] rfl ?_
      exact ih hr D2 ⟨by rw [msR, ← e]; exact e2, hB2⟩
    refine g_iload_n hc dX0_measure_33 rfl 3 rfl ?_
    refine g_bipush (v := nI 6) hc dX0_measure_34 (by decide) ?_
    refine n_icmp_ge (tgt := 182) hc dX0_measure_36 (by decide) (by omega) (by omega) (fun c36 => ?_) (fun c36 => ?_)
    · skip
      exact hR D1 _ _ ⟨by rw [e, show r = 6 by omega]; rfl, hB⟩ dX0_measure_182
    · skip
      refine g_iconst (v := nI 0) hc dX0_measure_39 (by decide) ?_
      refine g_istore (lv' := [(0, .ref (h 0)), (1, .int (nI g)), (2, .int (nI X)), (3, .int (nI r)), (4, .int (nI 0))]) hc dX0_measure_40 (by decide) [1, 2, 3, 4, 0] rfl ?_
      exact loopA r D1 (K2 c36) 0 D1 (by decide) ⟨rfl, hB⟩
  have loopV : ∀ (v : Nat) (D1 : Nat → Nat), v ≤ 6 → (D1 = iniD g D v ∧ ∀ i, i < v → D1 i ≤ 1048576) → G Γ (XW h dB dS dI L kn fr to wc rc P S W A B R RW D1) 2 [(0, .ref (h 0)), (1, .int (nI g)), (2, .int (nI X)), (3, .int (nI v))] [] := by
    refine up_loop 6 _ _ ?_
    intro v D1 hv6 hI ih
    obtain ⟨e, hB⟩ := hI
    have j24 : ∀ z : Nat, v < 6 → z = (if v = g then 0 else 1048576) → G Γ (XW h dB dS dI L kn fr to wc rc P S W A B R RW D1) 24 [(0, .ref (h 0)), (1, .int (nI g)), (2, .int (nI X)), (3, .int (nI v))] [.int (nI z), .int (nI v), .ref (h 9)] := by
      intro z hv hz
      refine n_iast (ws' := XW h dB dS dI L kn fr to wc rc P S W A B R RW (updN D1 v z)) hc 9 2 rfl rfl (by omega) (by decide) dX0_measure_24 rfl ?_
      refine n_iinc (lv' := [(0, .ref (h 0)), (1, .int (nI g)), (2, .int (nI X)), (3, .int (nI (v + 1)))]) (q := 3) hc dX0_measure_25 rfl (by decide) [1, 2, 3, 0] rfl ?_
      refine g_goto (tgt := 2) hc dX0_measure_28 (by decide) ?_
      refine ih hv _ ⟨by rw [iniD, ← e, ← hz], fun i hi => ?_⟩
      unfold updN
      by_cases hiv : i = v
      · rw [if_pos hiv, hz]; split <;> omega
      · rw [if_neg hiv]; exact hB i (by omega)
    refine g_iload_n hc dX0_measure_2 rfl 3 rfl ?_
    refine g_bipush (v := nI 6) hc dX0_measure_3 (by decide) ?_
    refine n_icmp_ge (tgt := 31) hc dX0_measure_5 (by decide) (by omega) (by omega) (fun c5 => ?_) (fun c5 => ?_)
    · skip
      refine g_iconst (v := nI 0) hc dX0_measure_31 (by decide) ?_
      refine g_istore_n (lv' := [(0, .ref (h 0)), (1, .int (nI g)), (2, .int (nI X)), (3, .int (nI 0))]) hc dX0_measure_32 rfl (by decide) [1, 2, 3, 0] rfl ?_
      exact loopR 0 D1 (by decide) ⟨by rw [e, show v = 6 by omega]; rfl, fun i hi => hB i (by omega)⟩
    · skip
      refine g_aload_n hc dX0_measure_8 rfl 0 rfl ?_
      refine x_get hc 13 (by decide) q41 0 rfl rfl dX0_measure_9 rfl ?_
      refine g_iload_n hc dX0_measure_12 rfl 3 rfl ?_
      refine g_iload_n hc dX0_measure_13 rfl 3 rfl ?_
      refine g_iload_n hc dX0_measure_14 rfl 1 rfl ?_
      refine n_icmp_ne (tgt := 22) hc dX0_measure_15 (by decide) (by omega) (by omega) (fun c15 => ?_) (fun c15 => ?_)
      · skip
        refine g_ldc (v := nI 1048576) hc q113 dX0_measure_22 ?_
        exact j24 _ c5 (by rw [if_neg c15])
      · skip
        refine g_iconst (v := nI 0) hc dX0_measure_18 (by decide) ?_
        refine g_goto (tgt := 24) hc dX0_measure_19 (by decide) ?_
        exact j24 _ c5 (by rw [if_pos c15])
  refine g_iconst (v := nI 0) hc dX0_measure_0 (by decide) ?_
  refine g_istore_n (lv' := [(0, .ref (h 0)), (1, .int (nI g)), (2, .int (nI X)), (3, .int (nI 0))]) hc dX0_measure_1 rfl (by decide) [1, 2, 3, 0] rfl ?_
  exact loopV 0 D (by decide) ⟨rfl, fun i hi => by omega⟩
theorem cX_bestNext (h : Nat → Nat) (dB dS dI : ClassId) (L : Nat → Nat) (kn fr to wc rc : Nat) (P S W A B R RW D : Nat → Nat) (a X : Nat) (hL : ∀ i, L i ≤ 20) (ha : a < 6) (hX : X < 64) (hB : bd6 D) : MI yX0_bestNext cX0_bestNext 7 .int 1 (XT dB dS dI) [.ref (h 0), .int (nI a), .int (nI X)] (XW h dB dS dI L kn fr to wc rc P S W A B R RW D) (fun _ : Unit => XW h dB dS dI L kn fr to wc rc P S W A B R RW D) (fun r _ => r = eN (bNext L D a X)) := by
  refine g_enterI (lv0 := [(0, .ref (h 0)), (1, .int (nI a)), (2, .int (nI X))]) (by decide) (Nat.le_of_ble_eq_true rfl) rfl (fun r u h => rfl) (fun Γ hc hR => ?_)
  have loop : ∀ (b : Nat) (u : Nat × Nat), b ≤ 6 → u = bNx L D a X b → G Γ (XW h dB dS dI L kn fr to wc rc P S W A B R RW D) 9 [(0, .ref (h 0)), (1, .int (nI a)), (2, .int (nI X)), (3, .int (eN u.1)), (4, .int (nI u.2)), (5, .int (nI b))] [] := by
    refine up_loop 6 _ _ ?_
    intro b u hb6 e ih
    have hle := bNx_le L D a X b
    rw [← e] at hle
    have j57 : ∀ z : Nat, b < 6 → ((z = 1 ∧ 0 < L (a * 6 + b) ∧ ¬ X.testBit b = true ∧ D b < 1048576) ∨ (z = 0 ∧ ¬ (0 < L (a * 6 + b) ∧ ¬ X.testBit b = true ∧ D b < 1048576))) → G Γ (XW h dB dS dI L kn fr to wc rc P S W A B R RW D) 57 [(0, .ref (h 0)), (1, .int (nI a)), (2, .int (nI X)), (3, .int (eN u.1)), (4, .int (nI u.2)), (5, .int (nI b))] [.int (nI z)] := by
      intro z hb hz
      have hb1 := hB b hb
      rcases hz with ⟨rfl, hz⟩ | ⟨rfl, hz⟩
      · skip
        refine g_istore (lv' := [(0, .ref (h 0)), (1, .int (nI a)), (2, .int (nI X)), (3, .int (eN u.1)), (4, .int (nI u.2)), (5, .int (nI b)), (6, .int (nI 1))]) hc dX0_bestNext_57 (by decide) [1, 2, 3, 4, 5, 6, 0] rfl ?_
        refine g_iload hc dX0_bestNext_59 6 rfl ?_
        refine n_if_eq (tgt := 114) hc dX0_bestNext_61 (by decide) (by decide) (fun h => absurd h (by decide)) (fun _ => ?_)
        refine g_aload_n hc dX0_bestNext_64 rfl 0 rfl ?_
        refine x_get hc 13 (by decide) q41 0 rfl rfl dX0_bestNext_65 rfl ?_
        refine g_iload hc dX0_bestNext_68 5 rfl ?_
        refine n_iald hc 9 2 rfl rfl (by omega) (by decide) dX0_bestNext_70 ?_
        refine g_aload_n hc dX0_bestNext_71 rfl 0 rfl ?_
        refine x_get hc 0 (by decide) q28 0 rfl rfl dX0_bestNext_72 rfl ?_
        refine g_iload_n hc dX0_bestNext_75 rfl 1 rfl ?_
        refine g_bipush (v := nI 6) hc dX0_bestNext_76 (by decide) ?_
        refine n_imul hc dX0_bestNext_78 ?_
        refine g_iload hc dX0_bestNext_79 5 rfl ?_
        refine n_iadd hc dX0_bestNext_81 ?_
        refine n_bald hc 1 0 rfl rfl (by omega) (by decide) dX0_bestNext_82 ?_
        have b82 := hL (a * 6 + b)
        refine n_iadd hc dX0_bestNext_83 ?_
        refine g_iload hc dX0_bestNext_84 4 rfl ?_
        refine n_icmp_ge (tgt := 114) hc dX0_bestNext_86 (by decide) (by omega) (by omega) (fun c86 => ?_) (fun c86 => ?_)
        · skip
          refine n_iinc (lv' := [(0, .ref (h 0)), (1, .int (nI a)), (2, .int (nI X)), (3, .int (eN u.1)), (4, .int (nI u.2)), (5, .int (nI (b + 1))), (6, .int (nI 1))]) (q := 5) hc dX0_bestNext_114 rfl (by decide) [1, 2, 3, 4, 5, 0, 6] rfl ?_
          refine g_goto (tgt := 9) hc dX0_bestNext_117 (by decide) ?_
          refine g_lv (lv' := [(0, .ref (h 0)), (1, .int (nI a)), (2, .int (nI X)), (3, .int (eN u.1)), (4, .int (nI u.2)), (5, .int (nI (b + 1)))]) [0, 1, 2, 3, 4, 5] rfl ?_
          exact ih hb _ (by rw [bNx, if_neg (by rw [← e]; omega)]; exact e)
        · skip
          refine g_iload hc dX0_bestNext_89 5 rfl ?_
          refine g_istore_n (lv' := [(0, .ref (h 0)), (1, .int (nI a)), (2, .int (nI X)), (3, .int (nI b)), (4, .int (nI u.2)), (5, .int (nI b)), (6, .int (nI 1))]) hc dX0_bestNext_91 rfl (by decide) [1, 2, 3, 0, 4, 5, 6] rfl ?_
          refine g_lv (lv' := [(0, .ref (h 0)), (1, .int (nI a)), (2, .int (nI X)), (3, .int (eN (b + 1))), (4, .int (nI u.2)), (5, .int (nI b)), (6, .int (nI 1))]) [0, 1, 2, 3, 4, 5, 6] rfl ?_
          refine g_aload_n hc dX0_bestNext_92 rfl 0 rfl ?_
          refine x_get hc 13 (by decide) q41 0 rfl rfl dX0_bestNext_93 rfl ?_
          refine g_iload hc dX0_bestNext_96 5 rfl ?_
          refine n_iald hc 9 2 rfl rfl (by omega) (by decide) dX0_bestNext_98 ?_
          refine g_aload_n hc dX0_bestNext_99 rfl 0 rfl ?_
          refine x_get hc 0 (by decide) q28 0 rfl rfl dX0_bestNext_100 rfl ?_
          refine g_iload_n hc dX0_bestNext_103 rfl 1 rfl ?_
          refine g_bipush (v := nI 6) hc dX0_bestNext_104 (by decide) ?_
          refine n_imul hc dX0_bestNext_106 ?_
          refine g_iload hc dX0_bestNext_107 5 rfl ?_
          refine n_iadd hc dX0_bestNext_109 ?_
          refine n_bald hc 1 0 rfl rfl (by omega) (by decide) dX0_bestNext_110 ?_
          have b110 := hL (a * 6 + b)
          refine n_iadd hc dX0_bestNext_111 ?_
          refine g_istore (lv' := [(0, .ref (h 0)), (1, .int (nI a)), (2, .int (nI X)), (3, .int (nI b)), (4, .int (nI (D b + (L (a * 6 + b))))), (5, .int (nI b)), (6, .int (nI 1))]) hc dX0_bestNext_112 (by decide) [1, 2, 3, 4, 0, 5, 6] rfl ?_
          refine n_iinc (lv' := [(0, .ref (h 0)), (1, .int (nI a)), (2, .int (nI X)), (3, .int (nI b)), (4, .int (nI (D b + (L (a * 6 + b))))), (5, .int (nI (b + 1))), (6, .int (nI 1))]) (q := 5) hc dX0_bestNext_114 rfl (by decide) [1, 2, 3, 4, 5, 0, 6] rfl ?_
          refine g_goto (tgt := 9) hc dX0_bestNext_117 (by decide) ?_
          refine g_lv (lv' := [(0, .ref (h 0)), (1, .int (nI a)), (2, .int (nI X)), (3, .int (nI b)), (4, .int (nI (D b + (L (a * 6 + b))))), (5, .int (nI (b + 1)))]) [0, 1, 2, 3, 4, 5] rfl ?_
          exact ih hb (b + 1, D b + L (a * 6 + b)) (by rw [bNx, if_pos (by rw [← e]; exact ⟨hz.1, hz.2.1, hz.2.2, c86⟩)])
      · skip
        refine g_istore (lv' := [(0, .ref (h 0)), (1, .int (nI a)), (2, .int (nI X)), (3, .int (eN u.1)), (4, .int (nI u.2)), (5, .int (nI b)), (6, .int (nI 0))]) hc dX0_bestNext_57 (by decide) [1, 2, 3, 4, 5, 6, 0] rfl ?_
        refine g_iload hc dX0_bestNext_59 6 rfl ?_
        refine n_if_eq (tgt := 114) hc dX0_bestNext_61 (by decide) (by decide) (fun _ => ?_) (fun h => absurd h (by decide))
        refine n_iinc (lv' := [(0, .ref (h 0)), (1, .int (nI a)), (2, .int (nI X)), (3, .int (eN u.1)), (4, .int (nI u.2)), (5, .int (nI (b + 1))), (6, .int (nI 0))]) (q := 5) hc dX0_bestNext_114 rfl (by decide) [1, 2, 3, 4, 5, 0, 6] rfl ?_
        refine g_goto (tgt := 9) hc dX0_bestNext_117 (by decide) ?_
        refine g_lv (lv' := [(0, .ref (h 0)), (1, .int (nI a)), (2, .int (nI X)), (3, .int (eN u.1)), (4, .int (nI u.2)), (5, .int (nI (b + 1)))]) [0, 1, 2, 3, 4, 5] rfl ?_
        exact ih hb _ (by rw [bNx, if_neg (fun hh => hz ⟨hh.1, hh.2.1, hh.2.2.1⟩)]; exact e)
    refine g_iload hc dX0_bestNext_9 5 rfl ?_
    refine g_bipush (v := nI 6) hc dX0_bestNext_11 (by decide) ?_
    refine n_icmp_ge (tgt := 120) hc dX0_bestNext_13 (by decide) (by omega) (by omega) (fun c13 => ?_) (fun c13 => ?_)
    · skip
      refine g_iload_n hc dX0_bestNext_120 rfl 3 rfl ?_
      exact hR _ () _ _ (by rw [e, show b = 6 by omega]; rfl) dX0_bestNext_121
    · skip
      refine g_aload_n hc dX0_bestNext_16 rfl 0 rfl ?_
      refine x_get hc 0 (by decide) q28 0 rfl rfl dX0_bestNext_17 rfl ?_
      refine g_iload_n hc dX0_bestNext_20 rfl 1 rfl ?_
      refine g_bipush (v := nI 6) hc dX0_bestNext_21 (by decide) ?_
      refine n_imul hc dX0_bestNext_23 ?_
      refine g_iload hc dX0_bestNext_24 5 rfl ?_
      refine n_iadd hc dX0_bestNext_26 ?_
      refine n_bald hc 1 0 rfl rfl (by omega) (by decide) dX0_bestNext_27 ?_
      have b27 := hL (a * 6 + b)
      refine n_if_le (tgt := 56) hc dX0_bestNext_28 (by decide) (by omega) (fun c28 => ?_) (fun c28 => ?_)
      · skip
        refine g_iconst (v := nI 0) hc dX0_bestNext_56 (by decide) ?_
        exact j57 0 c13 (Or.inr ⟨rfl, fun hh => by omega⟩)
      · skip
        refine g_iload_n hc dX0_bestNext_31 rfl 2 rfl ?_
        refine g_iload hc dX0_bestNext_32 5 rfl ?_
        refine g_callS (n := 2) (As := [.int (nI X), .int (nI b)]) (rest := []) hc (cX_in X b (by omega) (by omega)) (lw_S q114 q115 q18 q116) (by decide +kernel) (by decide) (by decide) rfl rfl (by simp [Value.category]) dX0_bestNext_34 (fun r34 k34 => ?_)
        rcases k34 with ⟨rfl, k34⟩ | ⟨rfl, k34⟩
        · skip
          refine n_if_ne (tgt := 56) hc dX0_bestNext_37 (by decide) (by decide) (fun _ => ?_) (fun h => absurd h (by decide))
          refine g_iconst (v := nI 0) hc dX0_bestNext_56 (by decide) ?_
          exact j57 0 c13 (Or.inr ⟨rfl, fun hh => hh.2.1 k34⟩)
        · skip
          refine n_if_ne (tgt := 56) hc dX0_bestNext_37 (by decide) (by decide) (fun h => absurd h (by decide)) (fun _ => ?_)
          refine g_aload_n hc dX0_bestNext_40 rfl 0 rfl ?_
          refine x_get hc 13 (by decide) q41 0 rfl rfl dX0_bestNext_41 rfl ?_
          refine g_iload hc dX0_bestNext_44 5 rfl ?_
          refine n_iald hc 9 2 rfl rfl (by omega) (by decide) dX0_bestNext_46 ?_
          have b46 := hB b (by omega)
          refine g_ldc (v := nI 1048576) hc q113 dX0_bestNext_47 ?_
          refine n_icmp_ge (tgt := 56) hc dX0_bestNext_49 (by decide) (by omega) (by omega) (fun c49 => ?_) (fun c49 => ?_)
          · skip
            refine g_iconst (v := nI 0) hc dX0_bestNext_56 (by decide) ?_
            exact j57 0 c13 (Or.inr ⟨rfl, fun hh => by omega⟩)
          · skip
            refine g_iconst (v := nI 1) hc dX0_bestNext_52 (by decide) ?_
            refine g_goto (tgt := 57) hc dX0_bestNext_53 (by decide) ?_
            exact j57 1 c13 (Or.inl ⟨rfl, c28, k34, c49⟩)
  refine g_iconst (v := eN 0) hc dX0_bestNext_0 (by decide) ?_
  refine g_istore_n (lv' := [(0, .ref (h 0)), (1, .int (nI a)), (2, .int (nI X)), (3, .int (eN 0))]) hc dX0_bestNext_1 rfl (by decide) [1, 2, 3, 0] rfl ?_
  refine g_ldc (v := nI 1048576) hc q113 dX0_bestNext_2 ?_
  refine g_istore (lv' := [(0, .ref (h 0)), (1, .int (nI a)), (2, .int (nI X)), (3, .int (eN 0)), (4, .int (nI 1048576))]) hc dX0_bestNext_4 (by decide) [1, 2, 3, 4, 0] rfl ?_
  refine g_iconst (v := nI 0) hc dX0_bestNext_6 (by decide) ?_
  refine g_istore (lv' := [(0, .ref (h 0)), (1, .int (nI a)), (2, .int (nI X)), (3, .int (eN 0)), (4, .int (nI 1048576)), (5, .int (nI 0))]) hc dX0_bestNext_7 (by decide) [1, 2, 3, 4, 5, 0] rfl ?_
  exact loop 0 (0, 1048576) (by decide) rfl
end
section
set_option maxRecDepth 100000
set_option maxHeartbeats 4000000
theorem lxF_eq {f g : Nat → Nat} {i : Nat} (hi : i < 6) (h : f i = g i) : lxF f g i (6 - i) = lxF f g (i + 1) (6 - (i + 1)) := by
  rw [show 6 - i = (6 - (i + 1)) + 1 by omega, lxF, if_pos h]
theorem lxF_ne {f g : Nat → Nat} {i : Nat} (hi : i < 6) (h : ¬ f i = g i) : lxF f g i (6 - i) = decide (f i < g i) := by
  rw [show 6 - i = (6 - (i + 1)) + 1 by omega, lxF, if_neg h]
theorem cX_goesBefore (h : Nat → Nat) (dB dS dI : ClassId) (L : Nat → Nat) (kn fr to wc rc : Nat) (P S W A B R RW D : Nat → Nat) (v w : Nat) (hP : ∀ i, P i < 6) (hW : ∀ i, W i ≤ 1000) (hv : v ≤ 65) (hw : w ≤ 65) : MI yX0_goesBefore cX0_goesBefore 4 .boolean 0 (XT dB dS dI) [.ref (h 0), .int (nI v), .int (nI w)] (XW h dB dS dI L kn fr to wc rc P S W A B R RW D) (fun _ : Unit => XW h dB dS dI L kn fr to wc rc P S W A B R RW D) (bPost (gB W P v w = true)) := by
  refine g_enterI (lv0 := [(0, .ref (h 0)), (1, .int (nI v)), (2, .int (nI w))]) (by decide) (Nat.le_of_ble_eq_true rfl) rfl (fun r u h => bPost_nar h) (fun Γ hc hR => ?_)
  have loop : ∀ (i : Nat) (_ : Unit), i ≤ 6 → gB W P v w = lxF (fun i => P (v * 6 + i)) (fun i => P (w * 6 + i)) i (6 - i) → G Γ (XW h dB dS dI L kn fr to wc rc P S W A B R RW D) 38 [(0, .ref (h 0)), (1, .int (nI v)), (2, .int (nI w)), (3, .int (nI i))] [] := by
    refine up_loop 6 _ _ ?_
    intro i _ hi6 e ih
    refine g_iload_n hc dX0_goesBefore_38 rfl 3 rfl ?_
    refine g_bipush (v := nI 6) hc dX0_goesBefore_39 (by decide) ?_
    refine n_icmp_ge (tgt := 106) hc dX0_goesBefore_41 (by decide) (by omega) (by omega) (fun c41 => ?_) (fun c41 => ?_)
    · skip
      refine g_iconst (v := nI 0) hc dX0_goesBefore_106 (by decide) ?_
      exact hR _ () _ _ (Or.inr ⟨rfl, by rw [e, show 6 - i = 0 by omega, lxF]; decide⟩) dX0_goesBefore_107
    · skip
      refine g_aload_n hc dX0_goesBefore_44 rfl 0 rfl ?_
      refine x_get hc 6 (by decide) q34 0 rfl rfl dX0_goesBefore_45 rfl ?_
      refine g_iload_n hc dX0_goesBefore_48 rfl 1 rfl ?_
      refine g_bipush (v := nI 6) hc dX0_goesBefore_49 (by decide) ?_
      refine n_imul hc dX0_goesBefore_51 ?_
      refine g_iload_n hc dX0_goesBefore_52 rfl 3 rfl ?_
      refine n_iadd hc dX0_goesBefore_53 ?_
      refine n_bald hc 2 0 rfl rfl (by omega) (by decide) dX0_goesBefore_54 ?_
      have b54 := hP (v * 6 + i)
      refine g_aload_n hc dX0_goesBefore_55 rfl 0 rfl ?_
      refine x_get hc 6 (by decide) q34 0 rfl rfl dX0_goesBefore_56 rfl ?_
      refine g_iload_n hc dX0_goesBefore_59 rfl 2 rfl ?_
      refine g_bipush (v := nI 6) hc dX0_goesBefore_60 (by decide) ?_
      refine n_imul hc dX0_goesBefore_62 ?_
      refine g_iload_n hc dX0_goesBefore_63 rfl 3 rfl ?_
      refine n_iadd hc dX0_goesBefore_64 ?_
      refine n_bald hc 2 0 rfl rfl (by omega) (by decide) dX0_goesBefore_65 ?_
      have b65 := hP (w * 6 + i)
      refine n_icmp_eq (tgt := 100) hc dX0_goesBefore_66 (by decide) (by omega) (by omega) (fun c66 => ?_) (fun c66 => ?_)
      · skip
        refine n_iinc (lv' := [(0, .ref (h 0)), (1, .int (nI v)), (2, .int (nI w)), (3, .int (nI (i + 1)))]) (q := 3) hc dX0_goesBefore_100 rfl (by decide) [1, 2, 3, 0] rfl ?_
        refine g_goto (tgt := 38) hc dX0_goesBefore_103 (by decide) ?_
        exact ih c41 () (by rw [e, lxF_eq c41 c66])
      · skip
        refine g_aload_n hc dX0_goesBefore_69 rfl 0 rfl ?_
        refine x_get hc 6 (by decide) q34 0 rfl rfl dX0_goesBefore_70 rfl ?_
        refine g_iload_n hc dX0_goesBefore_73 rfl 1 rfl ?_
        refine g_bipush (v := nI 6) hc dX0_goesBefore_74 (by decide) ?_
        refine n_imul hc dX0_goesBefore_76 ?_
        refine g_iload_n hc dX0_goesBefore_77 rfl 3 rfl ?_
        refine n_iadd hc dX0_goesBefore_78 ?_
        refine n_bald hc 2 0 rfl rfl (by omega) (by decide) dX0_goesBefore_79 ?_
        have b79 := hP (v * 6 + i)
        refine g_aload_n hc dX0_goesBefore_80 rfl 0 rfl ?_
        refine x_get hc 6 (by decide) q34 0 rfl rfl dX0_goesBefore_81 rfl ?_
        refine g_iload_n hc dX0_goesBefore_84 rfl 2 rfl ?_
        refine g_bipush (v := nI 6) hc dX0_goesBefore_85 (by decide) ?_
        refine n_imul hc dX0_goesBefore_87 ?_
        refine g_iload_n hc dX0_goesBefore_88 rfl 3 rfl ?_
        refine n_iadd hc dX0_goesBefore_89 ?_
        refine n_bald hc 2 0 rfl rfl (by omega) (by decide) dX0_goesBefore_90 ?_
        have b90 := hP (w * 6 + i)
        refine n_icmp_ge (tgt := 98) hc dX0_goesBefore_91 (by decide) (by omega) (by omega) (fun c91 => ?_) (fun c91 => ?_)
        · skip
          refine g_iconst (v := nI 0) hc dX0_goesBefore_98 (by decide) ?_
          exact hR _ () _ _ (Or.inr ⟨rfl, by rw [e, lxF_ne c41 c66, decide_eq_true_eq]; omega⟩) dX0_goesBefore_99
        · skip
          refine g_iconst (v := nI 1) hc dX0_goesBefore_94 (by decide) ?_
          refine g_goto (tgt := 99) hc dX0_goesBefore_95 (by decide) ?_
          exact hR _ () _ _ (Or.inl ⟨rfl, by rw [e, lxF_ne c41 c66, decide_eq_true_eq]; exact c91⟩) dX0_goesBefore_99
  refine g_aload_n hc dX0_goesBefore_0 rfl 0 rfl ?_
  refine x_get hc 8 (by decide) q36 0 rfl rfl dX0_goesBefore_1 rfl ?_
  refine g_iload_n hc dX0_goesBefore_4 rfl 1 rfl ?_
  refine n_sald hc 4 1 rfl rfl (by omega) (by decide) dX0_goesBefore_5 ?_
  have b5 := hW v
  refine g_aload_n hc dX0_goesBefore_6 rfl 0 rfl ?_
  refine x_get hc 8 (by decide) q36 0 rfl rfl dX0_goesBefore_7 rfl ?_
  refine g_iload_n hc dX0_goesBefore_10 rfl 2 rfl ?_
  refine n_sald hc 4 1 rfl rfl (by omega) (by decide) dX0_goesBefore_11 ?_
  have b11 := hW w
  refine n_icmp_eq (tgt := 36) hc dX0_goesBefore_12 (by decide) (by omega) (by omega) (fun c12 => ?_) (fun c12 => ?_)
  · skip
    refine g_iconst (v := nI 0) hc dX0_goesBefore_36 (by decide) ?_
    refine g_istore_n (lv' := [(0, .ref (h 0)), (1, .int (nI v)), (2, .int (nI w)), (3, .int (nI 0))]) hc dX0_goesBefore_37 rfl (by decide) [1, 2, 3, 0] rfl ?_
    exact loop 0 () (by decide) (by rw [gB, cmpF, if_pos c12])
  · skip
    refine g_aload_n hc dX0_goesBefore_15 rfl 0 rfl ?_
    refine x_get hc 8 (by decide) q36 0 rfl rfl dX0_goesBefore_16 rfl ?_
    refine g_iload_n hc dX0_goesBefore_19 rfl 1 rfl ?_
    refine n_sald hc 4 1 rfl rfl (by omega) (by decide) dX0_goesBefore_20 ?_
    have b20 := hW v
    refine g_aload_n hc dX0_goesBefore_21 rfl 0 rfl ?_
    refine x_get hc 8 (by decide) q36 0 rfl rfl dX0_goesBefore_22 rfl ?_
    refine g_iload_n hc dX0_goesBefore_25 rfl 2 rfl ?_
    refine n_sald hc 4 1 rfl rfl (by omega) (by decide) dX0_goesBefore_26 ?_
    have b26 := hW w
    refine n_icmp_ge (tgt := 34) hc dX0_goesBefore_27 (by decide) (by omega) (by omega) (fun c27 => ?_) (fun c27 => ?_)
    · skip
      refine g_iconst (v := nI 0) hc dX0_goesBefore_34 (by decide) ?_
      exact hR _ () _ _ (Or.inr ⟨rfl, by rw [gB, cmpF, if_neg c12, decide_eq_true_eq]; omega⟩) dX0_goesBefore_35
    · skip
      refine g_iconst (v := nI 1) hc dX0_goesBefore_30 (by decide) ?_
      refine g_goto (tgt := 35) hc dX0_goesBefore_31 (by decide) ?_
      exact hR _ () _ _ (Or.inl ⟨rfl, by rw [gB, cmpF, if_neg c12, decide_eq_true_eq]; exact c27⟩) dX0_goesBefore_35
theorem cX_bestCandidate (h : Nat → Nat) (dB dS dI : ClassId) (L : Nat → Nat) (kn fr to wc rc : Nat) (P S W A B R RW D : Nat → Nat) (hP : ∀ i, P i < 6) (hW : ∀ i, W i ≤ 1000) (hRb : ∀ i, R i ≤ 100) (hwc : wc ≤ 66) : MI yX0_bestCandidate cX0_bestCandidate 3 .int 1 (XT dB dS dI) [.ref (h 0)] (XW h dB dS dI L kn fr to wc rc P S W A B R RW D) (fun _ : Unit => XW h dB dS dI L kn fr to wc rc P S W A B R RW D) (fun r _ => r = eN (bC W P R wc)) := by
  refine g_enterI (lv0 := [(0, .ref (h 0))]) (by decide) (Nat.le_of_ble_eq_true rfl) rfl (fun r u h => rfl) (fun Γ hc hR => ?_)
  have loop : ∀ (w b : Nat), w ≤ wc → b = bC W P R w → G Γ (XW h dB dS dI L kn fr to wc rc P S W A B R RW D) 4 [(0, .ref (h 0)), (1, .int (eN b)), (2, .int (nI w))] [] := by
    refine up_loop wc _ _ ?_
    intro w b hw e ih
    have hle := bC_le W P R w
    rw [← e] at hle
    refine g_iload_n hc dX0_bestCandidate_4 rfl 2 rfl ?_
    refine g_aload_n hc dX0_bestCandidate_5 rfl 0 rfl ?_
    refine x_get hc 4 (by decide) q32 0 rfl rfl dX0_bestCandidate_6 rfl ?_
    refine n_icmp_ge (tgt := 42) hc dX0_bestCandidate_9 (by decide) (by omega) (by omega) (fun c9 => ?_) (fun c9 => ?_)
    · skip
      refine g_iload_n hc dX0_bestCandidate_42 rfl 1 rfl ?_
      exact hR _ () _ _ (by rw [e, show w = wc by omega]) dX0_bestCandidate_43
    · skip
      refine g_aload_n hc dX0_bestCandidate_12 rfl 0 rfl ?_
      refine x_get hc 11 (by decide) q39 0 rfl rfl dX0_bestCandidate_13 rfl ?_
      refine g_iload_n hc dX0_bestCandidate_16 rfl 2 rfl ?_
      refine e_bald hc 7 0 rfl rfl (by omega) (by decide) dX0_bestCandidate_17 ?_
      have b17 := hRb w
      refine e_if_ge (tgt := 36) hc dX0_bestCandidate_18 (by decide) (by omega) (fun y18 c18 => ?_) (fun c18 => ?_)
      · skip
        refine n_iinc (lv' := [(0, .ref (h 0)), (1, .int (eN b)), (2, .int (nI (w + 1)))]) (q := 2) hc dX0_bestCandidate_36 rfl (by decide) [1, 2, 0] rfl ?_
        refine g_goto (tgt := 4) hc dX0_bestCandidate_39 (by decide) ?_
        exact ih c9 b (by rw [bC, if_neg (fun hh => by omega)]; exact e)
      · skip
        refine g_iload_n hc dX0_bestCandidate_21 rfl 1 rfl ?_
        refine e_if_lt (tgt := 34) hc dX0_bestCandidate_22 (by decide) (by omega) (fun c22 => ?_) (fun y22 c22 => ?_)
        · skip
          refine g_iload_n hc dX0_bestCandidate_34 rfl 2 rfl ?_
          refine g_istore_n (lv' := [(0, .ref (h 0)), (1, .int (nI w)), (2, .int (nI w))]) hc dX0_bestCandidate_35 rfl (by decide) [1, 0, 2] rfl ?_
          refine n_iinc (lv' := [(0, .ref (h 0)), (1, .int (nI w)), (2, .int (nI (w + 1)))]) (q := 2) hc dX0_bestCandidate_36 rfl (by decide) [1, 2, 0] rfl ?_
          refine g_goto (tgt := 4) hc dX0_bestCandidate_39 (by decide) ?_
          exact ih c9 (w + 1) (by rw [bC, if_pos ⟨c18, Or.inl (by rw [← e]; exact c22)⟩])
        · skip
          subst c22
          refine g_lv (lv' := [(0, .ref (h 0)), (1, .int (nI y22)), (2, .int (nI w))]) [0, 1, 2] rfl ?_
          refine g_aload_n hc dX0_bestCandidate_25 rfl 0 rfl ?_
          refine g_iload_n hc dX0_bestCandidate_26 rfl 2 rfl ?_
          refine g_iload_n hc dX0_bestCandidate_27 rfl 1 rfl ?_
          refine x_callI (n := 2) (As := [.int (nI w), .int (nI y22)]) (rest := []) hc (cX_goesBefore h dB dS dI L kn fr to wc rc P S W A B R RW D w y22 hP hW (by omega) (by omega)) (lw_V q125 q127 qs5 q18 q128) (by decide +kernel) (by decide) (by decide) rfl rfl (by simp [Value.category]) dX0_bestCandidate_28 (fun r28 u28 k28 => ?_)
          rcases k28 with ⟨rfl, k28⟩ | ⟨rfl, k28⟩
          · skip
            refine n_if_eq (tgt := 36) hc dX0_bestCandidate_31 (by decide) (by decide) (fun h => absurd h (by decide)) (fun _ => ?_)
            refine g_iload_n hc dX0_bestCandidate_34 rfl 2 rfl ?_
            refine g_istore_n (lv' := [(0, .ref (h 0)), (1, .int (nI w)), (2, .int (nI w))]) hc dX0_bestCandidate_35 rfl (by decide) [1, 0, 2] rfl ?_
            refine n_iinc (lv' := [(0, .ref (h 0)), (1, .int (nI w)), (2, .int (nI (w + 1)))]) (q := 2) hc dX0_bestCandidate_36 rfl (by decide) [1, 2, 0] rfl ?_
            refine g_goto (tgt := 4) hc dX0_bestCandidate_39 (by decide) ?_
            exact ih c9 (w + 1) (by rw [bC, if_pos ⟨c18, Or.inr (by rw [← e]; exact k28)⟩])
          · skip
            refine n_if_eq (tgt := 36) hc dX0_bestCandidate_31 (by decide) (by decide) (fun _ => ?_) (fun h => absurd h (by decide))
            refine n_iinc (lv' := [(0, .ref (h 0)), (1, .int (nI y22)), (2, .int (nI (w + 1)))]) (q := 2) hc dX0_bestCandidate_36 rfl (by decide) [1, 2, 0] rfl ?_
            refine g_goto (tgt := 4) hc dX0_bestCandidate_39 (by decide) ?_
            exact ih c9 (y22 + 1) (by rw [bC, if_neg (fun hh => by rw [← e] at hh; rcases hh.2 with h2 | h2; omega; exact k28 h2)]; exact e)
  refine g_iconst (v := eN 0) hc dX0_bestCandidate_0 (by decide) ?_
  refine g_istore_n (lv' := [(0, .ref (h 0)), (1, .int (eN 0))]) hc dX0_bestCandidate_1 rfl (by decide) [1, 0] rfl ?_
  refine g_iconst (v := nI 0) hc dX0_bestCandidate_2 (by decide) ?_
  refine g_istore_n (lv' := [(0, .ref (h 0)), (1, .int (eN 0)), (2, .int (nI 0))]) hc dX0_bestCandidate_3 rfl (by decide) [1, 2, 0] rfl ?_
  exact loop 0 0 (Nat.zero_le _) rfl
theorem cX_placesOf (h : Nat → Nat) (dB dS dI : ClassId) (L : Nat → Nat) (kn fr to wc rc : Nat) (P S W A B R RW D : Nat → Nat) (w : Nat) (hP : ∀ i, P i < 6) (hw : w ≤ 65) (hSw : w * 6 + S w ≤ 396) : MI yX0_placesOf cX0_placesOf 4 .int 0 (XT dB dS dI) [.ref (h 0), .int (nI w)] (XW h dB dS dI L kn fr to wc rc P S W A B R RW D) (fun _ : Unit => XW h dB dS dI L kn fr to wc rc P S W A B R RW D) (fun r _ => r = nI (bef P w (S w))) := by
  refine g_enterI (lv0 := [(0, .ref (h 0)), (1, .int (nI w))]) (by decide) (Nat.le_of_ble_eq_true rfl) rfl (fun r u h => rfl) (fun Γ hc hR => ?_)
  have loop : ∀ (i x : Nat), i ≤ S w → x = bef P w i → G Γ (XW h dB dS dI L kn fr to wc rc P S W A B R RW D) 4 [(0, .ref (h 0)), (1, .int (nI w)), (2, .int (nI x)), (3, .int (nI i))] [] := by
    refine up_loop (S w) _ _ ?_
    intro i x hi e ih
    refine g_iload_n hc dX0_placesOf_4 rfl 3 rfl ?_
    refine g_aload_n hc dX0_placesOf_5 rfl 0 rfl ?_
    refine x_get hc 7 (by decide) q35 0 rfl rfl dX0_placesOf_6 rfl ?_
    refine g_iload_n hc dX0_placesOf_9 rfl 1 rfl ?_
    refine n_bald hc 3 0 rfl rfl (by omega) (by decide) dX0_placesOf_10 ?_
    refine n_icmp_ge (tgt := 36) hc dX0_placesOf_11 (by decide) (by omega) (by omega) (fun c11 => ?_) (fun c11 => ?_)
    · skip
      refine g_iload_n hc dX0_placesOf_36 rfl 2 rfl ?_
      exact hR _ () _ _ (by rw [e, show i = S w by omega]) dX0_placesOf_37
    · skip
      refine g_iload_n hc dX0_placesOf_14 rfl 2 rfl ?_
      refine g_iconst (v := nI 1) hc dX0_placesOf_15 (by decide) ?_
      refine g_aload_n hc dX0_placesOf_16 rfl 0 rfl ?_
      refine x_get hc 6 (by decide) q34 0 rfl rfl dX0_placesOf_17 rfl ?_
      refine g_iload_n hc dX0_placesOf_20 rfl 1 rfl ?_
      refine g_bipush (v := nI 6) hc dX0_placesOf_21 (by decide) ?_
      refine n_imul hc dX0_placesOf_23 ?_
      refine g_iload_n hc dX0_placesOf_24 rfl 3 rfl ?_
      refine n_iadd hc dX0_placesOf_25 ?_
      refine n_bald hc 2 0 rfl rfl (by omega) (by decide) dX0_placesOf_26 ?_
      have b26 := hP (w * 6 + i)
      refine n_ishl hc dX0_placesOf_27 (by omega) (shl_ok (by omega)) ?_
      refine n_ior hc dX0_placesOf_28 ?_
      refine g_istore_n (lv' := [(0, .ref (h 0)), (1, .int (nI w)), (2, .int (nI (x ||| (1 * 2 ^ (P (w * 6 + i)))))), (3, .int (nI i))]) hc dX0_placesOf_29 rfl (by decide) [1, 2, 0, 3] rfl ?_
      refine n_iinc (lv' := [(0, .ref (h 0)), (1, .int (nI w)), (2, .int (nI (x ||| (1 * 2 ^ (P (w * 6 + i)))))), (3, .int (nI (i + 1)))]) (q := 3) hc dX0_placesOf_30 rfl (by decide) [1, 2, 3, 0] rfl ?_
      refine g_goto (tgt := 4) hc dX0_placesOf_33 (by decide) ?_
      exact ih c11 _ (by rw [bef, ← e])
  refine g_iconst (v := nI 0) hc dX0_placesOf_0 (by decide) ?_
  refine g_istore_n (lv' := [(0, .ref (h 0)), (1, .int (nI w)), (2, .int (nI 0))]) hc dX0_placesOf_1 rfl (by decide) [1, 2, 0] rfl ?_
  refine g_iconst (v := nI 0) hc dX0_placesOf_2 (by decide) ?_
  refine g_istore_n (lv' := [(0, .ref (h 0)), (1, .int (nI w)), (2, .int (nI 0)), (3, .int (nI 0))]) hc dX0_placesOf_3 rfl (by decide) [1, 2, 3, 0] rfl ?_
  exact loop 0 0 (Nat.zero_le _) rfl
end
section
set_option maxRecDepth 100000
set_option maxHeartbeats 4000000
abbrev AS : Type := (Nat → Nat) × (Nat → Nat) × (Nat → Nat) × (Nat → Nat) × (Nat → Nat) × (Nat → Nat) × Nat × (Nat → Nat)
/-- what addCandidate leaves: places, sizes, lengths, parting places, bars, ranks, number of ways, distances -/
def addC (L : Nat → Nat) (to wc : Nat) (P S W A B R D : Nat → Nat) (w i bars : Nat) : AS :=
  if bNext L (dmeas L (bef P w (i + 1)) to D) (P (w * 6 + i)) (bef P w (i + 1) ||| bars) = 0 then (P, S, W, A, B, R, wc, dmeas L (bef P w (i + 1)) to D)
  else ((grd L (dmeas L (bef P w (i + 1)) to D) to (bef P w (i + 1)) wc ((cpyR L w wc P (i + 1)).2, (cpyR L w wc P (i + 1)).1, i + 1, P (w * 6 + i), bNext L (dmeas L (bef P w (i + 1)) to D) (P (w * 6 + i)) (bef P w (i + 1) ||| bars)) 6).2.1,
    updN S wc (grd L (dmeas L (bef P w (i + 1)) to D) to (bef P w (i + 1)) wc ((cpyR L w wc P (i + 1)).2, (cpyR L w wc P (i + 1)).1, i + 1, P (w * 6 + i), bNext L (dmeas L (bef P w (i + 1)) to D) (P (w * 6 + i)) (bef P w (i + 1) ||| bars)) 6).2.2.1,
    updN W wc (grd L (dmeas L (bef P w (i + 1)) to D) to (bef P w (i + 1)) wc ((cpyR L w wc P (i + 1)).2, (cpyR L w wc P (i + 1)).1, i + 1, P (w * 6 + i), bNext L (dmeas L (bef P w (i + 1)) to D) (P (w * 6 + i)) (bef P w (i + 1) ||| bars)) 6).1,
    updN A wc i, updN B wc bars, updN R wc 0, wc + 1, dmeas L (bef P w (i + 1)) to D)
theorem gst_stop {L D : Nat → Nat} {to X c : Nat} {g : Nat × (Nat → Nat) × Nat × Nat × Nat} (h : g.2.2.2.2 = 0) : gst L D to X c g = g := by
  unfold gst
  rw [if_pos h]
theorem grd_stop {L D : Nat → Nat} {to X c k : Nat} {g : Nat × (Nat → Nat) × Nat × Nat × Nat} (h : (grd L D to X c g k).2.2.2.2 = 0) : ∀ m, grd L D to X c g (k + m) = grd L D to X c g k := by
  intro m
  induction m with
  | zero => rfl
  | succ m ih =>
    show gst L D to X c (grd L D to X c g (k + m)) = _
    rw [ih]
    exact gst_stop h
theorem grd_stop6 {L D : Nat → Nat} {to X c k : Nat} {g : Nat × (Nat → Nat) × Nat × Nat × Nat} (h : (grd L D to X c g k).2.2.2.2 = 0) (hk : k ≤ 6) : grd L D to X c g 6 = grd L D to X c g k := by
  have := grd_stop h (6 - k)
  rwa [show k + (6 - k) = 6 by omega] at this
theorem upd_lt {P : Nat → Nat} {n : Nat} (h : ∀ j, P j < n) {k x : Nat} (hx : x < n) : ∀ j, updN P k x j < n := by
  intro j
  unfold updN
  by_cases e : j = k
  · simp [e]; exact hx
  · simp [e]; exact h j
theorem or_lt64 {a b : Nat} (ha : a < 64) (hb : b < 64) : a ||| b < 64 := Nat.or_lt_two_pow (n := 6) ha hb
theorem cX_addCandidate (h : Nat → Nat) (dB dS dI : ClassId) (L : Nat → Nat) (kn fr to wc rc : Nat) (P S W A B R RW D : Nat → Nat) (w i bars : Nat) (hL : ∀ i, L i ≤ 20) (hP : ∀ i, P i < 6) (hto : to < 6) (hw : w ≤ 64) (hi : i ≤ 5) (hbars : bars < 64) (hwc : ¬ bNext L (dmeas L (bef P w (i + 1)) to D) (P (w * 6 + i)) (bef P w (i + 1) ||| bars) = 0 → wc ≤ 64) : MV yX0_addCandidate cX0_addCandidate 11 2 (XT dB dS dI) [.ref (h 0), .int (nI w), .int (nI i), .int (nI bars)] (XW h dB dS dI L kn fr to wc rc P S W A B R RW D) (fun u : AS => XW h dB dS dI L kn fr to u.2.2.2.2.2.2.1 rc u.1 u.2.1 u.2.2.1 u.2.2.2.1 u.2.2.2.2.1 u.2.2.2.2.2.1 RW u.2.2.2.2.2.2.2) (fun u => u = addC L to wc P S W A B R D w i bars) := by
  refine g_enterV (lv0 := [(0, .ref (h 0)), (1, .int (nI w)), (2, .int (nI i)), (3, .int (nI bars))]) (by decide) (Nat.le_of_ble_eq_true rfl) rfl (fun Γ hc hR => ?_)
  have fin : ∀ (sm n1 at1 nx : Nat) (P1 : Nat → Nat), (sm, P1, n1, at1, nx) = grd L (dmeas L (bef P w (i + 1)) to D) to (bef P w (i + 1)) wc ((cpyR L w wc P (i + 1)).2, (cpyR L w wc P (i + 1)).1, i + 1, P (w * 6 + i), bNext L (dmeas L (bef P w (i + 1)) to D) (P (w * 6 + i)) (bef P w (i + 1) ||| bars)) 6 → ¬ bNext L (dmeas L (bef P w (i + 1)) to D) (P (w * 6 + i)) (bef P w (i + 1) ||| bars) = 0 → sm ≤ 1000 → n1 ≤ 100 → wc ≤ 64 → G Γ (XW h dB dS dI L kn fr to wc rc P1 S W A B R RW (dmeas L (bef P w (i + 1)) to D)) 275 [(0, .ref (h 0)), (2, .int (nI i)), (3, .int (nI bars)), (7, .int (nI wc)), (8, .int (nI sm)), (9, .int (nI n1))] [] := by
    intro sm n1 at1 nx P1 e hnx hsm hn1 hc64
    refine g_aload_n hc dX0_addCandidate_275 rfl 0 rfl ?_
    refine x_get hc 7 (by decide) q35 0 rfl rfl dX0_addCandidate_276 rfl ?_
    refine g_iload hc dX0_addCandidate_279 3 rfl ?_
    refine g_iload hc dX0_addCandidate_281 5 rfl ?_
    refine n_i2b hc dX0_addCandidate_283 (by omega) ?_
    refine n_bast (ws' := XW h dB dS dI L kn fr to wc rc P1 (updN S wc n1) W A B R RW (dmeas L (bef P w (i + 1)) to D)) hc 3 0 rfl rfl (by omega) (by decide) dX0_addCandidate_284 (by omega) rfl ?_
    refine g_aload_n hc dX0_addCandidate_285 rfl 0 rfl ?_
    refine x_get hc 8 (by decide) q36 0 rfl rfl dX0_addCandidate_286 rfl ?_
    refine g_iload hc dX0_addCandidate_289 3 rfl ?_
    refine g_iload hc dX0_addCandidate_291 4 rfl ?_
    refine n_i2s hc dX0_addCandidate_293 (by omega) ?_
    refine n_sast (ws' := XW h dB dS dI L kn fr to wc rc P1 (updN S wc n1) (updN W wc sm) A B R RW (dmeas L (bef P w (i + 1)) to D)) hc 4 1 rfl rfl (by omega) (by decide) dX0_addCandidate_294 (by omega) rfl ?_
    refine g_aload_n hc dX0_addCandidate_295 rfl 0 rfl ?_
    refine x_get hc 9 (by decide) q37 0 rfl rfl dX0_addCandidate_296 rfl ?_
    refine g_iload hc dX0_addCandidate_299 3 rfl ?_
    refine g_iload_n hc dX0_addCandidate_301 rfl 1 rfl ?_
    refine n_i2b hc dX0_addCandidate_302 (by omega) ?_
    refine n_bast (ws' := XW h dB dS dI L kn fr to wc rc P1 (updN S wc n1) (updN W wc sm) (updN A wc i) B R RW (dmeas L (bef P w (i + 1)) to D)) hc 5 0 rfl rfl (by omega) (by decide) dX0_addCandidate_303 (by omega) rfl ?_
    refine g_aload_n hc dX0_addCandidate_304 rfl 0 rfl ?_
    refine x_get hc 10 (by decide) q38 0 rfl rfl dX0_addCandidate_305 rfl ?_
    refine g_iload hc dX0_addCandidate_308 3 rfl ?_
    refine g_iload_n hc dX0_addCandidate_310 rfl 2 rfl ?_
    refine n_i2b hc dX0_addCandidate_311 (by omega) ?_
    refine n_bast (ws' := XW h dB dS dI L kn fr to wc rc P1 (updN S wc n1) (updN W wc sm) (updN A wc i) (updN B wc bars) R RW (dmeas L (bef P w (i + 1)) to D)) hc 6 0 rfl rfl (by omega) (by decide) dX0_addCandidate_312 (by omega) rfl ?_
    refine g_aload_n hc dX0_addCandidate_313 rfl 0 rfl ?_
    refine x_get hc 11 (by decide) q39 0 rfl rfl dX0_addCandidate_314 rfl ?_
    refine g_iload hc dX0_addCandidate_317 3 rfl ?_
    refine g_iconst (v := eN 0) hc dX0_addCandidate_319 (by decide) ?_
    refine e_bast (ws' := XW h dB dS dI L kn fr to wc rc P1 (updN S wc n1) (updN W wc sm) (updN A wc i) (updN B wc bars) (updN R wc 0) RW (dmeas L (bef P w (i + 1)) to D)) hc 7 0 rfl rfl (by omega) (by decide) dX0_addCandidate_320 (by omega) rfl ?_
    refine g_aload_n hc dX0_addCandidate_321 rfl 0 rfl ?_
    refine g_dup hc dX0_addCandidate_322 rfl ?_
    refine x_get hc 4 (by decide) q32 0 rfl rfl dX0_addCandidate_323 rfl ?_
    refine g_iconst (v := nI 1) hc dX0_addCandidate_326 (by decide) ?_
    refine n_iadd hc dX0_addCandidate_327 ?_
    refine x_put (ws' := XW h dB dS dI L kn fr to (wc + 1) rc P1 (updN S wc n1) (updN W wc sm) (updN A wc i) (updN B wc bars) (updN R wc 0) RW (dmeas L (bef P w (i + 1)) to D)) (ty := .int) hc 4 (by decide) q32 0 rfl rfl (by decide +kernel) rfl rfl (Nat.le_of_ble_eq_true rfl) dX0_addCandidate_328 rfl rfl ?_
    refine hR (P1, updN S wc n1, updN W wc sm, updN A wc i, updN B wc bars, updN R wc 0, wc + 1, dmeas L (bef P w (i + 1)) to D) _ _ ?_ dX0_addCandidate_331
    rw [addC, if_neg hnx, ← e]
  have loopG : ¬ bNext L (dmeas L (bef P w (i + 1)) to D) (P (w * 6 + i)) (bef P w (i + 1) ||| bars) = 0 → wc ≤ 64 → bd6 (dmeas L (bef P w (i + 1)) to D) → ∀ (k : Nat) (g : Nat × (Nat → Nat) × Nat × Nat × Nat), k ≤ 6 → (g = grd L (dmeas L (bef P w (i + 1)) to D) to (bef P w (i + 1)) wc ((cpyR L w wc P (i + 1)).2, (cpyR L w wc P (i + 1)).1, i + 1, P (w * 6 + i), bNext L (dmeas L (bef P w (i + 1)) to D) (P (w * 6 + i)) (bef P w (i + 1) ||| bars)) k ∧ g.1 ≤ 200 + 20 * k ∧ (∀ j, g.2.1 j < 6) ∧ g.2.2.1 ≤ i + 1 + k ∧ g.2.2.2.1 < 6 ∧ g.2.2.2.2 ≤ 6) → G Γ (XW h dB dS dI L kn fr to wc rc g.2.1 S W A B R RW (dmeas L (bef P w (i + 1)) to D)) 193 [(0, .ref (h 0)), (2, .int (nI i)), (3, .int (nI bars)), (4, .int (nI (bef P w (i + 1)))), (5, .int (nI g.2.2.2.1)), (6, .int (eN g.2.2.2.2)), (7, .int (nI wc)), (8, .int (nI g.1)), (9, .int (nI g.2.2.1)), (10, .int (nI k))] [] := by
    intro hnx hc64 hD1
    refine up_loop 6 _ _ ?_
    intro k g hk6 hI ih
    obtain ⟨sm, P1, n1, at1, nx⟩ := g
    obtain ⟨e, h1, h2, h3, h4, h5⟩ := hI
    dsimp only at h1 h2 h3 h4 h5 ⊢
    have hbf := bef_lt hP w (i + 1)
    refine g_iload hc dX0_addCandidate_193 9 rfl ?_
    refine g_bipush (v := nI 6) hc dX0_addCandidate_195 (by decide) ?_
    refine n_icmp_ge (tgt := 275) hc dX0_addCandidate_197 (by decide) (by omega) (by omega) (fun c197 => ?_) (fun c197 => ?_)
    · skip
      refine g_lv (lv' := [(0, .ref (h 0)), (2, .int (nI i)), (3, .int (nI bars)), (7, .int (nI wc)), (8, .int (nI sm)), (9, .int (nI n1))]) [0, 1, 2, 6, 7, 8] rfl ?_
      exact fin sm n1 at1 nx P1 (by rw [e, show k = 6 by omega]) hnx (by omega) (by omega) hc64
    · skip
      refine g_iload hc dX0_addCandidate_200 5 rfl ?_
      refine e_if_lt (tgt := 275) hc dX0_addCandidate_202 (by decide) (by omega) (fun c202 => ?_) (fun y202 c202 => ?_)
      · skip
        refine g_lv (lv' := [(0, .ref (h 0)), (2, .int (nI i)), (3, .int (nI bars)), (7, .int (nI wc)), (8, .int (nI sm)), (9, .int (nI n1))]) [0, 1, 2, 6, 7, 8] rfl ?_
        exact fin sm n1 at1 nx P1 (by rw [e]; exact (grd_stop6 (by rw [← e]; exact c202) hk6).symm) hnx (by omega) (by omega) hc64
      · skip
        subst c202
        refine g_lv (lv' := [(0, .ref (h 0)), (2, .int (nI i)), (3, .int (nI bars)), (4, .int (nI (bef P w (i + 1)))), (5, .int (nI at1)), (6, .int (nI y202)), (7, .int (nI wc)), (8, .int (nI sm)), (9, .int (nI n1)), (10, .int (nI k))]) [0, 1, 2, 3, 4, 5, 6, 7, 8, 9] rfl ?_
        have e2 : (sm + L (at1 * 6 + y202), updN P1 (wc * 6 + n1) y202, n1 + 1, y202, if y202 = to then 0 else bNext L (dmeas L (bef P w (i + 1)) to D) y202 (bef P w (i + 1))) = grd L (dmeas L (bef P w (i + 1)) to D) to (bef P w (i + 1)) wc ((cpyR L w wc P (i + 1)).2, (cpyR L w wc P (i + 1)).1, i + 1, P (w * 6 + i), bNext L (dmeas L (bef P w (i + 1)) to D) (P (w * 6 + i)) (bef P w (i + 1) ||| bars)) (k + 1) := by rw [grd, ← e]; rfl
        refine g_iload hc dX0_addCandidate_205 7 rfl ?_
        refine g_aload_n hc dX0_addCandidate_207 rfl 0 rfl ?_
        refine x_get hc 0 (by decide) q28 0 rfl rfl dX0_addCandidate_208 rfl ?_
        refine g_iload hc dX0_addCandidate_211 4 rfl ?_
        refine g_bipush (v := nI 6) hc dX0_addCandidate_213 (by decide) ?_
        refine n_imul hc dX0_addCandidate_215 ?_
        refine g_iload hc dX0_addCandidate_216 5 rfl ?_
        refine n_iadd hc dX0_addCandidate_218 ?_
        refine n_bald hc 1 0 rfl rfl (by omega) (by decide) dX0_addCandidate_219 ?_
        have b219 := hL (at1 * 6 + y202)
        refine n_iadd hc dX0_addCandidate_220 ?_
        refine g_istore (lv' := [(0, .ref (h 0)), (2, .int (nI i)), (3, .int (nI bars)), (4, .int (nI (bef P w (i + 1)))), (5, .int (nI at1)), (6, .int (nI y202)), (7, .int (nI wc)), (8, .int (nI (sm + (L (at1 * 6 + y202))))), (9, .int (nI n1)), (10, .int (nI k))]) hc dX0_addCandidate_221 (by decide) [1, 2, 3, 4, 5, 6, 7, 0, 8, 9] rfl ?_
        refine g_aload_n hc dX0_addCandidate_223 rfl 0 rfl ?_
        refine x_get hc 6 (by decide) q34 0 rfl rfl dX0_addCandidate_224 rfl ?_
        refine g_iload hc dX0_addCandidate_227 6 rfl ?_
        refine g_bipush (v := nI 6) hc dX0_addCandidate_229 (by decide) ?_
        refine n_imul hc dX0_addCandidate_231 ?_
        refine g_iload hc dX0_addCandidate_232 8 rfl ?_
        refine n_iadd hc dX0_addCandidate_234 ?_
        refine g_iload hc dX0_addCandidate_235 5 rfl ?_
        refine n_i2b hc dX0_addCandidate_237 (by omega) ?_
        refine n_bast (ws' := XW h dB dS dI L kn fr to wc rc (updN P1 (wc * 6 + n1) y202) S W A B R RW (dmeas L (bef P w (i + 1)) to D)) hc 2 0 rfl rfl (by omega) (by decide) dX0_addCandidate_238 (by omega) rfl ?_
        refine n_iinc (lv' := [(0, .ref (h 0)), (2, .int (nI i)), (3, .int (nI bars)), (4, .int (nI (bef P w (i + 1)))), (5, .int (nI at1)), (6, .int (nI y202)), (7, .int (nI wc)), (8, .int (nI (sm + (L (at1 * 6 + y202))))), (9, .int (nI (n1 + 1))), (10, .int (nI k))]) (q := 8) hc dX0_addCandidate_239 rfl (by decide) [1, 2, 3, 4, 5, 6, 7, 8, 0, 9] rfl ?_
        refine g_iload hc dX0_addCandidate_242 5 rfl ?_
        refine g_istore (lv' := [(0, .ref (h 0)), (2, .int (nI i)), (3, .int (nI bars)), (4, .int (nI (bef P w (i + 1)))), (5, .int (nI y202)), (6, .int (nI y202)), (7, .int (nI wc)), (8, .int (nI (sm + (L (at1 * 6 + y202))))), (9, .int (nI (n1 + 1))), (10, .int (nI k))]) hc dX0_addCandidate_244 (by decide) [1, 2, 3, 4, 0, 5, 6, 7, 8, 9] rfl ?_
        refine g_iload hc dX0_addCandidate_246 4 rfl ?_
        refine g_aload_n hc dX0_addCandidate_248 rfl 0 rfl ?_
        refine x_get hc 3 (by decide) q31 0 rfl rfl dX0_addCandidate_249 rfl ?_
        refine n_icmp_ne (tgt := 259) hc dX0_addCandidate_252 (by decide) (by omega) (by omega) (fun c252 => ?_) (fun c252 => ?_)
        · skip
          refine g_aload_n hc dX0_addCandidate_259 rfl 0 rfl ?_
          refine g_iload hc dX0_addCandidate_260 4 rfl ?_
          refine g_iload hc dX0_addCandidate_262 3 rfl ?_
          refine x_callI (n := 2) (As := [.int (nI y202), .int (nI (bef P w (i + 1)))]) (rest := []) hc (cX_bestNext h dB dS dI L kn fr to wc rc (updN P1 (wc * 6 + n1) y202) S W A B R RW (dmeas L (bef P w (i + 1)) to D) y202 (bef P w (i + 1)) hL (by omega) (by omega) hD1) (lw_V q117 q119 qs3 q18 q120) (by decide +kernel) (by decide) (by decide) rfl rfl (by simp [Value.category]) dX0_addCandidate_264 (fun r264 u264 k264 => ?_)
          obtain ⟨nx2, hnx2⟩ : ∃ z, z = bNext L (dmeas L (bef P w (i + 1)) to D) y202 (bef P w (i + 1)) := ⟨_, rfl⟩
          have hle := (bNx_le L (dmeas L (bef P w (i + 1)) to D) y202 (bef P w (i + 1)) 6).1
          have hle : nx2 ≤ 6 := by rw [hnx2]; exact hle
          rw [if_neg c252, ← hnx2] at e2
          rw [← hnx2] at k264
          subst k264
          refine g_istore (lv' := [(0, .ref (h 0)), (2, .int (nI i)), (3, .int (nI bars)), (4, .int (nI (bef P w (i + 1)))), (5, .int (nI y202)), (6, .int (eN nx2)), (7, .int (nI wc)), (8, .int (nI (sm + (L (at1 * 6 + y202))))), (9, .int (nI (n1 + 1))), (10, .int (nI k))]) hc dX0_addCandidate_267 (by decide) [1, 2, 3, 4, 5, 0, 6, 7, 8, 9] rfl ?_
          refine n_iinc (lv' := [(0, .ref (h 0)), (2, .int (nI i)), (3, .int (nI bars)), (4, .int (nI (bef P w (i + 1)))), (5, .int (nI y202)), (6, .int (eN nx2)), (7, .int (nI wc)), (8, .int (nI (sm + (L (at1 * 6 + y202))))), (9, .int (nI (n1 + 1))), (10, .int (nI (k + 1)))]) (q := 9) hc dX0_addCandidate_269 rfl (by decide) [1, 2, 3, 4, 5, 6, 7, 8, 9, 0] rfl ?_
          refine g_goto (tgt := 193) hc dX0_addCandidate_272 (by decide) ?_
          exact ih c197 _ ⟨e2, by dsimp only; omega, upd_lt h2 (by omega), by dsimp only; omega, by dsimp only; omega, by dsimp only; omega⟩
        · skip
          refine g_iconst (v := eN 0) hc dX0_addCandidate_255 (by decide) ?_
          refine g_goto (tgt := 267) hc dX0_addCandidate_256 (by decide) ?_
          refine g_istore (lv' := [(0, .ref (h 0)), (2, .int (nI i)), (3, .int (nI bars)), (4, .int (nI (bef P w (i + 1)))), (5, .int (nI y202)), (6, .int (eN 0)), (7, .int (nI wc)), (8, .int (nI (sm + (L (at1 * 6 + y202))))), (9, .int (nI (n1 + 1))), (10, .int (nI k))]) hc dX0_addCandidate_267 (by decide) [1, 2, 3, 4, 5, 0, 6, 7, 8, 9] rfl ?_
          refine n_iinc (lv' := [(0, .ref (h 0)), (2, .int (nI i)), (3, .int (nI bars)), (4, .int (nI (bef P w (i + 1)))), (5, .int (nI y202)), (6, .int (eN 0)), (7, .int (nI wc)), (8, .int (nI (sm + (L (at1 * 6 + y202))))), (9, .int (nI (n1 + 1))), (10, .int (nI (k + 1)))]) (q := 9) hc dX0_addCandidate_269 rfl (by decide) [1, 2, 3, 4, 5, 6, 7, 8, 9, 0] rfl ?_
          refine g_goto (tgt := 193) hc dX0_addCandidate_272 (by decide) ?_
          rw [if_pos c252] at e2
          exact ih c197 _ ⟨e2, by dsimp only; omega, upd_lt h2 (by omega), by dsimp only; omega, by dsimp only; omega, by dsimp only; omega⟩
  have loopC : ¬ bNext L (dmeas L (bef P w (i + 1)) to D) (P (w * 6 + i)) (bef P w (i + 1) ||| bars) = 0 → wc ≤ 64 → bd6 (dmeas L (bef P w (i + 1)) to D) → ∀ (k : Nat) (g : (Nat → Nat) × Nat), k ≤ i + 1 → (g = cpyR L w wc P k ∧ g.2 ≤ 20 * k ∧ ∀ j, g.1 j < 6) → G Γ (XW h dB dS dI L kn fr to wc rc g.1 S W A B R RW (dmeas L (bef P w (i + 1)) to D)) 99 [(0, .ref (h 0)), (1, .int (nI w)), (2, .int (nI i)), (3, .int (nI bars)), (4, .int (nI (bef P w (i + 1)))), (5, .int (nI (P (w * 6 + i)))), (6, .int (eN (bNext L (dmeas L (bef P w (i + 1)) to D) (P (w * 6 + i)) (bef P w (i + 1) ||| bars)))), (7, .int (nI wc)), (8, .int (nI g.2)), (9, .int (nI k))] [] := by
    intro hnx hc64 hD1
    refine up_loop (i + 1) _ _ ?_
    intro k g hk hI ih
    obtain ⟨P1, sm⟩ := g
    obtain ⟨e, h1, h2⟩ := hI
    dsimp only at h1 h2 ⊢
    have h3 : ∀ j, (updN P1 (wc * 6 + k) (P1 (w * 6 + k))) j < 6 := upd_lt h2 (h2 _)
    have j176 : ∀ z : Nat, k ≤ i → z ≤ 20 → z = (if 0 < k then L ((updN P1 (wc * 6 + k) (P1 (w * 6 + k))) (w * 6 + k - 1) * 6 + (updN P1 (wc * 6 + k) (P1 (w * 6 + k))) (w * 6 + k)) else 0) → G Γ (XW h dB dS dI L kn fr to wc rc (updN P1 (wc * 6 + k) (P1 (w * 6 + k))) S W A B R RW (dmeas L (bef P w (i + 1)) to D)) 176 [(0, .ref (h 0)), (1, .int (nI w)), (2, .int (nI i)), (3, .int (nI bars)), (4, .int (nI (bef P w (i + 1)))), (5, .int (nI (P (w * 6 + i)))), (6, .int (eN (bNext L (dmeas L (bef P w (i + 1)) to D) (P (w * 6 + i)) (bef P w (i + 1) ||| bars)))), (7, .int (nI wc)), (8, .int (nI sm)), (9, .int (nI k))] [.int (nI z), .int (nI sm)] := by
      intro z hki hz20 hz
      refine n_iadd hc dX0_addCandidate_176 ?_
      refine g_istore (lv' := [(0, .ref (h 0)), (1, .int (nI w)), (2, .int (nI i)), (3, .int (nI bars)), (4, .int (nI (bef P w (i + 1)))), (5, .int (nI (P (w * 6 + i)))), (6, .int (eN (bNext L (dmeas L (bef P w (i + 1)) to D) (P (w * 6 + i)) (bef P w (i + 1) ||| bars)))), (7, .int (nI wc)), (8, .int (nI (sm + z))), (9, .int (nI k))]) hc dX0_addCandidate_177 (by decide) [1, 2, 3, 4, 5, 6, 7, 8, 0, 9] rfl ?_
      refine n_iinc (lv' := [(0, .ref (h 0)), (1, .int (nI w)), (2, .int (nI i)), (3, .int (nI bars)), (4, .int (nI (bef P w (i + 1)))), (5, .int (nI (P (w * 6 + i)))), (6, .int (eN (bNext L (dmeas L (bef P w (i + 1)) to D) (P (w * 6 + i)) (bef P w (i + 1) ||| bars)))), (7, .int (nI wc)), (8, .int (nI (sm + z))), (9, .int (nI (k + 1)))]) (q := 9) hc dX0_addCandidate_179 rfl (by decide) [1, 2, 3, 4, 5, 6, 7, 8, 9, 0] rfl ?_
      refine g_goto (tgt := 99) hc dX0_addCandidate_182 (by decide) ?_
      refine ih (by omega) (updN P1 (wc * 6 + k) (P1 (w * 6 + k)), sm + z) ⟨?_, by dsimp only; omega, h3⟩
      rw [cpyR, ← e, hz]
    refine g_iload hc dX0_addCandidate_99 9 rfl ?_
    refine g_iload_n hc dX0_addCandidate_101 rfl 2 rfl ?_
    refine n_icmp_gt (tgt := 185) hc dX0_addCandidate_102 (by decide) (by omega) (by omega) (fun c102 => ?_) (fun c102 => ?_)
    · skip
      refine g_iload_n hc dX0_addCandidate_185 rfl 2 rfl ?_
      refine g_iconst (v := nI 1) hc dX0_addCandidate_186 (by decide) ?_
      refine n_iadd hc dX0_addCandidate_187 ?_
      refine g_istore (lv' := [(0, .ref (h 0)), (1, .int (nI w)), (2, .int (nI i)), (3, .int (nI bars)), (4, .int (nI (bef P w (i + 1)))), (5, .int (nI (P (w * 6 + i)))), (6, .int (eN (bNext L (dmeas L (bef P w (i + 1)) to D) (P (w * 6 + i)) (bef P w (i + 1) ||| bars)))), (7, .int (nI wc)), (8, .int (nI sm)), (9, .int (nI (i + 1)))]) hc dX0_addCandidate_188 (by decide) [1, 2, 3, 4, 5, 6, 7, 8, 9, 0] rfl ?_
      refine g_iconst (v := nI 0) hc dX0_addCandidate_190 (by decide) ?_
      refine g_istore (lv' := [(0, .ref (h 0)), (1, .int (nI w)), (2, .int (nI i)), (3, .int (nI bars)), (4, .int (nI (bef P w (i + 1)))), (5, .int (nI (P (w * 6 + i)))), (6, .int (eN (bNext L (dmeas L (bef P w (i + 1)) to D) (P (w * 6 + i)) (bef P w (i + 1) ||| bars)))), (7, .int (nI wc)), (8, .int (nI sm)), (9, .int (nI (i + 1))), (10, .int (nI 0))]) hc dX0_addCandidate_191 (by decide) [1, 2, 3, 4, 5, 6, 7, 8, 9, 10, 0] rfl ?_
      refine g_lv (lv' := [(0, .ref (h 0)), (2, .int (nI i)), (3, .int (nI bars)), (4, .int (nI (bef P w (i + 1)))), (5, .int (nI (P (w * 6 + i)))), (6, .int (eN (bNext L (dmeas L (bef P w (i + 1)) to D) (P (w * 6 + i)) (bef P w (i + 1) ||| bars)))), (7, .int (nI wc)), (8, .int (nI sm)), (9, .int (nI (i + 1))), (10, .int (nI 0))]) [0, 2, 3, 4, 5, 6, 7, 8, 9, 10] rfl ?_
      refine loopG hnx hc64 hD1 0 (sm, P1, i + 1, P (w * 6 + i), bNext L (dmeas L (bef P w (i + 1)) to D) (P (w * 6 + i)) (bef P w (i + 1) ||| bars)) (by decide) ⟨?_, by dsimp only; omega, h2, by dsimp only; omega, hP _, (bNx_le _ _ _ _ 6).1⟩
      rw [grd, show i + 1 = k by omega, ← e]
    · skip
      refine g_aload_n hc dX0_addCandidate_105 rfl 0 rfl ?_
      refine x_get hc 6 (by decide) q34 0 rfl rfl dX0_addCandidate_106 rfl ?_
      refine g_iload hc dX0_addCandidate_109 7 rfl ?_
      refine g_bipush (v := nI 6) hc dX0_addCandidate_111 (by decide) ?_
      refine n_imul hc dX0_addCandidate_113 ?_
      refine g_iload hc dX0_addCandidate_114 9 rfl ?_
      refine n_iadd hc dX0_addCandidate_116 ?_
      refine g_aload_n hc dX0_addCandidate_117 rfl 0 rfl ?_
      refine x_get hc 6 (by decide) q34 0 rfl rfl dX0_addCandidate_118 rfl ?_
      refine g_iload_n hc dX0_addCandidate_121 rfl 1 rfl ?_
      refine g_bipush (v := nI 6) hc dX0_addCandidate_122 (by decide) ?_
      refine n_imul hc dX0_addCandidate_124 ?_
      refine g_iload hc dX0_addCandidate_125 9 rfl ?_
      refine n_iadd hc dX0_addCandidate_127 ?_
      refine n_bald hc 2 0 rfl rfl (by omega) (by decide) dX0_addCandidate_128 ?_
      have b128 := h2 (w * 6 + k)
      refine n_bast (ws' := XW h dB dS dI L kn fr to wc rc (updN P1 (wc * 6 + k) (P1 (w * 6 + k))) S W A B R RW (dmeas L (bef P w (i + 1)) to D)) hc 2 0 rfl rfl (by omega) (by decide) dX0_addCandidate_129 (by omega) rfl ?_
      refine g_iload hc dX0_addCandidate_130 8 rfl ?_
      refine g_iload hc dX0_addCandidate_132 9 rfl ?_
      refine n_if_le (tgt := 175) hc dX0_addCandidate_134 (by decide) (by omega) (fun c134 => ?_) (fun c134 => ?_)
      · skip
        refine g_iconst (v := nI 0) hc dX0_addCandidate_175 (by decide) ?_
        exact j176 0 c102 (by omega) (by rw [if_neg (by omega)])
      · skip
        skip
        refine g_aload_n hc dX0_addCandidate_137 rfl 0 rfl ?_
        refine x_get hc 0 (by decide) q28 0 rfl rfl dX0_addCandidate_138 rfl ?_
        refine g_aload_n hc dX0_addCandidate_141 rfl 0 rfl ?_
        refine x_get hc 6 (by decide) q34 0 rfl rfl dX0_addCandidate_142 rfl ?_
        refine g_iload_n hc dX0_addCandidate_145 rfl 1 rfl ?_
        refine g_bipush (v := nI 6) hc dX0_addCandidate_146 (by decide) ?_
        refine n_imul hc dX0_addCandidate_148 ?_
        refine g_iload hc dX0_addCandidate_149 9 rfl ?_
        refine n_iadd hc dX0_addCandidate_151 ?_
        refine g_iconst (v := nI 1) hc dX0_addCandidate_152 (by decide) ?_
        refine n_isub hc dX0_addCandidate_153 (by omega) ?_
        refine n_bald hc 2 0 rfl rfl (by omega) (by decide) dX0_addCandidate_154 ?_
        have b154 := h3 ((w * 6 + k) - 1)
        refine g_bipush (v := nI 6) hc dX0_addCandidate_155 (by decide) ?_
        refine n_imul hc dX0_addCandidate_157 ?_
        refine g_aload_n hc dX0_addCandidate_158 rfl 0 rfl ?_
        refine x_get hc 6 (by decide) q34 0 rfl rfl dX0_addCandidate_159 rfl ?_
        refine g_iload_n hc dX0_addCandidate_162 rfl 1 rfl ?_
        refine g_bipush (v := nI 6) hc dX0_addCandidate_163 (by decide) ?_
        refine n_imul hc dX0_addCandidate_165 ?_
        refine g_iload hc dX0_addCandidate_166 9 rfl ?_
        refine n_iadd hc dX0_addCandidate_168 ?_
        refine n_bald hc 2 0 rfl rfl (by omega) (by decide) dX0_addCandidate_169 ?_
        have b169 := h3 (w * 6 + k)
        refine n_iadd hc dX0_addCandidate_170 ?_
        refine n_bald hc 1 0 rfl rfl (by omega) (by decide) dX0_addCandidate_171 ?_
        have b171 := hL ((((updN P1 (wc * 6 + k) (P1 (w * 6 + k))) ((w * 6 + k) - 1)) * 6) + ((updN P1 (wc * 6 + k) (P1 (w * 6 + k))) (w * 6 + k)))
        refine g_goto (tgt := 176) hc dX0_addCandidate_172 (by decide) ?_
        exact j176 _ c102 (by omega) (by rw [if_pos c134])
  have loopB : ∀ (k x : Nat), k ≤ i + 1 → x = bef P w k → G Γ (XW h dB dS dI L kn fr to wc rc P S W A B R RW D) 6 [(0, .ref (h 0)), (1, .int (nI w)), (2, .int (nI i)), (3, .int (nI bars)), (4, .int (nI x)), (5, .int (nI k))] [] := by
    refine up_loop (i + 1) _ _ ?_
    intro k x hk e ih
    refine g_iload hc dX0_addCandidate_6 5 rfl ?_
    refine g_iload_n hc dX0_addCandidate_8 rfl 2 rfl ?_
    refine n_icmp_gt (tgt := 37) hc dX0_addCandidate_9 (by decide) (by omega) (by omega) (fun c9 => ?_) (fun c9 => ?_)
    · skip
      obtain rfl : k = i + 1 := by omega
      subst e
      have hbf := bef_lt hP w (i + 1)
      refine g_aload_n hc dX0_addCandidate_37 rfl 0 rfl ?_
      refine x_get hc 6 (by decide) q34 0 rfl rfl dX0_addCandidate_38 rfl ?_
      refine g_iload_n hc dX0_addCandidate_41 rfl 1 rfl ?_
      refine g_bipush (v := nI 6) hc dX0_addCandidate_42 (by decide) ?_
      refine n_imul hc dX0_addCandidate_44 ?_
      refine g_iload_n hc dX0_addCandidate_45 rfl 2 rfl ?_
      refine n_iadd hc dX0_addCandidate_46 ?_
      refine n_bald hc 2 0 rfl rfl (by omega) (by decide) dX0_addCandidate_47 ?_
      have b47 := hP (w * 6 + i)
      refine g_istore (lv' := [(0, .ref (h 0)), (1, .int (nI w)), (2, .int (nI i)), (3, .int (nI bars)), (4, .int (nI (bef P w (i + 1)))), (5, .int (nI (P (w * 6 + i))))]) hc dX0_addCandidate_48 (by decide) [1, 2, 3, 4, 5, 0] rfl ?_
      refine g_aload_n hc dX0_addCandidate_50 rfl 0 rfl ?_
      refine g_aload_n hc dX0_addCandidate_51 rfl 0 rfl ?_
      refine x_get hc 3 (by decide) q31 0 rfl rfl dX0_addCandidate_52 rfl ?_
      refine g_iload hc dX0_addCandidate_55 4 rfl ?_
      refine x_callV (n := 2) (As := [.int (nI to), .int (nI (bef P w (i + 1)))]) (rest := []) hc (cX_measure h dB dS dI L kn fr to wc rc P S W A B R RW D to (bef P w (i + 1)) hL hto hbf) (lw_V q109 q111 qs2 q18 q112) (by decide +kernel) (by decide) (by decide) rfl rfl (by simp [Value.category]) dX0_addCandidate_57 (fun u57 k57 => ?_)
      obtain ⟨rfl, hD1⟩ := k57
      refine g_aload_n hc dX0_addCandidate_60 rfl 0 rfl ?_
      refine g_iload hc dX0_addCandidate_61 5 rfl ?_
      refine g_iload hc dX0_addCandidate_63 4 rfl ?_
      refine g_iload_n hc dX0_addCandidate_65 rfl 3 rfl ?_
      refine n_ior hc dX0_addCandidate_66 ?_
      refine x_callI (n := 2) (As := [.int (nI (P (w * 6 + i))), .int (nI ((bef P w (i + 1)) ||| bars))]) (rest := []) hc (cX_bestNext h dB dS dI L kn fr to wc rc P S W A B R RW (dmeas L (bef P w (i + 1)) to D) (P (w * 6 + i)) (bef P w (i + 1) ||| bars) hL (by omega) (or_lt64 hbf hbars) hD1) (lw_V q117 q119 qs3 q18 q120) (by decide +kernel) (by decide) (by decide) rfl rfl (by simp [Value.category]) dX0_addCandidate_67 (fun r67 u67 k67 => ?_)
      subst k67
      have hle := (bNx_le L (dmeas L (bef P w (i + 1)) to D) (P (w * 6 + i)) (bef P w (i + 1) ||| bars) 6).1
      have hle : bNext L (dmeas L (bef P w (i + 1)) to D) (P (w * 6 + i)) (bef P w (i + 1) ||| bars) ≤ 6 := hle
      refine g_istore (lv' := [(0, .ref (h 0)), (1, .int (nI w)), (2, .int (nI i)), (3, .int (nI bars)), (4, .int (nI (bef P w (i + 1)))), (5, .int (nI (P (w * 6 + i)))), (6, .int (eN (bNext L (dmeas L (bef P w (i + 1)) to D) (P (w * 6 + i)) (bef P w (i + 1) ||| bars))))]) hc dX0_addCandidate_70 (by decide) [1, 2, 3, 4, 5, 6, 0] rfl ?_
      refine g_iload hc dX0_addCandidate_72 6 rfl ?_
      refine e_if_lt (tgt := 86) hc dX0_addCandidate_74 (by decide) (by omega) (fun c74 => ?_) (fun y74 c74 => ?_)
      · skip
        exact hR (P, S, W, A, B, R, wc, dmeas L (bef P w (i + 1)) to D) _ _ (by rw [addC, if_pos c74]) dX0_addCandidate_86
      · skip
        refine g_aload_n hc dX0_addCandidate_77 rfl 0 rfl ?_
        refine x_get hc 4 (by decide) q32 0 rfl rfl dX0_addCandidate_78 rfl ?_
        refine g_bipush (v := nI 66) hc dX0_addCandidate_81 (by decide) ?_
        have hwc64 := hwc (by omega)
        refine n_icmp_lt (tgt := 87) hc dX0_addCandidate_83 (by decide) (by omega) (by omega) (fun c83 => ?_) (fun c83 => ?_)
        · skip
          refine g_aload_n hc dX0_addCandidate_87 rfl 0 rfl ?_
          refine x_get hc 4 (by decide) q32 0 rfl rfl dX0_addCandidate_88 rfl ?_
          refine g_istore (lv' := [(0, .ref (h 0)), (1, .int (nI w)), (2, .int (nI i)), (3, .int (nI bars)), (4, .int (nI (bef P w (i + 1)))), (5, .int (nI (P (w * 6 + i)))), (6, .int (eN (bNext L (dmeas L (bef P w (i + 1)) to D) (P (w * 6 + i)) (bef P w (i + 1) ||| bars)))), (7, .int (nI wc))]) hc dX0_addCandidate_91 (by decide) [1, 2, 3, 4, 5, 6, 7, 0] rfl ?_
          refine g_iconst (v := nI 0) hc dX0_addCandidate_93 (by decide) ?_
          refine g_istore (lv' := [(0, .ref (h 0)), (1, .int (nI w)), (2, .int (nI i)), (3, .int (nI bars)), (4, .int (nI (bef P w (i + 1)))), (5, .int (nI (P (w * 6 + i)))), (6, .int (eN (bNext L (dmeas L (bef P w (i + 1)) to D) (P (w * 6 + i)) (bef P w (i + 1) ||| bars)))), (7, .int (nI wc)), (8, .int (nI 0))]) hc dX0_addCandidate_94 (by decide) [1, 2, 3, 4, 5, 6, 7, 8, 0] rfl ?_
          refine g_iconst (v := nI 0) hc dX0_addCandidate_96 (by decide) ?_
          refine g_istore (lv' := [(0, .ref (h 0)), (1, .int (nI w)), (2, .int (nI i)), (3, .int (nI bars)), (4, .int (nI (bef P w (i + 1)))), (5, .int (nI (P (w * 6 + i)))), (6, .int (eN (bNext L (dmeas L (bef P w (i + 1)) to D) (P (w * 6 + i)) (bef P w (i + 1) ||| bars)))), (7, .int (nI wc)), (8, .int (nI 0)), (9, .int (nI 0))]) hc dX0_addCandidate_97 (by decide) [1, 2, 3, 4, 5, 6, 7, 8, 9, 0] rfl ?_
          exact loopC (by omega) (hwc (by omega)) hD1 0 (P, 0) (Nat.zero_le _) ⟨rfl, Nat.zero_le _, hP⟩
        · skip
          exact absurd (hwc (by omega)) (by omega)
    · skip
      refine g_iload hc dX0_addCandidate_12 4 rfl ?_
      refine g_iconst (v := nI 1) hc dX0_addCandidate_14 (by decide) ?_
      refine g_aload_n hc dX0_addCandidate_15 rfl 0 rfl ?_
      refine x_get hc 6 (by decide) q34 0 rfl rfl dX0_addCandidate_16 rfl ?_
      refine g_iload_n hc dX0_addCandidate_19 rfl 1 rfl ?_
      refine g_bipush (v := nI 6) hc dX0_addCandidate_20 (by decide) ?_
      refine n_imul hc dX0_addCandidate_22 ?_
      refine g_iload hc dX0_addCandidate_23 5 rfl ?_
      refine n_iadd hc dX0_addCandidate_25 ?_
      refine n_bald hc 2 0 rfl rfl (by omega) (by decide) dX0_addCandidate_26 ?_
      have b26 := hP (w * 6 + k)
      refine n_ishl hc dX0_addCandidate_27 (by omega) (shl_ok (by omega)) ?_
      refine n_ior hc dX0_addCandidate_28 ?_
      refine g_istore (lv' := [(0, .ref (h 0)), (1, .int (nI w)), (2, .int (nI i)), (3, .int (nI bars)), (4, .int (nI (x ||| (1 * 2 ^ (P (w * 6 + k)))))), (5, .int (nI k))]) hc dX0_addCandidate_29 (by decide) [1, 2, 3, 4, 0, 5] rfl ?_
      refine n_iinc (lv' := [(0, .ref (h 0)), (1, .int (nI w)), (2, .int (nI i)), (3, .int (nI bars)), (4, .int (nI (x ||| (1 * 2 ^ (P (w * 6 + k)))))), (5, .int (nI (k + 1)))]) (q := 5) hc dX0_addCandidate_31 rfl (by decide) [1, 2, 3, 4, 5, 0] rfl ?_
      refine g_goto (tgt := 6) hc dX0_addCandidate_34 (by decide) ?_
      exact ih (by omega) _ (by rw [bef, ← e])
  refine g_iconst (v := nI 0) hc dX0_addCandidate_0 (by decide) ?_
  refine g_istore (lv' := [(0, .ref (h 0)), (1, .int (nI w)), (2, .int (nI i)), (3, .int (nI bars)), (4, .int (nI 0))]) hc dX0_addCandidate_1 (by decide) [1, 2, 3, 4, 0] rfl ?_
  refine g_iconst (v := nI 0) hc dX0_addCandidate_3 (by decide) ?_
  refine g_istore (lv' := [(0, .ref (h 0)), (1, .int (nI w)), (2, .int (nI i)), (3, .int (nI bars)), (4, .int (nI 0)), (5, .int (nI 0))]) hc dX0_addCandidate_4 (by decide) [1, 2, 3, 4, 5, 0] rfl ?_
  exact loopB 0 0 (Nat.zero_le _) rfl
end
section
/-! the distances that measure finds -/
def mnE (L : Nat → Nat) (X : Nat) (f : Nat → Nat) (v : Nat) : Nat → Nat
  | 0 => f v
  | b + 1 => if okE L X v b = true ∧ f b + L (v * 6 + b) < mnE L X f v b then f b + L (v * 6 + b) else mnE L X f v b
theorem mnE_le (L : Nat → Nat) (X : Nat) (f : Nat → Nat) (v : Nat) : ∀ n, mnE L X f v n ≤ f v := by
  intro n
  induction n with
  | zero => exact Nat.le_refl _
  | succ n ih =>
    unfold mnE
    split
    · omega
    · exact ih
theorem mnE_ok {L : Nat → Nat} {X : Nat} {f : Nat → Nat} {v b : Nat} (h : okE L X v b = true) : ∀ n, b < n → mnE L X f v n ≤ f b + L (v * 6 + b) := by
  intro n
  induction n with
  | zero => intro h; omega
  | succ n ih =>
    intro hb
    unfold mnE
    rcases Nat.lt_or_ge b n with h1 | h1
    · have := ih h1
      split <;> omega
    · obtain rfl : b = n := by omega
      split
      · exact Nat.le_refl _
      · rename_i h2
        have : ¬ f b + L (v * 6 + b) < mnE L X f v b := fun h3 => h2 ⟨h, h3⟩
        omega
theorem mnE_cases (L : Nat → Nat) (X : Nat) (f : Nat → Nat) (v : Nat) : ∀ n, mnE L X f v n = f v ∨ ∃ b, b < n ∧ okE L X v b = true ∧ mnE L X f v n = f b + L (v * 6 + b) := by
  intro n
  induction n with
  | zero => exact Or.inl rfl
  | succ n ih =>
    unfold mnE
    split
    · rename_i h
      exact Or.inr ⟨n, by omega, h.1, rfl⟩
    · rcases ih with h | ⟨b, h1, h2, h3⟩
      · exact Or.inl h
      · exact Or.inr ⟨b, by omega, h2, h3⟩
/-- least length of a walk of at most r steps -/
def dk (L : Nat → Nat) (X t : Nat) : Nat → Nat → Nat
  | 0, v => if v = t then 0 else 1048576
  | r + 1, v => mnE L X (dk L X t r) v 6
theorem dk_mono1 (L : Nat → Nat) (X t r v : Nat) : dk L X t (r + 1) v ≤ dk L X t r v := mnE_le L X _ v 6
theorem dk_mono (L : Nat → Nat) (X t v r : Nat) : ∀ k, dk L X t (r + k) v ≤ dk L X t r v := by
  intro k
  induction k with
  | zero => exact Nat.le_refl _
  | succ k ih => exact Nat.le_trans (dk_mono1 L X t (r + k) v) ih
theorem dk_le {L : Nat → Nat} {X t v r s : Nat} (h : r ≤ s) : dk L X t s v ≤ dk L X t r v := by
  have := dk_mono L X t v r (s - r)
  rwa [show r + (s - r) = s by omega] at this
theorem dk_far (L : Nat → Nat) (X t r v : Nat) : dk L X t r v ≤ 1048576 := by
  refine Nat.le_trans (dk_le (Nat.zero_le r)) ?_
  unfold dk
  split <;> omega
theorem dk_edge {L : Nat → Nat} {X t r v b : Nat} (h : okE L X v b = true) (hb : b < 6) : dk L X t (r + 1) v ≤ dk L X t r b + L (v * 6 + b) := mnE_ok h 6 hb
theorem okE_pos {L : Nat → Nat} {X a b : Nat} (h : okE L X a b = true) : 0 < L (a * 6 + b) := (okE_iff.mp h).1
/-- where a walk of r+2 places is needed there are r+2 different places -/
theorem dk_chain (L : Nat → Nat) (X t : Nat) : ∀ r v, v < 6 → dk L X t (r + 1) v < dk L X t r v → ∃ l : List Nat, l.length = r + 2 ∧ l.Nodup ∧ (∀ u ∈ l, u < 6) ∧ ∀ u ∈ l, u = v ∨ ∃ j, j ≤ r ∧ dk L X t j u < dk L X t (r + 1) v := by
  intro r
  induction r with
  | zero =>
    intro v hv h
    have h01 : dk L X t (0 + 1) v = dk L X t 1 v := rfl
    rcases mnE_cases L X (dk L X t 0) v 6 with h1 | ⟨b, hb, h2, h3⟩
    · have : dk L X t 1 v = dk L X t 0 v := h1
      omega
    · have h4 : dk L X t 1 v = dk L X t 0 b + L (v * 6 + b) := h3
      have h5 := okE_pos h2
      have h6 := dk_far L X t 0 v
      have hbt : b = t := by
        rcases Nat.decEq b t with h7 | h7
        · have : dk L X t 0 b = 1048576 := if_neg h7
          omega
        · exact h7
      have hb0 : dk L X t 0 b = 0 := if_pos hbt
      have hvb : v ≠ b := by
        intro e
        rw [e] at h h4 h5
        omega
      refine ⟨[v, b], rfl, ?_, ?_, ?_⟩
      · simp [hvb]
      · intro u hu
        simp at hu
        rcases hu with rfl | rfl <;> assumption
      · intro u hu
        simp at hu
        rcases hu with rfl | rfl
        · exact Or.inl rfl
        · exact Or.inr ⟨0, Nat.le_refl _, by omega⟩
  | succ r ih =>
    intro v hv h
    rcases mnE_cases L X (dk L X t (r + 1)) v 6 with h1 | ⟨b, hb, h2, h3⟩
    · have : dk L X t (r + 1 + 1) v = dk L X t (r + 1) v := h1
      omega
    · have h4 : dk L X t (r + 1 + 1) v = dk L X t (r + 1) b + L (v * 6 + b) := h3
      have h5 := okE_pos h2
      have h6 : dk L X t (r + 1) b < dk L X t r b := by
        have h7 := dk_edge (t := t) (r := r) h2 hb
        have h8 := dk_mono1 L X t r b
        omega
      obtain ⟨l, a1, a2, a3, a4⟩ := ih b hb h6
      have hvl : v ∉ l := by
        intro hvl
        rcases a4 v hvl with e | ⟨j, hj, h9⟩
        · rw [e] at h h4 h5
          omega
        · have := dk_le (L := L) (X := X) (t := t) (v := v) (show j ≤ r + 1 by omega)
          omega
      refine ⟨v :: l, by simp [a1], List.nodup_cons.mpr ⟨hvl, a2⟩, ?_, ?_⟩
      · intro u hu
        rcases List.mem_cons.mp hu with rfl | hu
        · exact hv
        · exact a3 u hu
      · intro u hu
        rcases List.mem_cons.mp hu with rfl | hu
        · exact Or.inl rfl
        · rcases a4 u hu with rfl | ⟨j, hj, h9⟩
          · exact Or.inr ⟨r + 1, Nat.le_refl _, by omega⟩
          · exact Or.inr ⟨j, by omega, by omega⟩
theorem nodup6 {l : List Nat} (h : l.Nodup) (h6 : ∀ u ∈ l, u < 6) : l.length ≤ 6 := by
  have := List.Nodup.length_le_of_subset (l₂ := List.range 6) h (fun u hu => List.mem_range.mpr (h6 u hu))
  simpa using this
theorem dk_stable (L : Nat → Nat) (X t v : Nat) (hv : v < 6) : dk L X t 6 v = dk L X t 5 v := by
  rcases Nat.lt_or_ge (dk L X t 6 v) (dk L X t 5 v) with h | h
  · obtain ⟨l, a1, a2, a3, _⟩ := dk_chain L X t 5 v hv h
    have := nodup6 a2 a3
    omega
  · exact Nat.le_antisymm (dk_mono1 L X t 5 v) h
theorem dk5_edge {L : Nat → Nat} {X t a b : Nat} (ha : a < 6) (hb : b < 6) (h : okE L X a b = true) : dk L X t 5 a ≤ dk L X t 5 b + L (a * 6 + b) := by
  rw [← dk_stable L X t a ha]
  exact dk_edge h hb
-- the rounds come between
theorem rlx_le (L : Nat → Nat) (X a b : Nat) (D : Nat → Nat) (v : Nat) : rlx L X a b D v ≤ D v := by
  unfold rlx
  split
  · rename_i h
    unfold updN
    split
    · rename_i e; rw [e]; omega
    · exact Nat.le_refl _
  · exact Nat.le_refl _
theorem rlx_ok {L : Nat → Nat} {X a b : Nat} {D : Nat → Nat} (h : okE L X a b = true) : rlx L X a b D a ≤ D b + L (a * 6 + b) := by
  unfold rlx
  split
  · rw [updN_same]; exact Nat.le_refl _
  · rename_i h2
    have : ¬ D b + L (a * 6 + b) < D a := fun h3 => h2 ⟨h, h3⟩
    omega
theorem msB_le (L : Nat → Nat) (X a : Nat) (D : Nat → Nat) (v : Nat) : ∀ n, msB L X a n D v ≤ D v := by
  intro n
  induction n with
  | zero => exact Nat.le_refl _
  | succ n ih => exact Nat.le_trans (rlx_le L X a n _ v) ih
theorem msB_ok {L : Nat → Nat} {X a b : Nat} {D : Nat → Nat} (h : okE L X a b = true) : ∀ n, b < n → msB L X a n D a ≤ D b + L (a * 6 + b) := by
  intro n
  induction n with
  | zero => intro h; omega
  | succ n ih =>
    intro hb
    show rlx L X a n (msB L X a n D) a ≤ _
    rcases Nat.lt_or_ge b n with h1 | h1
    · exact Nat.le_trans (rlx_le L X a n _ a) (ih h1)
    · obtain rfl : b = n := by omega
      have h2 := rlx_ok (D := msB L X a b D) h
      have h3 := msB_le L X a D b b
      omega
theorem msA_le (L : Nat → Nat) (X : Nat) (D : Nat → Nat) (v : Nat) : ∀ n, msA L X n D v ≤ D v := by
  intro n
  induction n with
  | zero => exact Nat.le_refl _
  | succ n ih => exact Nat.le_trans (msB_le L X n _ v 6) ih
theorem msA_ok {L : Nat → Nat} {X a b : Nat} {D : Nat → Nat} (h : okE L X a b = true) (hb : b < 6) : ∀ n, a < n → msA L X n D a ≤ D b + L (a * 6 + b) := by
  intro n
  induction n with
  | zero => intro h; omega
  | succ n ih =>
    intro ha
    show msB L X n 6 (msA L X n D) a ≤ _
    rcases Nat.lt_or_ge a n with h1 | h1
    · exact Nat.le_trans (msB_le L X n _ a 6) (ih h1)
    · obtain rfl : a = n := by omega
      have h2 := msB_ok (D := msA L X a D) h 6 hb
      have h3 := msA_le L X D b a
      omega
theorem msA_dk {L : Nat → Nat} {X t r : Nat} {D : Nat → Nat} (h : ∀ v, v < 6 → D v ≤ dk L X t r v) : ∀ v, v < 6 → msA L X 6 D v ≤ dk L X t (r + 1) v := by
  intro v hv
  rcases mnE_cases L X (dk L X t r) v 6 with h1 | ⟨b, hb, h2, h3⟩
  · have e : dk L X t (r + 1) v = dk L X t r v := h1
    have := msA_le L X D v 6
    have := h v hv
    omega
  · have e : dk L X t (r + 1) v = dk L X t r b + L (v * 6 + b) := h3
    have := msA_ok (D := D) h2 hb 6 hv
    have := h b hb
    omega
def lowF (F D : Nat → Nat) : Prop := ∀ v, v < 6 → F v ≤ D v
theorem rlx_low {L : Nat → Nat} {X t a b : Nat} {D : Nat → Nat} (ha : a < 6) (hb : b < 6) (h : lowF (dk L X t 5) D) : lowF (dk L X t 5) (rlx L X a b D) := by
  intro v hv
  unfold rlx
  split
  · rename_i h2
    unfold updN
    split
    · rename_i e
      rw [e]
      have := dk5_edge (t := t) ha hb h2.1
      have := h b hb
      omega
    · exact h v hv
  · exact h v hv
theorem msB_low {L : Nat → Nat} {X t a : Nat} {D : Nat → Nat} (ha : a < 6) (h : lowF (dk L X t 5) D) : ∀ n, n ≤ 6 → lowF (dk L X t 5) (msB L X a n D) := by
  intro n
  induction n with
  | zero => intro _; exact h
  | succ n ih => intro hn; exact rlx_low ha (by omega) (ih (by omega))
theorem msA_low {L : Nat → Nat} {X t : Nat} {D : Nat → Nat} (h : lowF (dk L X t 5) D) : ∀ n, n ≤ 6 → lowF (dk L X t 5) (msA L X n D) := by
  intro n
  induction n with
  | zero => intro _; exact h
  | succ n ih => intro hn; exact msB_low (by omega) (ih (by omega)) 6 (Nat.le_refl _)
theorem msR_both {L : Nat → Nat} {X t : Nat} {D : Nat → Nat} (h : ∀ v, v < 6 → D v = dk L X t 0 v) : ∀ r, (∀ v, v < 6 → msR L X r D v ≤ dk L X t r v) ∧ lowF (dk L X t 5) (msR L X r D) := by
  intro r
  induction r with
  | zero => exact ⟨fun v hv => Nat.le_of_eq (h v hv), fun v hv => by show _ ≤ D v; rw [h v hv]; exact dk_le (Nat.zero_le 5)⟩
  | succ r ih => exact ⟨msA_dk ih.1, msA_low ih.2 6 (Nat.le_refl _)⟩
theorem iniD_at (g : Nat) (D : Nat → Nat) : ∀ n v, v < n → iniD g D n v = if v = g then 0 else 1048576 := by
  intro n
  induction n with
  | zero => intro v h; omega
  | succ n ih =>
    intro v hv
    unfold iniD updN
    by_cases e : v = n
    · simp [e]
    · simp [e]; exact ih v (by omega)
theorem dmeas_dk (L : Nat → Nat) (X g : Nat) (D : Nat → Nat) (v : Nat) (hv : v < 6) : dmeas L X g D v = dk L X g 5 v := by
  have h := msR_both (L := L) (X := X) (t := g) (D := iniD g D 6) (fun v hv => by rw [iniD_at g D 6 v hv]; rfl) 6
  have h1 := h.1 v hv
  have h2 := h.2 v hv
  rw [dk_stable L X g v hv] at h1
  exact Nat.le_antisymm h1 h2
/-- what is used of the distances -/
def DPr (L : Nat → Nat) (X t : Nat) (D : Nat → Nat) : Prop := D t = 0 ∧ (∀ v, v < 6 → D v ≤ 1048576) ∧ (∀ a b, a < 6 → b < 6 → okE L X a b = true → D a ≤ D b + L (a * 6 + b)) ∧ (∀ a, a < 6 → a ≠ t → D a < 1048576 → ∃ b, b < 6 ∧ okE L X a b = true ∧ D a = D b + L (a * 6 + b)) ∧ ∀ v, v < 6 → D v < 1048576 → D v ≤ 100
theorem dk_att {L : Nat → Nat} {X t a : Nat} (hat : a ≠ t) : ∀ r, r ≤ 5 → dk L X t r a < 1048576 → ∃ b, b < 6 ∧ okE L X a b = true ∧ dk L X t 5 b + L (a * 6 + b) ≤ dk L X t r a := by
  intro r
  induction r with
  | zero =>
    intro _ h
    have : dk L X t 0 a = 1048576 := if_neg hat
    omega
  | succ r ih =>
    intro hr h
    rcases mnE_cases L X (dk L X t r) a 6 with h1 | ⟨b, hb, h2, h3⟩
    · have e : dk L X t (r + 1) a = dk L X t r a := h1
      rw [e] at h ⊢
      exact ih (by omega) h
    · have e : dk L X t (r + 1) a = dk L X t r b + L (a * 6 + b) := h3
      have := dk_le (L := L) (X := X) (t := t) (v := b) (show r ≤ 5 by omega)
      exact ⟨b, hb, h2, by omega⟩
theorem dk_small {L : Nat → Nat} (hL : ∀ i, L i ≤ 20) {X t : Nat} : ∀ r v, dk L X t r v < 1048576 → dk L X t r v ≤ 20 * r := by
  intro r
  induction r with
  | zero =>
    intro v h
    unfold dk at h ⊢
    split
    · omega
    · rename_i h2
      rw [if_neg h2] at h
      omega
  | succ r ih =>
    intro v h
    rcases mnE_cases L X (dk L X t r) v 6 with h1 | ⟨b, hb, h2, h3⟩
    · have e : dk L X t (r + 1) v = dk L X t r v := h1
      have := ih v (by omega)
      omega
    · have e : dk L X t (r + 1) v = dk L X t r b + L (v * 6 + b) := h3
      have := ih b (by omega)
      have := hL (v * 6 + b)
      omega
theorem dmeas_spec {L : Nat → Nat} (hL : ∀ i, L i ≤ 20) {X t : Nat} (ht : t < 6) (D : Nat → Nat) : DPr L X t (dmeas L X t D) := by
  refine ⟨?_, ?_, ?_, ?_, ?_⟩
  · rw [dmeas_dk L X t D t ht]
    have := dk_le (L := L) (X := X) (t := t) (v := t) (Nat.zero_le 5)
    have e : dk L X t 0 t = 0 := if_pos rfl
    omega
  · intro v hv
    rw [dmeas_dk L X t D v hv]
    exact dk_far L X t 5 v
  · intro a b ha hb h
    rw [dmeas_dk L X t D a ha, dmeas_dk L X t D b hb]
    exact dk5_edge ha hb h
  · intro a ha hat h
    rw [dmeas_dk L X t D a ha] at h
    obtain ⟨b, hb, h1, h2⟩ := dk_att hat 5 (Nat.le_refl _) h
    refine ⟨b, hb, h1, ?_⟩
    rw [dmeas_dk L X t D a ha, dmeas_dk L X t D b hb]
    exact Nat.le_antisymm (dk5_edge ha hb h1) h2
  · intro v hv h
    rw [dmeas_dk L X t D v hv] at h ⊢
    exact dk_small hL 5 v h
end
section
/-! paths, their lengths and order; the way that is taken step by step is the first of the best -/
def lenP (L : Nat → Nat) : List Nat → Nat
  | a :: b :: r => L (a * 6 + b) + lenP L (b :: r)
  | _ => 0
def vldP (L : Nat → Nat) : List Nat → Prop
  | a :: b :: r => 0 < L (a * 6 + b) ∧ vldP L (b :: r)
  | _ => True
def lexb : List Nat → List Nat → Bool
  | a :: p, b :: q => if a = b then lexb p q else decide (a < b)
  | _, _ => false
/-- a path from s to t, no place twice, none of X -/
def pthP (L : Nat → Nat) (X s t : Nat) (p : List Nat) : Prop := p.head? = some s ∧ p.getLast? = some t ∧ p.Nodup ∧ (∀ u ∈ p, u < 6 ∧ ¬ X.testBit u = true) ∧ vldP L p
theorem lenP_cons (L : Nat → Nat) (a b : Nat) (r : List Nat) : lenP L (a :: b :: r) = L (a * 6 + b) + lenP L (b :: r) := rfl
theorem vldP_cons (L : Nat → Nat) (a b : Nat) (r : List Nat) : vldP L (a :: b :: r) ↔ 0 < L (a * 6 + b) ∧ vldP L (b :: r) := Iff.rfl
theorem lexb_cons (a b : Nat) (p q : List Nat) : lexb (a :: p) (b :: q) = if a = b then lexb p q else decide (a < b) := rfl
theorem pthP_cases {L : Nat → Nat} {X s t : Nat} {p : List Nat} (h : pthP L X s t p) : (p = [t] ∧ s = t) ∨ ∃ b r, p = s :: b :: r ∧ s < 6 ∧ ¬ X.testBit s = true ∧ b < 6 ∧ ¬ X.testBit b = true ∧ 0 < L (s * 6 + b) ∧ s ∉ b :: r ∧ pthP L X b t (b :: r) := by
  obtain ⟨h1, h2, h3, h4, h5⟩ := h
  match p, h1, h2, h3, h4, h5 with
  | [a], h1, h2, _, _, _ =>
    simp at h1 h2
    exact Or.inl ⟨by rw [h2], by rw [← h1, h2]⟩
  | a :: b :: r, h1, h2, h3, h4, h5 =>
    simp at h1
    subst h1
    refine Or.inr ⟨b, r, rfl, (h4 a (by simp)).1, (h4 a (by simp)).2, (h4 b (by simp)).1, (h4 b (by simp)).2, h5.1, (List.nodup_cons.mp h3).1, rfl, ?_, (List.nodup_cons.mp h3).2, fun u hu => h4 u (List.mem_cons_of_mem _ hu), h5.2⟩
    rw [← h2, List.getLast?_cons_cons]
theorem pthP_one {L : Nat → Nat} {X t : Nat} (h : t < 6) (h2 : ¬ X.testBit t = true) : pthP L X t t [t] := ⟨rfl, rfl, by simp, by intro u hu; simp at hu; subst hu; exact ⟨h, h2⟩, trivial⟩
theorem pthP_mk {L : Nat → Nat} {X s t b : Nat} {r : List Nat} (hs : s < 6) (hX : ¬ X.testBit s = true) (hL : 0 < L (s * 6 + b)) (hn : s ∉ b :: r) (h : pthP L X b t (b :: r)) : pthP L X s t (s :: b :: r) := by
  obtain ⟨h1, h2, h3, h4, h5⟩ := h
  refine ⟨rfl, ?_, List.nodup_cons.mpr ⟨hn, h3⟩, ?_, hL, h5⟩
  · rw [← h2, List.getLast?_cons_cons]
  · intro u hu
    rcases List.mem_cons.mp hu with rfl | hu
    · exact ⟨hs, hX⟩
    · exact h4 u hu
theorem pthP_hd {L : Nat → Nat} {X s t : Nat} {p : List Nat} (h : pthP L X s t p) : ∃ r, p = s :: r := by
  rcases pthP_cases h with ⟨rfl, rfl⟩ | ⟨b, r, rfl, _⟩
  · exact ⟨_, rfl⟩
  · exact ⟨_, rfl⟩
theorem path_low {L : Nat → Nat} {X t : Nat} {D : Nat → Nat} (hD : DPr L X t D) : ∀ (q : List Nat) (v : Nat), pthP L X v t q → D v ≤ lenP L q := by
  intro q
  induction q with
  | nil => intro v h; have := h.1; simp at this
  | cons a q ih =>
    intro v h
    rcases pthP_cases h with ⟨e, rfl⟩ | ⟨b, r, e, h1, h2, h3, h4, h5, h6, h7⟩
    · rw [hD.1]; exact Nat.zero_le _
    · rw [e]
      have e2 : q = b :: r := by simp at e; exact e.2
      have h8 := ih b (by rw [e2]; exact h7)
      have h9 := hD.2.2.1 v b h1 h3 (okE_iff.mpr ⟨h5, h2, h4⟩)
      rw [e2] at h8
      rw [lenP_cons]
      omega
theorem lenP_le {L : Nat → Nat} (hL : ∀ i, L i ≤ 20) : ∀ q : List Nat, lenP L q ≤ 20 * q.length := by
  intro q
  induction q with
  | nil => exact Nat.zero_le _
  | cons a q ih =>
    match q, ih with
    | [], _ => exact Nat.zero_le _
    | b :: r, ih =>
      rw [lenP_cons]
      have := hL (a * 6 + b)
      simp only [List.length_cons] at ih ⊢
      omega
def qual (L D : Nat → Nat) (a X b : Nat) : Prop := 0 < L (a * 6 + b) ∧ ¬ X.testBit b = true ∧ D b < 1048576
theorem bNx_spec {L D : Nat → Nat} {a X : Nat} (hL : ∀ i, L i ≤ 20) (hD : ∀ v, v < 6 → D v < 1048576 → D v ≤ 100) : ∀ n, n ≤ 6 → ((bNx L D a X n) = (0, 1048576) ∧ ∀ b, b < n → ¬ qual L D a X b) ∨ ∃ b, bNx L D a X n = (b + 1, D b + L (a * 6 + b)) ∧ b < n ∧ qual L D a X b ∧ ∀ b', b' < n → qual L D a X b' → (D b + L (a * 6 + b) < D b' + L (a * 6 + b') ∨ (D b + L (a * 6 + b) = D b' + L (a * 6 + b') ∧ b ≤ b')) := by
  intro n
  induction n with
  | zero => intro _; exact Or.inl ⟨rfl, fun b h => by omega⟩
  | succ n ih =>
    intro hn
    have hLn := hL (a * 6 + n)
    unfold bNx
    rcases ih (by omega) with ⟨e, h⟩ | ⟨b, e, h1, h2, h3⟩
    · rw [e]
      by_cases hq : qual L D a X n
      · have hs := hD n (by omega) hq.2.2
        rw [if_pos ⟨hq.1, hq.2.1, hq.2.2, by dsimp only; omega⟩]
        refine Or.inr ⟨n, rfl, by omega, hq, fun b' hb' hq' => ?_⟩
        rcases Nat.lt_or_ge b' n with h4 | h4
        · exact absurd hq' (h b' h4)
        · obtain rfl : b' = n := by omega
          exact Or.inr ⟨rfl, Nat.le_refl _⟩
      · rw [if_neg (fun hh => hq ⟨hh.1, hh.2.1, hh.2.2.1⟩)]
        refine Or.inl ⟨rfl, fun b' hb' => ?_⟩
        rcases Nat.lt_or_ge b' n with h4 | h4
        · exact h b' h4
        · obtain rfl : b' = n := by omega
          exact hq
    · rw [e]
      by_cases hq : qual L D a X n ∧ D n + L (a * 6 + n) < D b + L (a * 6 + b)
      · rw [if_pos ⟨hq.1.1, hq.1.2.1, hq.1.2.2, hq.2⟩]
        refine Or.inr ⟨n, rfl, by omega, hq.1, fun b' hb' hq' => ?_⟩
        rcases Nat.lt_or_ge b' n with h4 | h4
        · have := h3 b' h4 hq'
          left; omega
        · obtain rfl : b' = n := by omega
          exact Or.inr ⟨rfl, Nat.le_refl _⟩
      · rw [if_neg (fun hh => hq ⟨⟨hh.1, hh.2.1, hh.2.2.1⟩, hh.2.2.2⟩)]
        refine Or.inr ⟨b, rfl, by omega, h2, fun b' hb' hq' => ?_⟩
        rcases Nat.lt_or_ge b' n with h4 | h4
        · exact h3 b' h4 hq'
        · obtain rfl : b' = n := by omega
          have : ¬ (D b' + L (a * 6 + b') < D b + L (a * 6 + b)) := fun h5 => hq ⟨hq', h5⟩
          rcases Nat.lt_or_ge (D b + L (a * 6 + b)) (D b' + L (a * 6 + b')) with h6 | h6
          · exact Or.inl h6
          · exact Or.inr ⟨by omega, by omega⟩
theorem bNext_spec {L D : Nat → Nat} {a X : Nat} (hL : ∀ i, L i ≤ 20) (hD : ∀ v, v < 6 → D v < 1048576 → D v ≤ 100) : (bNext L D a X = 0 ∧ ∀ b, b < 6 → ¬ qual L D a X b) ∨ ∃ b, bNext L D a X = b + 1 ∧ b < 6 ∧ qual L D a X b ∧ ∀ b', b' < 6 → qual L D a X b' → (D b + L (a * 6 + b) < D b' + L (a * 6 + b') ∨ (D b + L (a * 6 + b) = D b' + L (a * 6 + b') ∧ b ≤ b')) := by
  rcases bNx_spec (a := a) (X := X) hL hD 6 (Nat.le_refl _) with ⟨e, h⟩ | ⟨b, e, h⟩
  · exact Or.inl ⟨by unfold bNext; rw [e], h⟩
  · exact Or.inr ⟨b, by unfold bNext; rw [e], h⟩
def cntLT (D : Nat → Nat) (v : Nat) : Nat := (List.range 6).countP (fun u => decide (D u < D v))
theorem countP_slt {α : Type} {p q : α → Bool} : ∀ l : List α, (∀ x ∈ l, p x = true → q x = true) → (∃ x ∈ l, q x = true ∧ p x = false) → l.countP p < l.countP q := by
  intro l
  induction l with
  | nil => intro _ h; obtain ⟨x, hx, _⟩ := h; simp at hx
  | cons a l ih =>
    intro h1 h2
    have hle : l.countP p ≤ l.countP q := List.countP_mono_left (fun x hx => h1 x (List.mem_cons_of_mem _ hx))
    rw [List.countP_cons, List.countP_cons]
    obtain ⟨x, hx, hq, hp⟩ := h2
    rcases List.mem_cons.mp hx with rfl | hx
    · rw [hp, hq]; simp; omega
    · have := ih (fun x hx => h1 x (List.mem_cons_of_mem _ hx)) ⟨x, hx, hq, hp⟩
      have h3 := h1 a (by simp)
      by_cases hpa : p a = true
      · rw [if_pos hpa, if_pos (h3 hpa)]; omega
      · rw [if_neg hpa]; split <;> omega
theorem cntLT_lt {D : Nat → Nat} {b v : Nat} (hb : b < 6) (h : D b < D v) : cntLT D b < cntLT D v := by
  refine countP_slt _ (fun x _ hx => ?_) ⟨b, List.mem_range.mpr hb, by simp [h], by simp⟩
  simp only [decide_eq_true_eq] at hx ⊢
  omega
theorem cntLT_5 {D : Nat → Nat} {v : Nat} (hv : v < 6) : cntLT D v ≤ 5 := by
  have h1 : cntLT D v ≤ (List.range 6).length := List.countP_le_length
  simp at h1
  rcases Nat.lt_or_ge (cntLT D v) 6 with h2 | h2
  · omega
  · have h3 : cntLT D v = (List.range 6).length := by simp; omega
    have h4 := List.countP_eq_length.mp h3 v (List.mem_range.mpr hv)
    simp at h4
def wrL (P : Nat → Nat) (k : Nat) : List Nat → (Nat → Nat)
  | [] => P
  | v :: q => wrL (updN P k v) (k + 1) q
theorem wrL_out : ∀ (q : List Nat) (P : Nat → Nat) (k j : Nat), j < k ∨ k + q.length ≤ j → wrL P k q j = P j := by
  intro q
  induction q with
  | nil => intro P k j _; rfl
  | cons v q ih =>
    intro P k j h
    simp only [List.length_cons] at h
    show wrL (updN P k v) (k + 1) q j = P j
    rw [ih _ _ _ (by omega), updN_other (by omega)]
theorem wrL_in : ∀ (q : List Nat) (P : Nat → Nat) (k i : Nat), (h : i < q.length) → wrL P k q (k + i) = q[i] := by
  intro q
  induction q with
  | nil => intro P k i h; simp at h
  | cons v q ih =>
    intro P k i h
    show wrL (updN P k v) (k + 1) q (k + i) = _
    cases i with
    | zero => rw [wrL_out _ _ _ _ (by omega)]; simp [updN]
    | succ i =>
      have := ih (updN P k v) (k + 1) i (by simpa using h)
      rw [show k + (i + 1) = k + 1 + i by omega, this]
      simp
theorem grd_first (L D : Nat → Nat) (to X c : Nat) (g : Nat × (Nat → Nat) × Nat × Nat × Nat) : ∀ k, grd L D to X c g (k + 1) = grd L D to X c (gst L D to X c g) k := by
  intro k
  induction k with
  | zero => rfl
  | succ k ih =>
    show gst L D to X c (grd L D to X c g (k + 1)) = _
    rw [ih]
    rfl
theorem grd_still {L D : Nat → Nat} {to X c : Nat} {g : Nat × (Nat → Nat) × Nat × Nat × Nat} (h : g.2.2.2.2 = 0) (k : Nat) : grd L D to X c g k = g := by
  have := grd_stop (L := L) (D := D) (to := to) (X := X) (c := c) (k := 0) (g := g) h k
  rwa [Nat.zero_add] at this
/-- the way on from v, step by step -/
theorem greedy {L : Nat → Nat} (hL : ∀ i, L i ≤ 20) {X t : Nat} (ht : t < 6) {D : Nat → Nat} (hD : DPr L X t D) (c : Nat) : ∀ (k v : Nat), v < 6 → ¬ X.testBit v = true → D v < 1048576 → cntLT D v < k →
    ∃ q : List Nat, pthP L X v t q ∧ lenP L q = D v ∧ (∀ u ∈ q, D u ≤ D v) ∧ (∀ q', pthP L X v t q' → lenP L q' = D v → q' = q ∨ lexb q q' = true) ∧
      ∀ (sm : Nat) (P : Nat → Nat) (n at1 : Nat), grd L D t X c (sm, P, n, at1, v + 1) k = (sm + L (at1 * 6 + v) + lenP L q, wrL P (c * 6 + n) q, n + q.length, t, 0) := by
  intro k
  induction k with
  | zero => intro v _ _ _ h; omega
  | succ k ih =>
    intro v hv hX hfar hk
    by_cases hvt : v = t
    · subst hvt
      refine ⟨[v], pthP_one hv hX, by rw [hD.1]; rfl, by intro u hu; simp at hu; subst hu; exact Nat.le_refl _, ?_, ?_⟩
      · intro q' hq' _
        rcases pthP_cases hq' with ⟨e, _⟩ | ⟨b, r, e, _, _, _, _, _, hn, hp⟩
        · exact Or.inl e
        · exfalso
          obtain ⟨_, h2, _⟩ := hp
          exact hn (List.mem_of_getLast? h2)
      · intro sm P n at1
        rw [grd_first]
        have e : gst L D v X c (sm, P, n, at1, v + 1) = (sm + L (at1 * 6 + v), updN P (c * 6 + n) v, n + 1, v, 0) := by
          unfold gst
          rw [if_neg (by simp)]
          simp
        rw [e, grd_still rfl]
        rfl
    · obtain ⟨b0, hb0, hok, he0⟩ := hD.2.2.2.1 v hv hvt hfar
      have hok' := okE_iff.mp hok
      have hq0 : qual L D v X b0 := ⟨hok'.1, hok'.2.2, by omega⟩
      rcases bNext_spec (a := v) (X := X) hL hD.2.2.2.2 with ⟨_, h⟩ | ⟨b, eb, hb, hq, hmin⟩
      · exact absurd hq0 (h b0 hb0)
      · have h1 := hmin b0 hb0 hq0
        have h2 := hD.2.2.1 v b hv hb (okE_iff.mpr ⟨hq.1, hX, hq.2.1⟩)
        have hDv : D v = D b + L (v * 6 + b) := by omega
        have hlt : D b < D v := by have := hq.1; omega
        have hcl := cntLT_lt hb hlt
        obtain ⟨q, p1, p2, p3, p4, p5⟩ := ih b hb hq.2.1 hq.2.2 (by omega)
        obtain ⟨r, hr⟩ := pthP_hd p1
        have hvq : v ∉ q := fun hm => by have := p3 v hm; omega
        refine ⟨v :: q, ?_, ?_, ?_, ?_, ?_⟩
        · rw [hr] at p1 hvq ⊢
          exact pthP_mk hv hX hq.1 hvq p1
        · rw [hr] at p2 ⊢
          rw [lenP_cons]; omega
        · intro u hu
          rcases List.mem_cons.mp hu with rfl | hu
          · exact Nat.le_refl _
          · have := p3 u hu; omega
        · intro q' hq' hlen
          rcases pthP_cases hq' with ⟨_, e⟩ | ⟨b', r', e, _, _, hb'6, hb'X, hL', hn', hp'⟩
          · exact absurd e hvt
          · rw [e, lenP_cons] at hlen
            have hlow := path_low hD _ _ hp'
            have hDb'far : D b' < 1048576 := by omega
            have hm := hmin b' hb'6 ⟨hL', hb'X, hDb'far⟩
            have hle : lenP L (b' :: r') = D b' := by omega
            rw [e]
            by_cases hbb : b = b'
            · subst hbb
              rcases p4 _ hp' hle with h5 | h5
              · left; rw [h5]
              · right; rw [lexb_cons, if_pos rfl]; exact h5
            · right
              rw [lexb_cons, if_pos rfl, hr, lexb_cons, if_neg hbb, decide_eq_true_eq]
              omega
        · intro sm P n at1
          rw [grd_first]
          have e : gst L D t X c (sm, P, n, at1, v + 1) = (sm + L (at1 * 6 + v), updN P (c * 6 + n) v, n + 1, v, b + 1) := by
            unfold gst
            rw [if_neg (by simp)]
            simp [hvt, eb]
          rw [e, p5, hr, lenP_cons]
          simp only [List.length_cons, wrL]
          rw [show c * 6 + (n + 1) = c * 6 + n + 1 by omega, show n + 1 + (r.length + 1) = n + (r.length + 1 + 1) by omega, show sm + L (at1 * 6 + v) + L (v * 6 + b) + lenP L (b :: r) = sm + L (at1 * 6 + v) + (L (v * 6 + b) + lenP L (b :: r)) by omega]
end
section
/-! what addCandidate adds: the first way of a part of all ways -/
def way (L : Nat → Nat) (s t : Nat) (p : List Nat) : Prop := pthP L 0 s t p
def plt (L : Nat → Nat) (p q : List Nat) : Prop := lenP L p < lenP L q ∨ (lenP L p = lenP L q ∧ lexb p q = true)
/-- the ways that begin with pre and don't go on to a place of bars -/
def sub (L : Nat → Nat) (s t : Nat) (pre : List Nat) (bars : Nat) (p : List Nat) : Prop := way L s t p ∧ p.take pre.length = pre ∧ ∀ v, p[pre.length]? = some v → ¬ bars.testBit v = true
def rowP (P : Nat → Nat) (n w : Nat) : List Nat := (List.range n).map (fun k => P (w * 6 + k))
theorem rowP_len (P : Nat → Nat) (n w : Nat) : (rowP P n w).length = n := by simp [rowP]
theorem rowP_succ (P : Nat → Nat) (n w : Nat) : rowP P (n + 1) w = rowP P n w ++ [P (w * 6 + n)] := by simp [rowP, List.range_succ]
theorem rowP_get (P : Nat → Nat) (n w i : Nat) (h : i < n) : (rowP P n w)[i]? = some (P (w * 6 + i)) := by simp [rowP, h]
theorem rowP_take (P : Nat → Nat) (n m w : Nat) (h : m ≤ n) : (rowP P n w).take m = rowP P m w := by
  apply List.ext_getElem?
  intro i
  rw [List.getElem?_take]
  by_cases hi : i < m
  · rw [if_pos hi, rowP_get _ _ _ _ (by omega), rowP_get _ _ _ _ hi]
  · rw [if_neg hi, List.getElem?_eq_none (by rw [rowP_len]; omega)]
theorem rowP_of {P : Nat → Nat} {w : Nat} {c : List Nat} (h : ∀ k (hk : k < c.length), P (w * 6 + k) = c[k]) {n : Nat} (hn : n ≤ c.length) : rowP P n w = c.take n := by
  apply List.ext_getElem?
  intro i
  rw [List.getElem?_take]
  by_cases hi : i < n
  · rw [if_pos hi, rowP_get _ _ _ _ hi, h i (by omega), List.getElem?_eq_getElem (by omega)]
  · rw [if_neg hi, List.getElem?_eq_none (by rw [rowP_len]; omega)]
theorem rowP_cong {P Q : Nat → Nat} {n w : Nat} (h : ∀ k, k < n → P (w * 6 + k) = Q (w * 6 + k)) : rowP P n w = rowP Q n w := by
  apply List.ext_getElem?
  intro i
  by_cases hi : i < n
  · rw [rowP_get _ _ _ _ hi, rowP_get _ _ _ _ hi, h i hi]
  · rw [List.getElem?_eq_none (by rw [rowP_len]; omega), List.getElem?_eq_none (by rw [rowP_len]; omega)]
theorem bef_bit (P : Nat → Nat) (w u : Nat) : ∀ k, (bef P w k).testBit u = true ↔ u ∈ rowP P k w := by
  intro k
  induction k with
  | zero => simp [bef, rowP]
  | succ k ih =>
    rw [rowP_succ, bef, Nat.one_mul, fb_bit_set, Bool.or_eq_true, ih, decide_eq_true_eq, List.mem_append, List.mem_singleton]
theorem lenP_app (L : Nat → Nat) : ∀ (l : List Nat) (a b : Nat) (r : List Nat), l.getLast? = some a → lenP L (l ++ b :: r) = lenP L l + L (a * 6 + b) + lenP L (b :: r) := by
  intro l
  induction l with
  | nil => intro a b r h; simp at h
  | cons x l ih =>
    intro a b r h
    match l, ih, h with
    | [], _, h =>
      simp at h
      subst h
      show L (x * 6 + b) + lenP L (b :: r) = 0 + L (x * 6 + b) + lenP L (b :: r)
      omega
    | y :: l, ih, h =>
      rw [List.getLast?_cons_cons] at h
      have := ih a b r h
      show L (x * 6 + y) + lenP L (y :: l ++ b :: r) = L (x * 6 + y) + lenP L (y :: l) + L (a * 6 + b) + lenP L (b :: r)
      rw [this]
      omega
theorem vldP_app (L : Nat → Nat) : ∀ (l : List Nat) (a b : Nat) (r : List Nat), l.getLast? = some a → (vldP L (l ++ b :: r) ↔ vldP L l ∧ 0 < L (a * 6 + b) ∧ vldP L (b :: r)) := by
  intro l
  induction l with
  | nil => intro a b r h; simp at h
  | cons x l ih =>
    intro a b r h
    match l, ih, h with
    | [], _, h =>
      simp at h
      subst h
      show 0 < L (x * 6 + b) ∧ vldP L (b :: r) ↔ True ∧ 0 < L (x * 6 + b) ∧ vldP L (b :: r)
      simp
    | y :: l, ih, h =>
      rw [List.getLast?_cons_cons] at h
      have := ih a b r h
      show 0 < L (x * 6 + y) ∧ vldP L (y :: l ++ b :: r) ↔ (0 < L (x * 6 + y) ∧ vldP L (y :: l)) ∧ 0 < L (a * 6 + b) ∧ vldP L (b :: r)
      rw [this]
      simp only [and_assoc]
theorem lexb_app : ∀ (l p q : List Nat), lexb (l ++ p) (l ++ q) = lexb p q := by
  intro l
  induction l with
  | nil => intro p q; rfl
  | cons x l ih =>
    intro p q
    show lexb (x :: (l ++ p)) (x :: (l ++ q)) = _
    rw [lexb_cons, if_pos rfl, ih]
theorem cpyR_spec (L : Nat → Nat) (w c : Nat) (P : Nat → Nat) : ∀ k, k ≤ 6 → (∀ j, (cpyR L w c P k).1 j = if c * 6 ≤ j ∧ j < c * 6 + k then P (w * 6 + (j - c * 6)) else P j) ∧ (cpyR L w c P k).2 = lenP L (rowP P k w) := by
  intro k
  induction k with
  | zero => intro _; exact ⟨fun j => by rw [if_neg (by omega)]; rfl, rfl⟩
  | succ k ih =>
    intro hk
    obtain ⟨h1, h2⟩ := ih (by omega)
    have hw : ∀ k', k' < 6 → (cpyR L w c P k).1 (w * 6 + k') = P (w * 6 + k') := by
      intro k' hk'
      rw [h1]
      split
      · rename_i h
        have : w = c := by omega
        rw [this, Nat.add_sub_cancel_left]
      · rfl
    have hnew : ∀ j, (updN (cpyR L w c P k).1 (c * 6 + k) ((cpyR L w c P k).1 (w * 6 + k))) j = if c * 6 ≤ j ∧ j < c * 6 + (k + 1) then P (w * 6 + (j - c * 6)) else P j := by
      intro j
      rw [hw k (by omega)]
      unfold updN
      by_cases hj : j = c * 6 + k
      · rw [if_pos hj, if_pos (by omega), hj, Nat.add_sub_cancel_left]
      · rw [if_neg hj, h1]
        by_cases h3 : c * 6 ≤ j ∧ j < c * 6 + k
        · rw [if_pos h3, if_pos (by omega)]
        · rw [if_neg h3, if_neg (by omega)]
    have hw2 : ∀ k', k' < 6 → (updN (cpyR L w c P k).1 (c * 6 + k) ((cpyR L w c P k).1 (w * 6 + k))) (w * 6 + k') = P (w * 6 + k') := by
      intro k' hk'
      rw [hnew]
      split
      · rename_i h
        have : w = c := by omega
        rw [this, Nat.add_sub_cancel_left]
      · rfl
    refine ⟨hnew, ?_⟩
    show (cpyR L w c P k).2 + (if 0 < k then L ((updN (cpyR L w c P k).1 (c * 6 + k) ((cpyR L w c P k).1 (w * 6 + k))) (w * 6 + k - 1) * 6 + (updN (cpyR L w c P k).1 (c * 6 + k) ((cpyR L w c P k).1 (w * 6 + k))) (w * 6 + k)) else 0) = _
    rw [h2, hw2 k (by omega), rowP_succ]
    cases k with
    | zero => rfl
    | succ k =>
      rw [if_pos (by omega), show w * 6 + (k + 1) - 1 = w * 6 + k by omega, hw2 k (by omega), rowP_succ P k w]
      have hlast : (rowP P k w ++ [P (w * 6 + k)]).getLast? = some (P (w * 6 + k)) := by simp
      rw [lenP_app L _ _ (P (w * 6 + (k + 1))) [] hlast]
      rfl
/-- p begins with pre: p = pre ++ a path of its own from the next place on -/
theorem sub_split {L : Nat → Nat} {s t : Nat} {pre p : List Nat} {bars X a : Nat} (hX : ∀ u, X.testBit u = true ↔ u ∈ pre) (ht : t ∉ pre) (ha : pre.getLast? = some a) (h : sub L s t pre bars p) : ∃ b r, p = pre ++ b :: r ∧ pthP L X b t (b :: r) ∧ 0 < L (a * 6 + b) ∧ ¬ bars.testBit b = true ∧ b < 6 ∧ b ∉ pre := by
  obtain ⟨⟨h1, h2, h3, h4, h5⟩, h6, h7⟩ := h
  have hp : p = pre ++ p.drop pre.length := by
    have := List.take_append_drop pre.length p
    rw [h6] at this
    exact this.symm
  cases hd : p.drop pre.length with
  | nil =>
    exfalso
    rw [hd, List.append_nil] at hp
    rw [hp] at h2
    exact ht (List.mem_of_getLast? h2)
  | cons b r =>
    rw [hd] at hp
    have hb : p[pre.length]? = some b := by rw [hp, List.getElem?_append_right (Nat.le_refl _)]; simp
    rw [hp] at h3 h4 h5 h2
    have hv := (vldP_app L pre a b r ha).mp h5
    have hnd := List.nodup_append.mp h3
    refine ⟨b, r, hp, ⟨rfl, ?_, hnd.2.1, ?_, hv.2.2⟩, hv.2.1, h7 b hb, (h4 b (by simp)).1, ?_⟩
    · rw [List.getLast?_append] at h2
      cases hg : (b :: r).getLast? with
      | none => simp at hg
      | some z => rw [hg] at h2; simpa using h2
    · intro u hu
      refine ⟨(h4 u (List.mem_append_right _ hu)).1, fun hb => ?_⟩
      exact hnd.2.2 u ((hX u).mp hb) u hu rfl
    · intro hm
      exact hnd.2.2 b hm b (by simp) rfl
theorem way_len6 {L : Nat → Nat} {X s t : Nat} {p : List Nat} (h : pthP L X s t p) : p.length ≤ 6 := nodup6 h.2.2.1 (fun u hu => (h.2.2.2.1 u hu).1)
theorem addC_spec {L : Nat → Nat} (hL : ∀ i, L i ≤ 20) {s t : Nat} (ht6 : t < 6) {P S W A B R D : Nat → Nat} {w wc i bars : Nat} (hi : i + 1 ≤ 6)
    (hPlt : ∀ j, P j < 6) (hhd : (rowP P (i + 1) w).head? = some s) (hnd : (rowP P (i + 1) w).Nodup) (hvl : vldP L (rowP P (i + 1) w)) (htn : t ∉ rowP P (i + 1) w) :
    (bNext L (dmeas L (bef P w (i + 1)) t D) (P (w * 6 + i)) (bef P w (i + 1) ||| bars) = 0 ∧ (∀ p, ¬ sub L s t (rowP P (i + 1) w) bars p) ∧ addC L t wc P S W A B R D w i bars = (P, S, W, A, B, R, wc, dmeas L (bef P w (i + 1)) t D)) ∨
    (¬ bNext L (dmeas L (bef P w (i + 1)) t D) (P (w * 6 + i)) (bef P w (i + 1) ||| bars) = 0 ∧ ∃ (c : List Nat) (P' : Nat → Nat), sub L s t (rowP P (i + 1) w) bars c ∧ (∀ p, sub L s t (rowP P (i + 1) w) bars p → p = c ∨ plt L c p) ∧ addC L t wc P S W A B R D w i bars = (P', updN S wc c.length, updN W wc (lenP L c), updN A wc i, updN B wc bars, updN R wc 0, wc + 1, dmeas L (bef P w (i + 1)) t D) ∧ (∀ k (h : k < c.length), P' (wc * 6 + k) = c[k]) ∧ (∀ j, j < wc * 6 → P' j = P j) ∧ (∀ j, P' j < 6) ∧ i + 1 < c.length) := by
  have hX : ∀ u, (bef P w (i + 1)).testBit u = true ↔ u ∈ rowP P (i + 1) w := fun u => bef_bit P w u (i + 1)
  have hlast : (rowP P (i + 1) w).getLast? = some (P (w * 6 + i)) := by rw [rowP_succ]; simp
  have hDP := dmeas_spec hL (X := bef P w (i + 1)) ht6 D
  have hlen : (rowP P (i + 1) w).length = i + 1 := rowP_len P (i + 1) w
  have hmem6 : ∀ u ∈ rowP P (i + 1) w, u < 6 := by
    intro u hu
    obtain ⟨k, _, rfl⟩ := List.mem_map.mp hu
    exact hPlt _
  generalize hX0 : bef P w (i + 1) = X at *
  generalize hD0 : dmeas L X t D = D1 at *
  generalize hpre : rowP P (i + 1) w = pre at *
  -- every way of the part can begin with the first step
  have hopen : ∀ p, sub L s t pre bars p → ∃ b r, p = pre ++ b :: r ∧ pthP L X b t (b :: r) ∧ b < 6 ∧ qual L D1 (P (w * 6 + i)) (X ||| bars) b ∧ lenP L p = lenP L pre + L (P (w * 6 + i) * 6 + b) + lenP L (b :: r) ∧ D1 b ≤ lenP L (b :: r) := by
    intro p hp
    obtain ⟨b, r, e, h1, h2, h3, h4, h5⟩ := sub_split hX htn hlast hp
    have hlow := path_low hDP _ _ h1
    have hl6 := way_len6 h1
    have hl := lenP_le hL (b :: r)
    refine ⟨b, r, e, h1, h4, ⟨h2, ?_, by omega⟩, by rw [e]; exact lenP_app L pre _ b r hlast, hlow⟩
    rw [Nat.testBit_or, Bool.or_eq_true]
    rintro (h | h)
    · exact h5 ((hX b).mp h)
    · exact h3 h
  rcases bNext_spec (a := P (w * 6 + i)) (X := X ||| bars) hL hDP.2.2.2.2 with ⟨e0, hno⟩ | ⟨b, eb, hb6, hq, hmin⟩
  · left
    refine ⟨e0, fun p hp => ?_, ?_⟩
    · obtain ⟨b, r, _, _, h4, h5, _⟩ := hopen p hp
      exact hno b h4 h5
    · unfold addC
      rw [hX0, hD0, if_pos e0]
  · right
    refine ⟨by omega, ?_⟩
    have hqX : ¬ X.testBit b = true ∧ ¬ bars.testBit b = true := by
      have := hq.2.1
      rw [Nat.testBit_or, Bool.or_eq_true] at this
      exact ⟨fun h => this (Or.inl h), fun h => this (Or.inr h)⟩
    obtain ⟨q, p1, p2, p3, p4, p5⟩ := greedy hL ht6 hDP wc 6 b hb6 hqX.1 hq.2.2 (by have := cntLT_5 (D := D1) hb6; omega)
    obtain ⟨r, hr⟩ := pthP_hd p1
    have hcp := cpyR_spec L w wc P (i + 1) (by omega)
    have hway : way L s t (pre ++ q) := by
      obtain ⟨g1, g2, g3, g4, g5⟩ := p1
      refine ⟨?_, ?_, ?_, ?_, ?_⟩
      · rw [List.head?_append, hhd]; rfl
      · rw [List.getLast?_append, g2]; rfl
      · refine List.nodup_append.mpr ⟨hnd, g3, fun a ha b' hb' e => ?_⟩
        subst e
        exact (g4 a hb').2 ((hX a).mpr ha)
      · intro u hu
        rcases List.mem_append.mp hu with h | h
        · exact ⟨hmem6 u h, by simp⟩
        · exact ⟨(g4 u h).1, by simp⟩
      · rw [hr] at g5 ⊢
        exact (vldP_app L pre _ b r hlast).mpr ⟨hvl, hq.1, g5⟩
    have hlenc : lenP L (pre ++ q) = lenP L pre + L (P (w * 6 + i) * 6 + b) + D1 b := by
      rw [hr] at p2 ⊢
      rw [lenP_app L pre _ b r hlast, p2]
    refine ⟨pre ++ q, wrL (cpyR L w wc P (i + 1)).1 (wc * 6 + (i + 1)) q, ⟨hway, ?_, ?_⟩, ?_, ?_, ?_, ?_, ?_, ?_⟩
    · simp
    · intro v hv
      rw [List.getElem?_append_right (Nat.le_refl _), Nat.sub_self, hr] at hv
      simp at hv
      subst hv
      exact hqX.2
    · intro p hp
      obtain ⟨b', r', e, h1, h4, h5, h6, h7⟩ := hopen p hp
      have hm := hmin b' h4 h5
      rcases Nat.lt_or_ge (lenP L (pre ++ q)) (lenP L p) with h8 | h8
      · exact Or.inr (Or.inl h8)
      · have heq : lenP L (pre ++ q) = lenP L p := by omega
        have hle : lenP L (b' :: r') = D1 b' := by omega
        by_cases hbb : b = b'
        · subst hbb
          rcases p4 _ h1 hle with h9 | h9
          · left; rw [e, h9]
          · right; right; exact ⟨heq, by rw [e, lexb_app]; exact h9⟩
        · right; right
          refine ⟨heq, ?_⟩
          rw [e, lexb_app, hr, lexb_cons, if_neg hbb, decide_eq_true_eq]
          omega
    · unfold addC
      rw [hX0, hD0, if_neg (by omega), eb, p5]
      have e1 : (cpyR L w wc P (i + 1)).2 + L (P (w * 6 + i) * 6 + b) + lenP L q = lenP L (pre ++ q) := by
        rw [hlenc, hcp.2, hpre, p2]
      rw [e1]
      have e2 : i + 1 + q.length = (pre ++ q).length := by rw [List.length_append, hlen]
      rw [e2]
    · intro k hk
      by_cases hki : k < i + 1
      · rw [wrL_out _ _ _ _ (by omega), hcp.1, if_pos (by omega), List.getElem_append_left (by omega)]
        have := rowP_get P (i + 1) w k hki
        rw [hpre, List.getElem?_eq_getElem (by omega)] at this
        rw [Nat.add_sub_cancel_left]
        exact (Option.some.inj this).symm
      · rw [List.length_append, hlen] at hk
        rw [show wc * 6 + k = wc * 6 + (i + 1) + (k - (i + 1)) by omega, wrL_in q _ _ (k - (i + 1)) (by omega), List.getElem_append_right (by omega)]
        simp only [hlen]
    · intro j hj
      rw [wrL_out _ _ _ _ (by omega), hcp.1, if_neg (by omega)]
    · intro j
      by_cases hj : wc * 6 + (i + 1) ≤ j ∧ j < wc * 6 + (i + 1) + q.length
      · have := wrL_in q (cpyR L w wc P (i + 1)).1 (wc * 6 + (i + 1)) (j - (wc * 6 + (i + 1))) (by omega)
        rw [show wc * 6 + (i + 1) + (j - (wc * 6 + (i + 1))) = j by omega] at this
        rw [this]
        exact (p1.2.2.2.1 _ (List.getElem_mem _)).1
      · rw [wrL_out _ _ _ _ (by omega), hcp.1]
        split <;> exact hPlt _
    · rw [List.length_append, hlen, hr]
      simp
end
section
/-! the codes of the lists of different places between s and t; there are 65 -/
set_option maxRecDepth 100000
def mids : Nat → Nat → List Nat
  | _, 0 => []
  | r, k + 1 => if r % 7 < 6 then r % 7 :: mids (r / 7) k else []
def okS (u : Nat) : Nat → Nat → Bool → Bool
  | _, 0, _ => true
  | r, k + 1, e => if r % 7 < 6 then !e && !u.testBit (r % 7) && okS (u ||| 1 * 2 ^ (r % 7)) (r / 7) k e else okS u (r / 7) k true
def okC (s t c : Nat) : Bool := okS (1 * 2 ^ s ||| 1 * 2 ^ t) c 4 false
def codeP (s t c : Nat) : List Nat := s :: (mids c 4 ++ [t])
def encM : Nat → List Nat → Nat
  | 0, _ => 0
  | k + 1, [] => 6 + 7 * encM k []
  | k + 1, v :: r => v + 7 * encM k r
theorem encM_lt : ∀ (k : Nat) (m : List Nat), (∀ v ∈ m, v < 6) → encM k m < 7 ^ k := by
  intro k
  induction k with
  | zero => intro m _; exact Nat.one_pos
  | succ k ih =>
    intro m h
    rw [Nat.pow_succ]
    cases m with
    | nil =>
      have := ih [] (by simp)
      show 6 + 7 * encM k [] < _
      omega
    | cons v r =>
      have := ih r (fun u hu => h u (List.mem_cons_of_mem _ hu))
      have := h v (by simp)
      show v + 7 * encM k r < _
      omega
theorem mids_enc : ∀ (k : Nat) (m : List Nat), m.length ≤ k → (∀ v ∈ m, v < 6) → mids (encM k m) k = m := by
  intro k
  induction k with
  | zero =>
    intro m h _
    cases m with
    | nil => rfl
    | cons v r => simp at h
  | succ k ih =>
    intro m h h6
    cases m with
    | nil =>
      show (if (6 + 7 * encM k []) % 7 < 6 then _ else []) = []
      rw [if_neg (by omega)]
    | cons v r =>
      have hv := h6 v (by simp)
      show (if (v + 7 * encM k r) % 7 < 6 then (v + 7 * encM k r) % 7 :: mids ((v + 7 * encM k r) / 7) k else []) = _
      rw [show (v + 7 * encM k r) % 7 = v by omega, show (v + 7 * encM k r) / 7 = encM k r by omega, if_pos hv, ih r (by simp at h; omega) (fun u hu => h6 u (List.mem_cons_of_mem _ hu))]
theorem okS_nil : ∀ (k u : Nat) (e : Bool), okS u (encM k []) k e = true := by
  intro k
  induction k with
  | zero => intro u e; rfl
  | succ k ih =>
    intro u e
    show (if (6 + 7 * encM k []) % 7 < 6 then _ else okS u ((6 + 7 * encM k []) / 7) k true) = true
    rw [if_neg (by omega), show (6 + 7 * encM k []) / 7 = encM k [] by omega]
    exact ih u true
theorem okS_enc : ∀ (k : Nat) (m : List Nat) (u : Nat), m.length ≤ k → (∀ v ∈ m, v < 6 ∧ ¬ u.testBit v = true) → m.Nodup → okS u (encM k m) k false = true := by
  intro k
  induction k with
  | zero => intro m u _ _ _; rfl
  | succ k ih =>
    intro m u h h6 hn
    cases m with
    | nil => exact okS_nil (k + 1) u false
    | cons v r =>
      have hv := h6 v (by simp)
      have hn' := List.nodup_cons.mp hn
      show (if (v + 7 * encM k r) % 7 < 6 then !false && !u.testBit ((v + 7 * encM k r) % 7) && okS (u ||| 1 * 2 ^ ((v + 7 * encM k r) % 7)) ((v + 7 * encM k r) / 7) k false else _) = true
      rw [show (v + 7 * encM k r) % 7 = v by omega, show (v + 7 * encM k r) / 7 = encM k r by omega, if_pos hv.1]
      have h2 := ih r (u ||| 1 * 2 ^ v) (by simp at h; omega) (fun x hx => by
        refine ⟨(h6 x (List.mem_cons_of_mem _ hx)).1, ?_⟩
        rw [Nat.one_mul, fb_bit_set, Bool.or_eq_true, decide_eq_true_eq]
        rintro (h3 | h3)
        · exact (h6 x (List.mem_cons_of_mem _ hx)).2 h3
        · subst h3; exact hn'.1 hx) hn'.2
      rw [h2]
      simp [hv.2]
/-- what an accepted code says -/
theorem okS_ended : ∀ (k r u : Nat), r < 7 ^ k → okS u r k true = true → r = encM k [] := by
  intro k
  induction k with
  | zero => intro r u h _; simp at h; subst h; rfl
  | succ k ih =>
    intro r u h h2
    rw [Nat.pow_succ] at h
    unfold okS at h2
    split at h2
    · simp at h2
    · rename_i h3
      have := ih (r / 7) u (by omega) h2
      show r = 6 + 7 * encM k []
      omega
theorem okS_spec : ∀ (k r u : Nat), r < 7 ^ k → okS u r k false = true → encM k (mids r k) = r ∧ (mids r k).Nodup ∧ (mids r k).length ≤ k ∧ ∀ v ∈ mids r k, v < 6 ∧ ¬ u.testBit v = true := by
  intro k
  induction k with
  | zero => intro r u h _; simp at h; subst h; exact ⟨rfl, List.nodup_nil, Nat.le_refl _, by simp [mids]⟩
  | succ k ih =>
    intro r u h h2
    rw [Nat.pow_succ] at h
    unfold okS at h2
    unfold mids
    split at h2
    · rename_i h3
      rw [if_pos h3]
      simp only [Bool.not_false, Bool.true_and, Bool.and_eq_true, Bool.not_eq_true'] at h2
      obtain ⟨g1, g2, g3, g4⟩ := ih (r / 7) _ (by omega) h2.2
      refine ⟨?_, List.nodup_cons.mpr ⟨fun hm => ?_, g2⟩, by simp; omega, ?_⟩
      · show r % 7 + 7 * encM k (mids (r / 7) k) = r
        rw [g1]; omega
      · have := (g4 _ hm).2
        rw [Nat.one_mul, fb_bit_set, Bool.or_eq_true, decide_eq_true_eq] at this
        exact this (Or.inr rfl)
      · intro v hv
        rcases List.mem_cons.mp hv with rfl | hv
        · exact ⟨h3, by rw [h2.1]; simp⟩
        · refine ⟨(g4 v hv).1, fun hb => (g4 v hv).2 ?_⟩
          rw [Nat.one_mul, fb_bit_set, Bool.or_eq_true]
          exact Or.inl hb
    · rename_i h3
      rw [if_neg h3]
      have := okS_ended k (r / 7) u (by omega) h2
      refine ⟨?_, List.nodup_nil, Nat.zero_le _, by simp⟩
      show 6 + 7 * encM k [] = r
      omega
theorem st_bit (s t v : Nat) : (1 * 2 ^ s ||| 1 * 2 ^ t).testBit v = true ↔ v = s ∨ v = t := by
  rw [Nat.one_mul, Nat.one_mul, fb_bit_set, Bool.or_eq_true, decide_eq_true_eq, Nat.testBit_two_pow, decide_eq_true_eq]
  constructor
  · rintro (h | h)
    · exact Or.inl h.symm
    · exact Or.inr h
  · rintro (h | h)
    · exact Or.inl h.symm
    · exact Or.inr h
def simC (s t : Nat) : List Nat := (List.range 2401).filter (okC s t)
theorem simC_len : ∀ s, s < 6 → ∀ t, t < 6 → s ≠ t → (simC s t).length = 65 := by decide +kernel
theorem codeP_inj {s t c c' : Nat} (h1 : c < 2401) (h2 : c' < 2401) (k1 : okC s t c = true) (k2 : okC s t c' = true) (e : codeP s t c = codeP s t c') : c = c' := by
  unfold codeP at e
  have e2 : mids c 4 = mids c' 4 := by simpa using e
  have g1 := (okS_spec 4 c _ (by omega) k1).1
  have g2 := (okS_spec 4 c' _ (by omega) k2).1
  rw [← g1, ← g2, e2]
/-- a list of different places from s to t has its code -/
theorem way_code {L : Nat → Nat} {s t : Nat} {p : List Nat} (hst : s ≠ t) (h : way L s t p) : ∃ c, c < 2401 ∧ okC s t c = true ∧ codeP s t c = p := by
  obtain ⟨h1, h2, h3, h4, h5⟩ := h
  match p, h1, h2, h3, h4, h5 with
  | [a], h1, h2, _, _, _ => simp at h1 h2; exact absurd (h1.symm.trans h2) hst
  | a :: b :: r, h1, h2, h3, h4, h5 =>
    simp at h1
    subst h1
    rw [List.getLast?_cons_cons] at h2
    have hne : b :: r ≠ [] := by simp
    have hl : (b :: r).getLast hne = t := by
      have := List.getLast?_eq_some_getLast hne
      rw [this] at h2
      exact Option.some.inj h2
    obtain ⟨m, hm⟩ : ∃ m, m = (b :: r).dropLast := ⟨_, rfl⟩
    have hbr : b :: r = m ++ [t] := by
      rw [hm, ← hl]
      exact (List.dropLast_concat_getLast hne).symm
    rw [hbr] at h3 h4 ⊢
    have hlen := nodup6 h3 (fun u hu => (h4 u hu).1)
    simp only [List.length_cons, List.length_append, List.length_nil] at hlen
    have hn := List.nodup_cons.mp h3
    have hn2 := List.nodup_append.mp hn.2
    have h6 : ∀ v ∈ m, v < 6 ∧ ¬ (1 * 2 ^ a ||| 1 * 2 ^ t).testBit v = true := by
      intro v hv
      refine ⟨(h4 v (by simp [hv])).1, fun hb => ?_⟩
      rcases (st_bit a t v).mp hb with rfl | rfl
      · exact hn.1 (List.mem_append_left _ hv)
      · exact hn2.2.2 v hv v (by simp) rfl
    refine ⟨encM 4 m, encM_lt 4 m (fun v hv => (h6 v hv).1), okS_enc 4 m _ (by omega) h6 hn2.1, ?_⟩
    unfold codeP
    rw [mids_enc 4 m (by omega) (fun v hv => (h6 v hv).1)]
theorem way_in {L : Nat → Nat} {s t : Nat} {p : List Nat} (hst : s ≠ t) (h : way L s t p) : p ∈ (simC s t).map (codeP s t) := by
  obtain ⟨c, h1, h2, h3⟩ := way_code hst h
  exact List.mem_map.mpr ⟨c, List.mem_filter.mpr ⟨List.mem_range.mpr h1, h2⟩, h3⟩
/-- different ways are at most 65 -/
theorem ways_65 {L : Nat → Nat} {s t : Nat} (hs : s < 6) (ht : t < 6) (hst : s ≠ t) {l : List (List Nat)} (hn : l.Nodup) (h : ∀ p ∈ l, way L s t p) : l.length ≤ 65 := by
  have := List.Nodup.length_le_of_subset (l₂ := (simC s t).map (codeP s t)) hn (fun p hp => way_in hst (h p hp))
  rw [List.length_map, simC_len s hs t ht hst] at this
  exact this
end
section
/-! the order of ways; the ranking's invariant, over any shares of the ways -/
theorem lexb_irrefl : ∀ p : List Nat, lexb p p = false := by
  intro p
  induction p with
  | nil => rfl
  | cons a p ih => rw [lexb_cons, if_pos rfl, ih]
theorem lexb_trans : ∀ p q r : List Nat, lexb p q = true → lexb q r = true → lexb p r = true := by
  intro p
  induction p with
  | nil => intro q r h _; cases q <;> simp [lexb] at h
  | cons a p ih =>
    intro q r h1 h2
    cases q with
    | nil => simp [lexb] at h1
    | cons b q =>
      cases r with
      | nil => simp [lexb] at h2
      | cons c r =>
        rw [lexb_cons] at h1 h2 ⊢
        by_cases hab : a = b
        · subst hab
          rw [if_pos rfl] at h1
          by_cases hac : a = c
          · subst hac
            rw [if_pos rfl] at h2 ⊢
            exact ih q r h1 h2
          · rw [if_neg hac] at h2 ⊢
            exact h2
        · rw [if_neg hab, decide_eq_true_eq] at h1
          by_cases hbc : b = c
          · subst hbc
            rw [if_neg hab, decide_eq_true_eq]
            exact h1
          · rw [if_neg hbc, decide_eq_true_eq] at h2
            rw [if_neg (by omega), decide_eq_true_eq]
            omega
theorem pthP_tt {L : Nat → Nat} {X t : Nat} {p : List Nat} (h : pthP L X t t p) : p = [t] := by
  rcases pthP_cases h with ⟨e, _⟩ | ⟨b, r, e, _, _, _, _, _, hn, hp⟩
  · exact e
  · exact absurd (List.mem_of_getLast? hp.2.1) hn
theorem lexb_total {L : Nat → Nat} {X t : Nat} : ∀ (p q : List Nat) (v : Nat), pthP L X v t p → pthP L X v t q → p ≠ q → lexb p q = true ∨ lexb q p = true := by
  intro p
  induction p with
  | nil => intro q v h; have := h.1; simp at this
  | cons a p ih =>
    intro q v h1 h2 hne
    rcases pthP_cases h1 with ⟨e, rfl⟩ | ⟨b, r, e, _, _, _, _, _, _, hp⟩
    · exact absurd (e.trans (pthP_tt h2).symm) hne
    · rcases pthP_cases h2 with ⟨e', rfl⟩ | ⟨b', r', e', _, _, _, _, _, _, hq⟩
      · exact absurd ((pthP_tt h1).trans e'.symm) hne
      · rw [e'] at hne ⊢
        have ea : a = v := by simp at e; exact e.1
        have ep : p = b :: r := by simp at e; exact e.2
        rw [ea, lexb_cons, if_pos rfl, lexb_cons, if_pos rfl, ep]
        by_cases hbb : b = b'
        · subst hbb
          have := ih (b :: r') b (by rw [ep]; exact hp) hq (fun hh => hne (by rw [ea, hh]))
          rw [ep] at this
          exact this
        · rw [lexb_cons, if_neg hbb, lexb_cons, if_neg (fun h => hbb h.symm), decide_eq_true_eq, decide_eq_true_eq]
          omega
theorem plt_irrefl {L : Nat → Nat} {p : List Nat} : ¬ plt L p p := by
  rintro (h | ⟨_, h⟩)
  · omega
  · rw [lexb_irrefl] at h; cases h
theorem plt_trans {L : Nat → Nat} {p q r : List Nat} (h1 : plt L p q) (h2 : plt L q r) : plt L p r := by
  rcases h1 with h1 | ⟨h1, g1⟩ <;> rcases h2 with h2 | ⟨h2, g2⟩
  · left; omega
  · left; omega
  · left; omega
  · right; exact ⟨h1.trans h2, lexb_trans _ _ _ g1 g2⟩
theorem plt_total {L : Nat → Nat} {s t : Nat} {p q : List Nat} (h1 : way L s t p) (h2 : way L s t q) (hne : p ≠ q) : plt L p q ∨ plt L q p := by
  rcases Nat.lt_or_ge (lenP L p) (lenP L q) with h | h
  · exact Or.inl (Or.inl h)
  · rcases Nat.lt_or_ge (lenP L q) (lenP L p) with h3 | h3
    · exact Or.inr (Or.inl h3)
    · have e : lenP L p = lenP L q := by omega
      rcases lexb_total p q s h1 h2 hne with g | g
      · exact Or.inl (Or.inr ⟨e, g⟩)
      · exact Or.inr (Or.inr ⟨e.symm, g⟩)
theorem plt_asymm {L : Nat → Nat} {p q : List Nat} (h1 : plt L p q) (h2 : plt L q p) : False := plt_irrefl (plt_trans h1 h2)
/-- the invariant: every way is a ranked one, or in the share of just one candidate, or still to be dealt with (Pd) -/
def LI (L : Nat → Nat) (s t wc rc : Nat) (pth : Nat → List Nat) (own : Nat → List Nat → Prop) (R RW : Nat → Nat) (Pd : List Nat → Prop) : Prop :=
  (∀ w, w < wc → own w (pth w)) ∧
  (∀ w p, w < wc → own w p → way L s t p ∧ (p = pth w ∨ plt L (pth w) p)) ∧
  (∀ p, way L s t p → (∃ w, w < wc ∧ own w p) ∨ Pd p) ∧
  (∀ w w' p, w < wc → w' < wc → own w p → own w' p → w = w') ∧
  (∀ p, Pd p → way L s t p ∧ ∀ w, w < wc → ¬ own w p) ∧
  (∀ w, w < wc → ¬ R w = 0 → (∀ p, own w p → p = pth w) ∧ (∀ p, Pd p → plt L (pth w) p) ∧ ∀ w' p, w' < wc → R w' = 0 → own w' p → plt L (pth w) p) ∧
  ((∀ k, k < rc → RW k < wc ∧ R (RW k) = k + 1) ∧ (∀ w, w < wc → ¬ R w = 0 → ∃ k, k < rc ∧ RW k = w) ∧ ∀ j k, j < k → k < rc → plt L (pth (RW j)) (pth (RW k)))
theorem LI_cong {L : Nat → Nat} {s t wc rc : Nat} {pth pth' : Nat → List Nat} {own own' : Nat → List Nat → Prop} {R R' RW RW' : Nat → Nat} {Pd Pd' : List Nat → Prop}
    (h1 : ∀ w, w < wc → pth' w = pth w) (h2 : ∀ w p, w < wc → (own' w p ↔ own w p)) (h3 : ∀ w, w < wc → R' w = R w) (h4 : ∀ k, k < rc → RW' k = RW k) (h5 : ∀ p, Pd' p ↔ Pd p)
    (h : LI L s t wc rc pth own R RW Pd) : LI L s t wc rc pth' own' R' RW' Pd' := by
  obtain ⟨a1, a2, a3, a4, a5, a6, a7, a8, a9⟩ := h
  refine ⟨?_, ?_, ?_, ?_, ?_, ?_, ?_, ?_, ?_⟩
  · intro w hw; rw [h2 w _ hw, h1 w hw]; exact a1 w hw
  · intro w p hw ho; rw [h1 w hw]; exact a2 w p hw ((h2 w p hw).mp ho)
  · intro p hp
    rcases a3 p hp with ⟨w, hw, ho⟩ | hpd
    · exact Or.inl ⟨w, hw, (h2 w p hw).mpr ho⟩
    · exact Or.inr ((h5 p).mpr hpd)
  · intro w w' p hw hw' ho ho'; exact a4 w w' p hw hw' ((h2 w p hw).mp ho) ((h2 w' p hw').mp ho')
  · intro p hp
    have := a5 p ((h5 p).mp hp)
    exact ⟨this.1, fun w hw ho => this.2 w hw ((h2 w p hw).mp ho)⟩
  · intro w hw hR
    rw [h3 w hw] at hR
    obtain ⟨b1, b2, b3⟩ := a6 w hw hR
    rw [h1 w hw]
    refine ⟨fun p ho => b1 p ((h2 w p hw).mp ho), fun p hp => b2 p ((h5 p).mp hp), fun w' p hw' hR' ho => ?_⟩
    rw [h3 w' hw'] at hR'
    exact b3 w' p hw' hR' ((h2 w' p hw').mp ho)
  · intro k hk
    rw [h4 k hk]
    have := a7 k hk
    exact ⟨this.1, by rw [h3 _ this.1]; exact this.2⟩
  · intro w hw hR
    rw [h3 w hw] at hR
    obtain ⟨k, hk, e⟩ := a8 w hw hR
    exact ⟨k, hk, by rw [h4 k hk]; exact e⟩
  · intro j k hjk hk
    rw [h4 j (by omega), h4 k hk, h1 _ (a7 j (by omega)).1, h1 _ (a7 k hk).1]
    exact a9 j k hjk hk
/-- the first of the candidates is ranked; the rest of its share is to be dealt with -/
theorem LI_pop {L : Nat → Nat} {s t wc rc : Nat} {pth : Nat → List Nat} {own : Nat → List Nat → Prop} {R RW : Nat → Nat} {Pd : List Nat → Prop} (h : LI L s t wc rc pth own R RW Pd) (hPd : ∀ p, ¬ Pd p) {w : Nat} (hw : w < wc) (hR : R w = 0)
    (hmin : ∀ w', w' < wc → R w' = 0 → w' = w ∨ plt L (pth w) (pth w')) :
    LI L s t wc (rc + 1) pth (fun w' p => if w' = w then p = pth w else own w' p) (updN R w (rc + 1)) (updN RW rc w) (fun p => own w p ∧ p ≠ pth w) := by
  obtain ⟨a1, a2, a3, a4, a5, a6, a7, a8, a9⟩ := h
  have hRW : ∀ k, k < rc → RW k ≠ w := by
    intro k hk e
    have := (a7 k hk).2
    rw [e, hR] at this
    omega
  have hless : ∀ w' p, w' < wc → w' ≠ w → R w' = 0 → own w' p → plt L (pth w) p := by
    intro w' p hw' hne hR' ho
    rcases hmin w' hw' hR' with e | hl
    · exact absurd e hne
    · rcases (a2 w' p hw' ho).2 with e | h2
      · rw [e]; exact hl
      · exact plt_trans hl h2
  refine ⟨?_, ?_, ?_, ?_, ?_, ?_, ?_, ?_, ?_⟩
  · intro w' hw'
    by_cases e : w' = w
    · subst e; simp
    · simp only [if_neg e]; exact a1 w' hw'
  · intro w' p hw' ho
    by_cases e : w' = w
    · subst e
      simp only [if_pos] at ho
      subst ho
      exact ⟨(a2 w' _ hw (a1 w' hw)).1, Or.inl rfl⟩
    · simp only [if_neg e] at ho
      exact a2 w' p hw' ho
  · intro p hp
    rcases a3 p hp with ⟨w', hw', ho⟩ | hpd
    · by_cases e : w' = w
      · subst e
        by_cases hpp : p = pth w'
        · exact Or.inl ⟨w', hw', by simp [hpp]⟩
        · exact Or.inr ⟨ho, hpp⟩
      · exact Or.inl ⟨w', hw', by simp only [if_neg e]; exact ho⟩
    · exact absurd hpd (hPd p)
  · intro w1 w2 p h1 h2 o1 o2
    by_cases e1 : w1 = w <;> by_cases e2 : w2 = w
    · rw [e1, e2]
    · subst e1
      simp only [if_pos] at o1
      simp only [if_neg e2] at o2
      subst o1
      exact a4 _ _ _ h1 h2 (a1 _ h1) o2
    · subst e2
      simp only [if_pos] at o2
      simp only [if_neg e1] at o1
      subst o2
      exact a4 _ _ _ h1 h2 o1 (a1 _ h2)
    · simp only [if_neg e1] at o1
      simp only [if_neg e2] at o2
      exact a4 _ _ _ h1 h2 o1 o2
  · rintro p ⟨ho, hne⟩
    refine ⟨(a2 w p hw ho).1, fun w' hw' o' => ?_⟩
    by_cases e : w' = w
    · simp only [if_pos e] at o'; exact hne o'
    · simp only [if_neg e] at o'
      exact e (a4 w' w p hw' hw o' ho)
  · intro w1 h1 hR1
    by_cases e1 : w1 = w
    · subst e1
      refine ⟨fun p ho => by simpa using ho, ?_, ?_⟩
      · rintro p ⟨ho, hne⟩
        rcases (a2 w1 p h1 ho).2 with e | h2
        · exact absurd e hne
        · exact h2
      · intro w' p hw' hR' ho
        have hne : w' ≠ w1 := by
          intro e
          rw [e, updN_same] at hR'
          omega
        rw [updN_other hne] at hR'
        simp only [if_neg hne] at ho
        exact hless w' p hw' hne hR' ho
    · rw [updN_other e1] at hR1
      obtain ⟨b1, b2, b3⟩ := a6 w1 h1 hR1
      refine ⟨fun p ho => b1 p (by simpa only [if_neg e1] using ho), ?_, ?_⟩
      · rintro p ⟨ho, _⟩
        exact b3 w p hw hR ho
      · intro w' p hw' hR' ho
        have hne : w' ≠ w := by
          intro e
          rw [e, updN_same] at hR'
          omega
        rw [updN_other hne] at hR'
        simp only [if_neg hne] at ho
        exact b3 w' p hw' hR' ho
  · intro k hk
    by_cases e : k = rc
    · subst e
      rw [updN_same, updN_same]
      exact ⟨hw, rfl⟩
    · rw [updN_other e]
      have := a7 k (by omega)
      rw [updN_other (hRW k (by omega))]
      exact this
  · intro w1 h1 hR1
    by_cases e1 : w1 = w
    · exact ⟨rc, by omega, by rw [updN_same, e1]⟩
    · rw [updN_other e1] at hR1
      obtain ⟨k, hk, e⟩ := a8 w1 h1 hR1
      exact ⟨k, by omega, by rw [updN_other (by omega)]; exact e⟩
  · intro j k hjk hk
    rw [updN_other (show j ≠ rc by omega)]
    by_cases e : k = rc
    · subst e
      rw [updN_same]
      have hj := a7 j hjk
      have := a6 (RW j) hj.1 (by rw [hj.2]; omega)
      exact this.2.2 w (pth w) hw hR (a1 w hw)
    · rw [updN_other e]
      exact a9 j k hjk (by omega)
/-- a new candidate with a share of what is to be dealt with -/
theorem LI_add {L : Nat → Nat} {s t wc rc : Nat} {pth : Nat → List Nat} {own : Nat → List Nat → Prop} {R RW : Nat → Nat} {Pd : List Nat → Prop} (h : LI L s t wc rc pth own R RW Pd) {Pd1 : List Nat → Prop} {c : List Nat}
    (h1 : ∀ p, Pd1 p → Pd p) (hc : Pd1 c) (hmin : ∀ p, Pd1 p → p = c ∨ plt L c p) :
    LI L s t (wc + 1) rc (fun w => if w = wc then c else pth w) (fun w p => if w = wc then Pd1 p else own w p) (updN R wc 0) RW (fun p => Pd p ∧ ¬ Pd1 p) := by
  obtain ⟨a1, a2, a3, a4, a5, a6, a7, a8, a9⟩ := h
  refine ⟨?_, ?_, ?_, ?_, ?_, ?_, ?_, ?_, ?_⟩
  · intro w hw
    by_cases e : w = wc
    · simp [e, hc]
    · simp only [if_neg e]; exact a1 w (by omega)
  · intro w p hw ho
    by_cases e : w = wc
    · simp only [if_pos e] at ho ⊢
      exact ⟨(a5 p (h1 p ho)).1, hmin p ho⟩
    · simp only [if_neg e] at ho ⊢
      exact a2 w p (by omega) ho
  · intro p hp
    rcases a3 p hp with ⟨w, hw, ho⟩ | hpd
    · exact Or.inl ⟨w, by omega, by simp only [if_neg (show w ≠ wc by omega)]; exact ho⟩
    · by_cases h2 : Pd1 p
      · exact Or.inl ⟨wc, by omega, by simp [h2]⟩
      · exact Or.inr ⟨hpd, h2⟩
  · intro w w' p hw hw' o1 o2
    by_cases e1 : w = wc <;> by_cases e2 : w' = wc
    · rw [e1, e2]
    · simp only [if_pos e1] at o1
      simp only [if_neg e2] at o2
      exact absurd o2 ((a5 p (h1 p o1)).2 w' (by omega))
    · simp only [if_neg e1] at o1
      simp only [if_pos e2] at o2
      exact absurd o1 ((a5 p (h1 p o2)).2 w (by omega))
    · simp only [if_neg e1] at o1
      simp only [if_neg e2] at o2
      exact a4 w w' p (by omega) (by omega) o1 o2
  · rintro p ⟨hp, hn⟩
    refine ⟨(a5 p hp).1, fun w hw ho => ?_⟩
    by_cases e : w = wc
    · simp only [if_pos e] at ho; exact hn ho
    · simp only [if_neg e] at ho
      exact (a5 p hp).2 w (by omega) ho
  · intro w hw hR
    by_cases e : w = wc
    · rw [e, updN_same] at hR; exact absurd rfl hR
    · rw [updN_other e] at hR
      obtain ⟨b1, b2, b3⟩ := a6 w (by omega) hR
      simp only [if_neg e]
      refine ⟨b1, fun p hp => b2 p hp.1, fun w' p hw' hR' ho => ?_⟩
      by_cases e' : w' = wc
      · simp only [if_pos e'] at ho
        exact b2 p (h1 p ho)
      · rw [updN_other e'] at hR'
        simp only [if_neg e'] at ho
        exact b3 w' p (by omega) hR' ho
  · intro k hk
    have := a7 k hk
    rw [updN_other (by omega)]
    exact ⟨by omega, this.2⟩
  · intro w hw hR
    by_cases e : w = wc
    · rw [e, updN_same] at hR; exact absurd rfl hR
    · rw [updN_other e] at hR
      exact a8 w (by omega) hR
  · intro j k hjk hk
    have hj := a7 j (by omega)
    have hk' := a7 k hk
    simp only [if_neg (show RW j ≠ wc by omega), if_neg (show RW k ≠ wc by omega)]
    exact a9 j k hjk hk
/-- the ways with a number are all different: with one more there are at most 65 -/
theorem LI_65 {L : Nat → Nat} {s t wc rc : Nat} {pth : Nat → List Nat} {own : Nat → List Nat → Prop} {R RW : Nat → Nat} {Pd : List Nat → Prop} (hs : s < 6) (ht : t < 6) (hst : s ≠ t) (h : LI L s t wc rc pth own R RW Pd) : wc ≤ 65 ∧ rc ≤ wc ∧ ∀ c, Pd c → wc ≤ 64 := by
  obtain ⟨a1, a2, a3, a4, a5, a6, a7, a8, a9⟩ := h
  have hnd : ((List.range wc).map pth).Nodup := by
    rw [List.nodup_iff_pairwise_ne, List.pairwise_map]
    refine List.Pairwise.imp_of_mem ?_ List.nodup_range
    intro a b ha hb hne e
    have ha := List.mem_range.mp ha
    have hb := List.mem_range.mp hb
    exact hne (a4 a b (pth a) ha hb (a1 a ha) (by rw [e]; exact a1 b hb))
  have hway : ∀ p ∈ (List.range wc).map pth, way L s t p := by
    intro p hp
    obtain ⟨w, hw, rfl⟩ := List.mem_map.mp hp
    have hw := List.mem_range.mp hw
    exact (a2 w _ hw (a1 w hw)).1
  refine ⟨?_, ?_, ?_⟩
  · have := ways_65 hs ht hst hnd hway
    simpa using this
  · refine fb_holes wc rc RW (fun i hi => (a7 i hi).1) (fun i j hij hj e => ?_)
    have h1 := (a7 i (by omega)).2
    have h2 := (a7 j hj).2
    rw [e, h2] at h1
    omega
  · intro c hc
    have h1 := a5 c hc
    have hnd2 : (c :: (List.range wc).map pth).Nodup := by
      refine List.nodup_cons.mpr ⟨fun hm => ?_, hnd⟩
      obtain ⟨w, hw, e⟩ := List.mem_map.mp hm
      have hw := List.mem_range.mp hw
      exact h1.2 w hw (by rw [← e]; exact a1 w hw)
    have := ways_65 hs ht hst hnd2 (fun p hp => by
      rcases List.mem_cons.mp hp with rfl | hp
      · exact h1.1
      · exact hway p hp)
    simp at this
    omega
end
section
/-! the ranking's invariant over the arrays -/
def ownC (L : Nat → Nat) (s t : Nat) (P S A B R : Nat → Nat) (w : Nat) (p : List Nat) : Prop := if R w = 0 then sub L s t (rowP P (A w + 1) w) (B w) p else p = rowP P (S w) w
def XBd (P S W A B R RW : Nat → Nat) : Prop := (∀ i, P i < 6) ∧ (∀ i, S i ≤ 6) ∧ (∀ i, W i ≤ 1000) ∧ (∀ i, A i ≤ 5) ∧ (∀ i, B i < 64) ∧ (∀ i, R i ≤ 66) ∧ ∀ i, RW i ≤ 65
def LInv (L : Nat → Nat) (s t : Nat) (P S W A B R : Nat → Nat) (wc rc : Nat) (RW : Nat → Nat) (Pd : List Nat → Prop) : Prop :=
  LI L s t wc rc (fun w => rowP P (S w) w) (ownC L s t P S A B R) R RW Pd ∧ (∀ w, w < wc → A w + 1 < S w ∧ W w = lenP L (rowP P (S w) w)) ∧ XBd P S W A B R RW
def pend (L : Nat → Nat) (s t : Nat) (q : List Nat) (a b i : Nat) (p : List Nat) : Prop := way L s t p ∧ p ≠ q ∧ p.take (i + 1) = q.take (i + 1) ∧ (i = a → ∀ v, p[i + 1]? = some v → ¬ b.testBit v = true)
theorem upd_le {P : Nat → Nat} {n : Nat} (h : ∀ j, P j ≤ n) {k x : Nat} (hx : x ≤ n) : ∀ j, updN P k x j ≤ n := by
  intro j
  unfold updN
  by_cases e : j = k
  · simp [e]; exact hx
  · simp [e]; exact h j
theorem inv_pop {L : Nat → Nat} {s t : Nat} {P S W A B R : Nat → Nat} {wc rc : Nat} {RW : Nat → Nat} {Pd : List Nat → Prop} (hs : s < 6) (ht : t < 6) (hst : s ≠ t) (h : LInv L s t P S W A B R wc rc RW Pd) (hPd : ∀ p, ¬ Pd p) {w : Nat} (hw : w < wc) (hR : R w = 0)
    (hmin : ∀ w', w' < wc → R w' = 0 → w' = w ∨ plt L (rowP P (S w) w) (rowP P (S w') w')) :
    LInv L s t P S W A B (updN R w (rc + 1)) wc (rc + 1) (updN RW rc w) (pend L s t (rowP P (S w) w) (A w) (B w) (A w)) ∧ (∀ v, (rowP P (S w) w)[A w + 1]? = some v → ¬ (B w).testBit v = true) ∧ way L s t (rowP P (S w) w) := by
  obtain ⟨hLI, hrow, b1, b2, b3, b4, b5, b6, b7⟩ := h
  have h65 := LI_65 hs ht hst hLI
  have hown : ownC L s t P S A B R w (rowP P (S w) w) := hLI.1 w hw
  have hown' : sub L s t (rowP P (A w + 1) w) (B w) (rowP P (S w) w) := by
    unfold ownC at hown
    rwa [if_pos hR] at hown
  refine ⟨⟨?_, hrow, b1, b2, b3, b4, b5, upd_le b6 (by omega), upd_le b7 (by omega)⟩, ?_, hown'.1⟩
  · refine LI_cong (fun _ _ => rfl) ?_ (fun _ _ => rfl) (fun _ _ => rfl) ?_ (LI_pop hLI hPd hw hR hmin)
    · intro w' p hw'
      unfold ownC
      by_cases e : w' = w
      · subst e
        rw [updN_same, if_neg (by omega)]
        simp
      · rw [updN_other e]
        simp only [if_neg e]
    · intro p
      have e1 : ownC L s t P S A B R w p ↔ sub L s t (rowP P (A w + 1) w) (B w) p := by unfold ownC; rw [if_pos hR]
      rw [e1]
      unfold pend sub
      rw [rowP_len, rowP_take P (S w) (A w + 1) w (by have := (hrow w hw).1; omega)]
      constructor
      · rintro ⟨h1, h2, h3, h4⟩
        exact ⟨⟨h1, h3, h4 rfl⟩, h2⟩
      · rintro ⟨⟨h1, h3, h4⟩, h2⟩
        exact ⟨h1, h2, h3, fun _ => h4⟩
  · have := hown'.2.2
    rw [rowP_len] at this
    exact this
theorem inv_add {L : Nat → Nat} (hL : ∀ i, L i ≤ 20) {s t : Nat} {P S W A B R : Nat → Nat} {wc rc : Nat} {RW : Nat → Nat} {Pd : List Nat → Prop} (hs : s < 6) (ht : t < 6) (hst : s ≠ t) (h : LInv L s t P S W A B R wc rc RW Pd) (D : Nat → Nat) {w i bars : Nat} (hi : i + 1 ≤ 6) (hbars : bars < 64)
    (hhd : (rowP P (i + 1) w).head? = some s) (hnd : (rowP P (i + 1) w).Nodup) (hvl : vldP L (rowP P (i + 1) w)) (htn : t ∉ rowP P (i + 1) w) (hsub : ∀ p, sub L s t (rowP P (i + 1) w) bars p → Pd p) :
    (¬ bNext L (dmeas L (bef P w (i + 1)) t D) (P (w * 6 + i)) (bef P w (i + 1) ||| bars) = 0 → wc ≤ 64) ∧
    ∃ (P' S' W' A' B' R' : Nat → Nat) (wc' : Nat) (D' : Nat → Nat), addC L t wc P S W A B R D w i bars = (P', S', W', A', B', R', wc', D') ∧
      LInv L s t P' S' W' A' B' R' wc' rc RW (fun p => Pd p ∧ ¬ sub L s t (rowP P (i + 1) w) bars p) ∧ wc ≤ wc' ∧ (∀ j, j < wc → S' j = S j ∧ A' j = A j ∧ B' j = B j ∧ R' j = R j) ∧ ∀ j, j < wc * 6 → P' j = P j := by
  obtain ⟨hLI, hrow, b1, b2, b3, b4, b5, b6, b7⟩ := h
  rcases addC_spec hL (s := s) (S := S) (W := W) (A := A) (B := B) (R := R) (D := D) (wc := wc) (bars := bars) ht hi b1 hhd hnd hvl htn with ⟨e0, hno, eq⟩ | ⟨e0, c, P', hc, hmin, eq, hPc, hPo, hPb, hlc⟩
  · refine ⟨fun hh => absurd e0 hh, P, S, W, A, B, R, wc, _, eq, ⟨?_, hrow, b1, b2, b3, b4, b5, b6, b7⟩, Nat.le_refl _, fun _ _ => ⟨rfl, rfl, rfl, rfl⟩, fun _ _ => rfl⟩
    refine LI_cong (fun _ _ => rfl) (fun _ _ _ => Iff.rfl) (fun _ _ => rfl) (fun _ _ => rfl) (fun p => ?_) hLI
    exact ⟨fun hh => hh.1, fun hh => ⟨hh, hno p⟩⟩
  · have h65 := (LI_65 hs ht hst hLI).2.2 c (hsub c hc)
    have hl6 : c.length ≤ 6 := way_len6 hc.1
    have hlen := lenP_le hL c
    have hrowc : rowP P' c.length wc = c := by rw [rowP_of hPc (Nat.le_refl _), List.take_length]
    have hrowi : rowP P' (i + 1) wc = rowP P (i + 1) w := by
      have := hc.2.1
      rw [rowP_len] at this
      rw [rowP_of hPc (by omega), this]
    have hold : ∀ j n, j < wc → n ≤ 6 → rowP P' n j = rowP P n j := fun j n hj hn => rowP_cong (fun k hk => hPo _ (by omega))
    refine ⟨fun _ => h65, P', _, _, _, _, _, _, _, eq, ⟨?_, ?_, hPb, upd_le b2 hl6, upd_le b3 (by omega), upd_le b4 (by omega), upd_lt b5 hbars, upd_le b6 (by omega), b7⟩, by omega, fun j hj => ?_, hPo⟩
    · refine LI_cong ?_ ?_ (fun _ _ => rfl) (fun _ _ => rfl) (fun _ => Iff.rfl) (LI_add hLI hsub hc hmin)
      · intro j hj
        by_cases e : j = wc
        · subst e
          simp only [if_pos, updN_same]
          exact hrowc
        · simp only [if_neg e, updN_other e]
          exact hold j _ (by omega) (b2 j)
      · intro j p hj
        unfold ownC
        by_cases e : j = wc
        · subst e
          simp only [updN_same, if_pos]
          rw [hrowi]
        · simp only [updN_other e, if_neg e]
          rw [hold j _ (by omega) (b2 j), hold j _ (by omega) (by have := b4 j; omega)]
    · intro j hj
      by_cases e : j = wc
      · subst e
        simp only [updN_same]
        exact ⟨hlc, by rw [hrowc]⟩
      · simp only [updN_other e]
        rw [hold j _ (by omega) (b2 j)]
        exact hrow j (by omega)
    · rw [updN_other (by omega), updN_other (by omega), updN_other (by omega), updN_other (by omega)]
      exact ⟨rfl, rfl, rfl, rfl⟩
theorem pend_step {L : Nat → Nat} {s t : Nat} {q : List Nat} {a b i x bars : Nat} (hai : a ≤ i) (hi : q[i + 1]? = some x) (hb : ∀ v, q[a + 1]? = some v → ¬ b.testBit v = true) (hbars : bars = (if i = a then b else 0) ||| 1 * 2 ^ x) :
    (∀ p, sub L s t (q.take (i + 1)) bars p → pend L s t q a b i p) ∧ ∀ p, pend L s t q a b (i + 1) p ↔ (pend L s t q a b i p ∧ ¬ sub L s t (q.take (i + 1)) bars p) := by
  have hlq : i + 1 < q.length := (List.getElem?_eq_some_iff.mp hi).1
  have hlt : (q.take (i + 1)).length = i + 1 := by rw [List.length_take]; omega
  have hbit : ∀ v, bars.testBit v = true ↔ (i = a ∧ b.testBit v = true) ∨ v = x := by
    intro v
    rw [hbars, Nat.one_mul, fb_bit_set, Bool.or_eq_true, decide_eq_true_eq]
    by_cases e : i = a
    · rw [if_pos e]; simp [e]
    · rw [if_neg e]; simp [e]
  have h1 : ∀ p, sub L s t (q.take (i + 1)) bars p → pend L s t q a b i p := by
    rintro p ⟨g1, g2, g3⟩
    rw [hlt] at g2 g3
    refine ⟨g1, ?_, g2, ?_⟩
    · intro e
      subst e
      exact g3 x hi ((hbit x).mpr (Or.inr rfl))
    · intro e v hv hb
      exact g3 v hv ((hbit v).mpr (Or.inl ⟨e, hb⟩))
  refine ⟨h1, fun p => ⟨?_, ?_⟩⟩
  · rintro ⟨g1, g2, g3, g4⟩
    have htk : p.take (i + 1) = q.take (i + 1) := by
      have := congrArg (List.take (i + 1)) g3
      rw [List.take_take, List.take_take, show min (i + 1) (i + 1 + 1) = i + 1 by omega] at this
      exact this
    have hpx : p[i + 1]? = some x := by
      have := congrArg (fun l : List Nat => l[i + 1]?) g3
      simp only [List.getElem?_take, if_pos (show i + 1 < i + 1 + 1 by omega)] at this
      rw [this]; exact hi
    refine ⟨⟨g1, g2, htk, fun e v hv => ?_⟩, fun hsub => ?_⟩
    · rw [hpx] at hv
      have hvx := Option.some.inj hv
      subst hvx
      subst e
      exact hb _ hi
    · have := hsub.2.2 x (by rw [hlt]; exact hpx)
      exact this ((hbit x).mpr (Or.inr rfl))
  · rintro ⟨⟨g1, g2, g3, g4⟩, hn⟩
    have hex : ∃ v, p[i + 1]? = some v ∧ bars.testBit v = true := by
      apply Classical.byContradiction
      intro hc
      exact hn ⟨g1, by rw [hlt]; exact g3, fun v hv hbv => hc ⟨v, by rw [hlt] at hv; exact hv, hbv⟩⟩
    obtain ⟨v, hv, hbv⟩ := hex
    rcases (hbit v).mp hbv with ⟨e, hbb⟩ | e
    · exact absurd hbb (g4 e v hv)
    · subst e
      refine ⟨g1, g2, ?_, fun e => by omega⟩
      rw [List.take_add_one (l := p) (i := i + 1), List.take_add_one (l := q) (i := i + 1), g3, hv, hi]
theorem pend_end {L : Nat → Nat} {s t : Nat} {q : List Nat} {a b i : Nat} (hq : way L s t q) (hi : q.length ≤ i + 1) : ∀ p, ¬ pend L s t q a b i p := by
  rintro p ⟨g1, g2, g3, _⟩
  rw [List.take_of_length_le hi] at g3
  have hp : p = q ++ p.drop (i + 1) := by
    have := List.take_append_drop (i + 1) p
    rw [g3] at this
    exact this.symm
  cases hd : p.drop (i + 1) with
  | nil => rw [hd, List.append_nil] at hp; exact g2 hp
  | cons x r =>
    rw [hd] at hp
    obtain ⟨_, h2, h3, _⟩ := g1
    rw [hp] at h2 h3
    have hnd := List.nodup_append.mp h3
    rw [List.getLast?_append] at h2
    cases hg : (x :: r).getLast? with
    | none => simp at hg
    | some z =>
      rw [hg] at h2
      have hz : z = t := by simpa using h2
      subst hz
      exact hnd.2.2 z (List.mem_of_getLast? hq.2.1) z (List.mem_of_getLast? hg) rfl
theorem inv_0 {L : Nat → Nat} {s t : Nat} {P S W A B R RW : Nat → Nat} (hb : XBd P S W A B R RW) : LInv L s t P S W A B R 0 0 RW (way L s t) := by
  refine ⟨⟨?_, ?_, ?_, ?_, ?_, ?_, ?_, ?_, ?_⟩, fun w hw => by omega, hb⟩
  · intro w hw; omega
  · intro w p hw; omega
  · intro p hp; exact Or.inr hp
  · intro w w' p hw; omega
  · intro p hp; exact ⟨hp, fun w hw => by omega⟩
  · intro w hw; omega
  · intro k hk; omega
  · intro w hw; omega
  · intro j k _ hk; omega
theorem sub_first {L : Nat → Nat} {s t : Nat} (p : List Nat) : sub L s t [s] 0 p ↔ way L s t p := by
  constructor
  · exact fun h => h.1
  · intro h
    refine ⟨h, ?_, fun v _ => by simp⟩
    obtain ⟨r, e⟩ := pthP_hd h
    rw [e]; rfl
theorem lx_lex {L : Nat → Nat} {X t : Nat} {f g : Nat → Nat} : ∀ (p q : List Nat) (v i n : Nat), pthP L X v t p → pthP L X v t q → p ≠ q → (∀ k (h : k < p.length), f (i + k) = p[k]) → (∀ k (h : k < q.length), g (i + k) = q[k]) → p.length ≤ n → q.length ≤ n → lxF f g i n = lexb p q := by
  intro p
  induction p with
  | nil => intro q v i n h; have := h.1; simp at this
  | cons a p ih =>
    intro q v i n h1 h2 hne hf hg hpn hqn
    rcases pthP_cases h1 with ⟨e, rfl⟩ | ⟨b, r, e, _, _, _, _, _, _, hp⟩
    · exact absurd (e.trans (pthP_tt h2).symm) hne
    · rcases pthP_cases h2 with ⟨e', rfl⟩ | ⟨b', r', e', _, _, _, _, _, _, hq⟩
      · exact absurd ((pthP_tt h1).trans e'.symm) hne
      · have ea : a = v := by simp at e; exact e.1
        have ep : p = b :: r := by simp at e; exact e.2
        subst ea; subst ep; subst e'
        simp only [List.length_cons] at hpn hqn
        obtain ⟨n, rfl⟩ : ∃ m, n = m + 1 := ⟨n - 1, by omega⟩
        have f0 := hf 0 (by simp)
        have g0 := hg 0 (by simp)
        have f1 := hf 1 (by simp)
        have g1 := hg 1 (by simp)
        simp at f0 g0 f1 g1
        rw [lxF, if_pos (by rw [f0, g0]), lexb_cons, if_pos rfl]
        by_cases hbb : b = b'
        · subst hbb
          refine ih (b :: r') b (i + 1) n hp hq (fun hh => hne (by rw [hh])) (fun k hk => ?_) (fun k hk => ?_) (by simp only [List.length_cons]; omega) (by simp only [List.length_cons]; omega)
          · have := hf (k + 1) (by simp at hk ⊢; omega)
            rw [show i + 1 + k = i + (k + 1) by omega, this]
            simp
          · have := hg (k + 1) (by simp at hk ⊢; omega)
            rw [show i + 1 + k = i + (k + 1) by omega, this]
            simp
        · obtain ⟨n, rfl⟩ : ∃ m, n = m + 1 := ⟨n - 1, by omega⟩
          rw [lxF, if_neg (by rw [f1, g1]; exact hbb), lexb_cons, if_neg hbb, f1, g1]
theorem cmp_plt {L : Nat → Nat} {s t : Nat} {f g : Nat → Nat} {p q : List Nat} (hp : way L s t p) (hq : way L s t q) (hne : p ≠ q) (hf : ∀ k (h : k < p.length), f k = p[k]) (hg : ∀ k (h : k < q.length), g k = q[k]) : cmpF (lenP L p) (lenP L q) f g = true ↔ plt L p q := by
  have hx := lx_lex (f := f) (g := g) p q s 0 6 hp hq hne (fun k h => by rw [Nat.zero_add]; exact hf k h) (fun k h => by rw [Nat.zero_add]; exact hg k h) (way_len6 hp) (way_len6 hq)
  unfold cmpF plt
  by_cases e : lenP L p = lenP L q
  · rw [if_pos e, hx]
    constructor
    · exact fun h => Or.inr ⟨e, h⟩
    · rintro (h | h)
      · omega
      · exact h.2
  · rw [if_neg e, decide_eq_true_eq]
    constructor
    · exact fun h => Or.inl h
    · rintro (h | h)
      · exact h
      · exact absurd h.1 e
theorem rowP_at {P : Nat → Nat} {n w : Nat} : ∀ k (h : k < (rowP P n w).length), P (w * 6 + k) = (rowP P n w)[k] := by
  intro k h
  simp [rowP]
theorem inv_way {L : Nat → Nat} {s t : Nat} {P S W A B R : Nat → Nat} {wc rc : Nat} {RW : Nat → Nat} {Pd : List Nat → Prop} (h : LInv L s t P S W A B R wc rc RW Pd) {w : Nat} (hw : w < wc) : way L s t (rowP P (S w) w) := (h.1.2.1 w _ hw (h.1.1 w hw)).1
theorem inv_diff {L : Nat → Nat} {s t : Nat} {P S W A B R : Nat → Nat} {wc rc : Nat} {RW : Nat → Nat} {Pd : List Nat → Prop} (h : LInv L s t P S W A B R wc rc RW Pd) {w w' : Nat} (hw : w < wc) (hw' : w' < wc) (hne : w ≠ w') : rowP P (S w) w ≠ rowP P (S w') w' := by
  intro e
  refine hne (h.1.2.2.2.1 w w' _ hw hw' (h.1.1 w hw) ?_)
  have := h.1.1 w' hw'
  dsimp only at this ⊢
  rw [e]
  exact this
theorem gB_plt {L : Nat → Nat} {s t : Nat} {P S W A B R : Nat → Nat} {wc rc : Nat} {RW : Nat → Nat} {Pd : List Nat → Prop} (h : LInv L s t P S W A B R wc rc RW Pd) {w w' : Nat} (hw : w < wc) (hw' : w' < wc) (hne : w ≠ w') : gB W P w w' = true ↔ plt L (rowP P (S w) w) (rowP P (S w') w') := by
  unfold gB
  rw [(h.2.1 w hw).2, (h.2.1 w' hw').2]
  exact cmp_plt (inv_way h hw) (inv_way h hw') (inv_diff h hw hw' hne) rowP_at rowP_at
theorem bC_spec {L : Nat → Nat} {s t : Nat} {P S W A B R : Nat → Nat} {wc rc : Nat} {RW : Nat → Nat} {Pd : List Nat → Prop} (h : LInv L s t P S W A B R wc rc RW Pd) : ∀ n, n ≤ wc → (bC W P R n = 0 ∧ ∀ w, w < n → ¬ R w = 0) ∨ ∃ b, bC W P R n = b + 1 ∧ b < n ∧ R b = 0 ∧ ∀ w, w < n → R w = 0 → w = b ∨ plt L (rowP P (S b) b) (rowP P (S w) w) := by
  intro n
  induction n with
  | zero => intro _; exact Or.inl ⟨rfl, fun w hw => by omega⟩
  | succ n ih =>
    intro hn
    unfold bC
    rcases ih (by omega) with ⟨e, h1⟩ | ⟨b, e, hb, hRb, h1⟩
    · rw [e]
      by_cases hR : R n = 0
      · rw [if_pos ⟨hR, Or.inl rfl⟩]
        refine Or.inr ⟨n, rfl, by omega, hR, fun w hw hRw => ?_⟩
        rcases Nat.lt_or_ge w n with h2 | h2
        · exact absurd hRw (h1 w h2)
        · exact Or.inl (by omega)
      · rw [if_neg (fun hh => hR hh.1)]
        refine Or.inl ⟨rfl, fun w hw => ?_⟩
        rcases Nat.lt_or_ge w n with h2 | h2
        · exact h1 w h2
        · obtain rfl : w = n := by omega
          exact hR
    · rw [e, Nat.add_sub_cancel]
      have hg := gB_plt h (w := n) (w' := b) (by omega) (by omega) (by omega)
      by_cases hc : R n = 0 ∧ gB W P n b = true
      · rw [if_pos ⟨hc.1, Or.inr hc.2⟩]
        have hnb := hg.mp hc.2
        refine Or.inr ⟨n, rfl, by omega, hc.1, fun w hw hRw => ?_⟩
        rcases Nat.lt_or_ge w n with h2 | h2
        · rcases h1 w h2 hRw with rfl | h3
          · exact Or.inr hnb
          · exact Or.inr (plt_trans hnb h3)
        · exact Or.inl (by omega)
      · rw [if_neg (fun hh => by rcases hh.2 with h2 | h2; omega; exact hc ⟨hh.1, h2⟩)]
        refine Or.inr ⟨b, rfl, by omega, hRb, fun w hw hRw => ?_⟩
        rcases Nat.lt_or_ge w n with h2 | h2
        · exact h1 w h2 hRw
        · obtain rfl : w = n := by omega
          right
          rcases plt_total (inv_way h (w := w) (by omega)) (inv_way h (w := b) (by omega)) (inv_diff h (by omega) (by omega) (by omega)) with h3 | h3
          · exact absurd ⟨hRw, hg.mpr h3⟩ hc
          · exact h3
/-- all ways, in their order, stand in the arrays -/
def XFin (L : Nat → Nat) (s t : Nat) (P S W RW : Nat → Nat) (rc : Nat) (Rs : List (List Nat)) : Prop := Rs.length = rc ∧ (∀ p, p ∈ Rs ↔ way L s t p) ∧ Rs.Pairwise (plt L) ∧ ∀ k (h : k < Rs.length), RW k ≤ 65 ∧ S (RW k) = Rs[k].length ∧ W (RW k) = lenP L Rs[k] ∧ rowP P (S (RW k)) (RW k) = Rs[k]
theorem inv_fin {L : Nat → Nat} {s t : Nat} {P S W A B R : Nat → Nat} {wc rc : Nat} {RW : Nat → Nat} {Pd : List Nat → Prop} (h : LInv L s t P S W A B R wc rc RW Pd) (hPd : ∀ p, ¬ Pd p) (hall : ∀ w, w < wc → ¬ R w = 0) : ∃ Rs, XFin L s t P S W RW rc Rs := by
  obtain ⟨⟨a1, a2, a3, a4, a5, a6, a7, a8, a9⟩, hrow, hb⟩ := h
  refine ⟨(List.range rc).map (fun k => rowP P (S (RW k)) (RW k)), by simp, fun p => ⟨?_, ?_⟩, ?_, ?_⟩
  · intro hp
    obtain ⟨k, hk, rfl⟩ := List.mem_map.mp hp
    have hk := a7 k (List.mem_range.mp hk)
    exact (a2 _ _ hk.1 (a1 _ hk.1)).1
  · intro hp
    rcases a3 p hp with ⟨w, hw, ho⟩ | hpd
    · have hpw := (a6 w hw (hall w hw)).1 p ho
      obtain ⟨k, hk, e⟩ := a8 w hw (hall w hw)
      refine List.mem_map.mpr ⟨k, List.mem_range.mpr hk, ?_⟩
      rw [hpw, e]
    · exact absurd hpd (hPd p)
  · rw [List.pairwise_map]
    refine List.Pairwise.imp_of_mem ?_ List.pairwise_lt_range
    intro a b ha hb hab
    exact a9 a b hab (List.mem_range.mp hb)
  · intro k hk
    simp at hk
    have h7 := a7 k hk
    simp only [List.getElem_map, List.getElem_range]
    exact ⟨hb.2.2.2.2.2.2 k, (rowP_len _ _ _).symm, (hrow _ h7.1).2, trivial⟩
end
section
/-! the steps of rank, in plain numbers -/
theorem LInv_none {L : Nat → Nat} {s t : Nat} {P S W A B R : Nat → Nat} {wc rc : Nat} {RW : Nat → Nat} {Pd : List Nat → Prop} (h : LInv L s t P S W A B R wc rc RW Pd) (hPd : ∀ p, ¬ Pd p) : LInv L s t P S W A B R wc rc RW (fun _ => False) :=
  ⟨LI_cong (fun _ _ => rfl) (fun _ _ _ => Iff.rfl) (fun _ _ => rfl) (fun _ _ => rfl) (fun p => ⟨fun h => h.elim, fun h => hPd p h⟩) h.1, h.2⟩
theorem LInv_pd {L : Nat → Nat} {s t : Nat} {P S W A B R : Nat → Nat} {wc rc : Nat} {RW : Nat → Nat} {Pd Pd' : List Nat → Prop} (h : LInv L s t P S W A B R wc rc RW Pd) (hPd : ∀ p, Pd' p ↔ Pd p) : LInv L s t P S W A B R wc rc RW Pd' :=
  ⟨LI_cong (fun _ _ => rfl) (fun _ _ _ => Iff.rfl) (fun _ _ => rfl) (fun _ _ => rfl) hPd h.1, h.2⟩
theorem vldP_left (L : Nat → Nat) : ∀ l r : List Nat, vldP L (l ++ r) → vldP L l := by
  intro l
  induction l with
  | nil => intro r _; trivial
  | cons a l ih =>
    intro r h
    match l, ih, h with
    | [], _, _ => trivial
    | b :: l, ih, h => exact ⟨h.1, ih r h.2⟩
theorem take_facts {L : Nat → Nat} {s t : Nat} {q : List Nat} (h : way L s t q) {n : Nat} (hn : n + 1 < q.length) : (q.take (n + 1)).head? = some s ∧ (q.take (n + 1)).Nodup ∧ vldP L (q.take (n + 1)) ∧ t ∉ q.take (n + 1) := by
  obtain ⟨h1, h2, h3, h4, h5⟩ := h
  have hq := List.take_append_drop (n + 1) q
  rw [← hq] at h3 h5
  have hnd := List.nodup_append.mp h3
  refine ⟨?_, hnd.1, vldP_left L _ _ h5, fun ht => ?_⟩
  · rw [List.head?_take, if_neg (by omega)]; exact h1
  · cases hd : q.drop (n + 1) with
    | nil =>
      have := congrArg List.length hd
      simp at this
      omega
    | cons x r =>
      rw [← hq, hd, List.getLast?_append] at h2
      cases hg : (x :: r).getLast? with
      | none => simp at hg
      | some z =>
        rw [hg] at h2
        have hz : z = t := by simpa using h2
        subst hz
        exact hnd.2.2 z ht z (by rw [hd]; exact List.mem_of_getLast? hg) rfl
theorem rk_first {L : Nat → Nat} (hL : ∀ i, L i ≤ 20) {s t : Nat} (hs : s < 6) (ht : t < 6) (hst : s ≠ t) {P S W A B R RW : Nat → Nat} (hb : XBd P S W A B R RW) (D : Nat → Nat) :
    ∃ (P' S' W' A' B' R' : Nat → Nat) (wc' : Nat) (D' : Nat → Nat), addC L t 0 (updN P 0 s) S W A B R D 0 0 0 = (P', S', W', A', B', R', wc', D') ∧ LInv L s t P' S' W' A' B' R' wc' 0 RW (fun _ => False) := by
  have hb' : XBd (updN P 0 s) S W A B R RW := ⟨upd_lt hb.1 hs, hb.2⟩
  have hrow : rowP (updN P 0 s) (0 + 1) 0 = [s] := rfl
  obtain ⟨_, P', S', W', A', B', R', wc', D', e, hI, _⟩ := inv_add hL hs ht hst (inv_0 (L := L) (s := s) (t := t) hb') D (w := 0) (i := 0) (bars := 0) (by decide) (by decide) (by rw [hrow]; rfl) (by rw [hrow]; simp) (by rw [hrow]; trivial) (by rw [hrow]; simp; exact fun h => hst h.symm) (fun p hp => hp.1)
  refine ⟨P', S', W', A', B', R', wc', D', e, LInv_none hI ?_⟩
  rintro p ⟨hp, hn⟩
  rw [hrow] at hn
  exact hn ((sub_first p).mpr hp)
/-- inside a round: way w (its places q, parting at a, bars b) is ranked, what parts from it at place i or behind is to be dealt with -/
def KI (L : Nat → Nat) (s t : Nat) (q : List Nat) (a b w sz k : Nat) (RW : Nat → Nat) (i : Nat) (P S W A B R : Nat → Nat) (wc : Nat) : Prop := LInv L s t P S W A B R wc k RW (pend L s t q a b i) ∧ w < wc ∧ S w = sz ∧ A w = a ∧ B w = b ∧ ¬ R w = 0 ∧ rowP P sz w = q ∧ way L s t q ∧ ∀ v, q[a + 1]? = some v → ¬ b.testBit v = true
theorem rk_pop {L : Nat → Nat} {s t : Nat} {P S W A B R : Nat → Nat} {wc rc : Nat} {RW : Nat → Nat} (hs : s < 6) (ht : t < 6) (hst : s ≠ t) (h : LInv L s t P S W A B R wc rc RW (fun _ => False)) {w : Nat} (hw : w < wc) (hR : R w = 0)
    (hmin : ∀ w', w' < wc → R w' = 0 → w' = w ∨ plt L (rowP P (S w) w) (rowP P (S w') w')) : KI L s t (rowP P (S w) w) (A w) (B w) w (S w) (rc + 1) (updN RW rc w) (A w) P S W A B (updN R w (rc + 1)) wc := by
  obtain ⟨h1, h2, h3⟩ := inv_pop hs ht hst h (fun _ h => h) hw hR hmin
  exact ⟨h1, hw, rfl, rfl, rfl, by rw [updN_same]; omega, rfl, h3, h2⟩
theorem rk_inner {L : Nat → Nat} (hL : ∀ i, L i ≤ 20) {s t : Nat} (hs : s < 6) (ht : t < 6) (hst : s ≠ t) {q : List Nat} {a b w sz k : Nat} {RW : Nat → Nat} {i : Nat} {P S W A B R : Nat → Nat} {wc : Nat} (h : KI L s t q a b w sz k RW i P S W A B R wc) (hai : a ≤ i) (hi : i + 1 < sz) (D : Nat → Nat) {bars : Nat} (hbars : bars = (if i = a then b else 0) ||| 1 * 2 ^ P (w * 6 + i + 1)) :
    bars < 64 ∧ (¬ bNext L (dmeas L (bef P w (i + 1)) t D) (P (w * 6 + i)) (bef P w (i + 1) ||| bars) = 0 → wc ≤ 64) ∧
    ∃ (P' S' W' A' B' R' : Nat → Nat) (wc' : Nat) (D' : Nat → Nat), addC L t wc P S W A B R D w i bars = (P', S', W', A', B', R', wc', D') ∧ KI L s t q a b w sz k RW (i + 1) P' S' W' A' B' R' wc' := by
  obtain ⟨hI, hw, e1, e2, e3, e4, e5, hq, hqb⟩ := h
  have hb := hI.2.2
  have hsz : sz ≤ 6 := by rw [← e1]; exact hb.2.1 w
  have hql : q.length = sz := by rw [← e5, rowP_len]
  have htk : rowP P (i + 1) w = q.take (i + 1) := by rw [← e5, rowP_take P sz (i + 1) w (by omega)]
  have hqi : q[i + 1]? = some (P (w * 6 + i + 1)) := by rw [← e5, rowP_get P sz w (i + 1) (by omega)]; rfl
  have hbars64 : bars < 64 := by
    rw [hbars]
    refine or_lt64 ?_ ?_
    · have := hb.2.2.2.2.1 w
      split <;> omega
    · rw [Nat.one_mul]
      show 2 ^ P (w * 6 + i + 1) < 2 ^ 6
      exact Nat.pow_lt_pow_right (by decide) (hb.1 _)
  have hps := pend_step (L := L) (s := s) (t := t) hai hqi hqb hbars
  obtain ⟨t1, t2, t3, t4⟩ := take_facts hq (n := i) (by omega)
  obtain ⟨g1, P', S', W', A', B', R', wc', D', e, g2, g3, g4, g5⟩ := inv_add hL hs ht hst hI D (w := w) (i := i) (bars := bars) (by omega) hbars64 (by rw [htk]; exact t1) (by rw [htk]; exact t2) (by rw [htk]; exact t3) (by rw [htk]; exact t4) (fun p hp => by rw [htk] at hp; exact hps.1 p hp)
  have hg := g4 w hw
  refine ⟨hbars64, g1, P', S', W', A', B', R', wc', D', e, LInv_pd g2 (fun p => by rw [htk]; exact hps.2 p), by omega, by rw [hg.1]; exact e1, by rw [hg.2.1]; exact e2, by rw [hg.2.2.1]; exact e3, by rw [hg.2.2.2]; exact e4, ?_, hq, hqb⟩
  rw [← e5]
  exact rowP_cong (fun j hj => g5 _ (by omega))
theorem rk_end {L : Nat → Nat} {s t : Nat} {q : List Nat} {a b w sz k : Nat} {RW : Nat → Nat} {i : Nat} {P S W A B R : Nat → Nat} {wc : Nat} (h : KI L s t q a b w sz k RW i P S W A B R wc) (hi : sz ≤ i + 1) : LInv L s t P S W A B R wc k RW (fun _ => False) := by
  obtain ⟨hI, hw, e1, e2, e3, e4, e5, hq, hqb⟩ := h
  exact LInv_none hI (pend_end hq (by rw [← e5, rowP_len]; exact hi))
/-- what holds of PathRanker between calls; u: known, from, to, number of ways, of ranked ones, places, sizes, lengths, parting places, bars, ranks, ranked ways, distances -/
abbrev XS : Type := Nat × Nat × Nat × Nat × Nat × (Nat → Nat) × (Nat → Nat) × (Nat → Nat) × (Nat → Nat) × (Nat → Nat) × (Nat → Nat) × (Nat → Nat) × (Nat → Nat)
abbrev XWu (h : Nat → Nat) (dB dS dI : ClassId) (L : Nat → Nat) (u : XS) : va_W := XW h dB dS dI L u.1 u.2.1 u.2.2.1 u.2.2.2.1 u.2.2.2.2.1 u.2.2.2.2.2.1 u.2.2.2.2.2.2.1 u.2.2.2.2.2.2.2.1 u.2.2.2.2.2.2.2.2.1 u.2.2.2.2.2.2.2.2.2.1 u.2.2.2.2.2.2.2.2.2.2.1 u.2.2.2.2.2.2.2.2.2.2.2.1 u.2.2.2.2.2.2.2.2.2.2.2.2
def XOK (L : Nat → Nat) (kn fr to wc rc : Nat) (P S W A B R RW : Nat → Nat) : Prop := (∀ i, L i ≤ 20) ∧ XBd P S W A B R RW ∧ kn ≤ 1 ∧ fr < 6 ∧ to < 6 ∧ wc ≤ 65 ∧ rc ≤ 65 ∧ (kn = 1 → fr ≠ to ∧ ∃ Rs, XFin L fr to P S W RW rc Rs)
def XOKu (L : Nat → Nat) (u : XS) : Prop := XOK L u.1 u.2.1 u.2.2.1 u.2.2.2.1 u.2.2.2.2.1 u.2.2.2.2.2.1 u.2.2.2.2.2.2.1 u.2.2.2.2.2.2.2.1 u.2.2.2.2.2.2.2.2.1 u.2.2.2.2.2.2.2.2.2.1 u.2.2.2.2.2.2.2.2.2.2.1 u.2.2.2.2.2.2.2.2.2.2.2.1
theorem rk_done {L : Nat → Nat} (hL : ∀ i, L i ≤ 20) {s t : Nat} (hs : s < 6) (ht : t < 6) (hst : s ≠ t) {P S W A B R : Nat → Nat} {wc rc : Nat} {RW : Nat → Nat} (h : LInv L s t P S W A B R wc rc RW (fun _ => False)) (hall : ∀ w, w < wc → ¬ R w = 0) : XOK L 1 s t wc rc P S W A B R RW := by
  have h65 := LI_65 hs ht hst h.1
  exact ⟨hL, h.2.2, Nat.le_refl _, hs, ht, h65.1, by omega, fun _ => ⟨hst, inv_fin h (fun _ h => h) hall⟩⟩
end
section
set_option maxRecDepth 100000
set_option maxHeartbeats 4000000
theorem g_world {Γ : GP} {ws ws' : va_W} {pc : Nat} {lv : List (Nat × Value)} {st : List Value} (h : ws = ws') (k : G Γ ws' pc lv st) : G Γ ws pc lv st := h ▸ k
def rankA (L : Nat → Nat) (s t r : Int32) (u : XS) : Prop := XOKu L u ∧ ((¬ isPr s t ∧ r = nI 0) ∨ ∃ s' t' : Nat, s = nI s' ∧ t = nI t' ∧ s' < 6 ∧ t' < 6 ∧ s' ≠ t' ∧ r = nI 1 ∧ u.1 = 1 ∧ u.2.1 = s' ∧ u.2.2.1 = t')
theorem rankA_nar {L : Nat → Nat} {s t r : Int32} {u : XS} (h : rankA L s t r u) : narrow .boolean (.int r) = .int r := by
  rcases h.2 with ⟨_, rfl⟩ | ⟨_, _, _, _, _, _, _, rfl, _⟩ <;> rfl
theorem cX_rank (h : Nat → Nat) (dB dS dI : ClassId) (L : Nat → Nat) (kn fr to wc rc : Nat) (P S W A B R RW D : Nat → Nat) (s t : Int32) (hok : XOK L kn fr to wc rc P S W A B R RW) : MI yX0_rank cX0_rank 8 .boolean 3 (XT dB dS dI) [.ref (h 0), .int s, .int t] (XW h dB dS dI L kn fr to wc rc P S W A B R RW D) (fun u : XS => XWu h dB dS dI L u) (fun r u => rankA L s t r u) := by
  refine g_enterI (lv0 := [(0, .ref (h 0)), (1, .int s), (2, .int t)]) (by decide) (Nat.le_of_ble_eq_true rfl) rfl (fun r u h => rankA_nar h) (fun Γ hc hR => ?_)
  obtain ⟨hL, hbd, hkn, hfr, hto, hwc, hrc, hfin⟩ := hok
  have loops : ∀ x1 x2 : Nat, x1 < 6 → x2 < 6 → x1 ≠ x2 → s = nI x1 → t = nI x2 → ∀ (k : Nat) (v : AS × (Nat → Nat)), k ≤ 66 → LInv L x1 x2 v.1.1 v.1.2.1 v.1.2.2.1 v.1.2.2.2.1 v.1.2.2.2.2.1 v.1.2.2.2.2.2.1 v.1.2.2.2.2.2.2.1 k v.2 (fun _ => False) →
      G Γ (XW h dB dS dI L 1 x1 x2 v.1.2.2.2.2.2.2.1 k v.1.1 v.1.2.1 v.1.2.2.1 v.1.2.2.2.1 v.1.2.2.2.2.1 v.1.2.2.2.2.2.1 v.2 v.1.2.2.2.2.2.2.2) 77 [(0, .ref (h 0)), (1, .int (nI x1)), (2, .int (nI x2)), (3, .int (nI k))] [] := by
    intro x1 x2 hx1 hx2 hx3 es et
    refine up_loop 66 _ _ ?_
    intro k v hk66 hI ih
    obtain ⟨⟨P1, S1, W1, A1, B1, R1, wc1, D1⟩, RW1⟩ := v
    dsimp only at hI ⊢
    have h65 := LI_65 hx1 hx2 hx3 hI.1
    have hb1 := hI.2.2
    have inner : ∀ b, b < wc1 → k < 66 → A1 b + 1 < S1 b → ∀ (i : Nat) (v : AS), i ≤ S1 b - 1 → (A1 b ≤ i ∧ KI L x1 x2 (rowP P1 (S1 b) b) (A1 b) (B1 b) b (S1 b) (k + 1) (updN RW1 k b) i v.1 v.2.1 v.2.2.1 v.2.2.2.1 v.2.2.2.2.1 v.2.2.2.2.2.1 v.2.2.2.2.2.2.1) →
        G Γ (XW h dB dS dI L 1 x1 x2 v.2.2.2.2.2.2.1 (k + 1) v.1 v.2.1 v.2.2.1 v.2.2.2.1 v.2.2.2.2.1 v.2.2.2.2.2.1 (updN RW1 k b) v.2.2.2.2.2.2.2) 139 [(0, .ref (h 0)), (1, .int (nI x1)), (2, .int (nI x2)), (3, .int (nI k)), (4, .int (nI b)), (5, .int (nI i))] [] := by
      intro b hbw hk hAS
      refine up_loop (S1 b - 1) _ _ ?_
      intro i v hi hKI ih2
      obtain ⟨P2, S2, W2, A2, B2, R2, wc2, D2⟩ := v
      obtain ⟨hai, hKI⟩ := hKI
      dsimp only at hKI ⊢
      have hb2 := hKI.1.2.2
      have h652 := LI_65 hx1 hx2 hx3 hKI.1.1
      have eS : S2 b = S1 b := hKI.2.2.1
      have eA : A2 b = A1 b := hKI.2.2.2.1
      have eB : B2 b = B1 b := hKI.2.2.2.2.1
      have hbw2 : b < wc2 := hKI.2.1
      have hS6 := hb2.2.1 b
      have hA5 := hb2.2.2.2.1 b
      have hB6 := hb2.2.2.2.2.1 b
      have j176 : ∀ z : Nat, i < S1 b - 1 → z = (if i = A1 b then B1 b else 0) → G Γ (XW h dB dS dI L 1 x1 x2 wc2 (k + 1) P2 S2 W2 A2 B2 R2 (updN RW1 k b) D2) 176 [(0, .ref (h 0)), (1, .int (nI x1)), (2, .int (nI x2)), (3, .int (nI k)), (4, .int (nI b)), (5, .int (nI i))] [.int (nI z)] := by
        intro z hi2 hz
        obtain ⟨hb64, hwc2, P3, S3, W3, A3, B3, R3, wc3, D3, he, hKI3⟩ := rk_inner hL hx1 hx2 hx3 hKI hai (by omega) D2 (bars := z ||| 1 * 2 ^ P2 (b * 6 + i + 1)) (by rw [hz])
        have hz64 : z < 64 := by rw [hz]; split <;> omega
        refine g_istore (lv' := [(0, .ref (h 0)), (1, .int (nI x1)), (2, .int (nI x2)), (3, .int (nI k)), (4, .int (nI b)), (5, .int (nI i)), (6, .int (nI z))]) hc dX0_rank_176 (by decide) [1, 2, 3, 4, 5, 6, 0] rfl ?_
        refine g_aload_n hc dX0_rank_178 rfl 0 rfl ?_
        refine x_get hc 6 (by decide) q34 0 rfl rfl dX0_rank_179 rfl ?_
        refine g_iload hc dX0_rank_182 4 rfl ?_
        refine g_bipush (v := nI 6) hc dX0_rank_184 (by decide) ?_
        refine n_imul hc dX0_rank_186 ?_
        refine g_iload hc dX0_rank_187 5 rfl ?_
        refine n_iadd hc dX0_rank_189 ?_
        refine g_iconst (v := nI 1) hc dX0_rank_190 (by decide) ?_
        refine n_iadd hc dX0_rank_191 ?_
        refine n_bald hc 2 0 rfl rfl (by omega) (by decide) dX0_rank_192 ?_
        have b192 := hb2.1 (b * 6 + i + 1)
        refine g_istore (lv' := [(0, .ref (h 0)), (1, .int (nI x1)), (2, .int (nI x2)), (3, .int (nI k)), (4, .int (nI b)), (5, .int (nI i)), (6, .int (nI z)), (7, .int (nI (P2 (b * 6 + i + 1))))]) hc dX0_rank_193 (by decide) [1, 2, 3, 4, 5, 6, 7, 0] rfl ?_
        refine g_aload_n hc dX0_rank_195 rfl 0 rfl ?_
        refine g_iload hc dX0_rank_196 4 rfl ?_
        refine g_iload hc dX0_rank_198 5 rfl ?_
        refine g_iload hc dX0_rank_200 6 rfl ?_
        refine g_iconst (v := nI 1) hc dX0_rank_202 (by decide) ?_
        refine g_iload hc dX0_rank_203 7 rfl ?_
        refine n_ishl hc dX0_rank_205 (by omega) (shl_ok (by omega)) ?_
        refine n_ior hc dX0_rank_206 ?_
        refine x_callV (n := 3) (As := [.int (nI b), .int (nI i), .int (nI (z ||| (1 * 2 ^ (P2 (b * 6 + i + 1)))))]) (rest := []) hc (cX_addCandidate h dB dS dI L 1 x1 x2 wc2 (k + 1) P2 S2 W2 A2 B2 R2 (updN RW1 k b) D2 b i (z ||| 1 * 2 ^ P2 (b * 6 + i + 1)) hL hb2.1 hx2 (by omega) (by omega) hb64 hwc2) (lw_V q105 q107 qs1 q18 q108) (by decide +kernel) (by decide) (by decide) rfl rfl (by simp [Value.category]) dX0_rank_207 (fun u207 k207 => ?_)
        rw [he] at k207
        subst k207
        refine g_world (ws' := XW h dB dS dI L 1 x1 x2 wc3 (k + 1) P3 S3 W3 A3 B3 R3 (updN RW1 k b) D3) rfl ?_
        refine n_iinc (lv' := [(0, .ref (h 0)), (1, .int (nI x1)), (2, .int (nI x2)), (3, .int (nI k)), (4, .int (nI b)), (5, .int (nI (i + 1))), (6, .int (nI z)), (7, .int (nI (P2 (b * 6 + i + 1))))]) (q := 5) hc dX0_rank_210 rfl (by decide) [1, 2, 3, 4, 5, 0, 6, 7] rfl ?_
        refine g_goto (tgt := 139) hc dX0_rank_213 (by decide) ?_
        refine g_lv (lv' := [(0, .ref (h 0)), (1, .int (nI x1)), (2, .int (nI x2)), (3, .int (nI k)), (4, .int (nI b)), (5, .int (nI (i + 1)))]) [0, 1, 2, 3, 4, 5] rfl ?_
        exact ih2 hi2 (P3, S3, W3, A3, B3, R3, wc3, D3) ⟨by omega, hKI3⟩
      refine g_iload hc dX0_rank_139 5 rfl ?_
      refine g_aload_n hc dX0_rank_141 rfl 0 rfl ?_
      refine x_get hc 7 (by decide) q35 0 rfl rfl dX0_rank_142 rfl ?_
      refine g_iload hc dX0_rank_145 4 rfl ?_
      refine n_bald hc 3 0 rfl rfl (by omega) (by decide) dX0_rank_147 ?_
      refine g_iconst (v := nI 1) hc dX0_rank_148 (by decide) ?_
      refine n_isub hc dX0_rank_149 (by omega) ?_
      refine n_icmp_ge (tgt := 216) hc dX0_rank_150 (by decide) (by omega) (by omega) (fun c150 => ?_) (fun c150 => ?_)
      · skip
        refine n_iinc (lv' := [(0, .ref (h 0)), (1, .int (nI x1)), (2, .int (nI x2)), (3, .int (nI (k + 1))), (4, .int (nI b)), (5, .int (nI i))]) (q := 3) hc dX0_rank_216 rfl (by decide) [1, 2, 3, 0, 4, 5] rfl ?_
        refine g_goto (tgt := 77) hc dX0_rank_219 (by decide) ?_
        refine g_lv (lv' := [(0, .ref (h 0)), (1, .int (nI x1)), (2, .int (nI x2)), (3, .int (nI (k + 1)))]) [0, 1, 2, 3] rfl ?_
        exact ih hk ((P2, S2, W2, A2, B2, R2, wc2, D2), updN RW1 k b) (rk_end hKI (by omega))
      · skip
        refine g_iload hc dX0_rank_153 5 rfl ?_
        refine g_aload_n hc dX0_rank_155 rfl 0 rfl ?_
        refine x_get hc 9 (by decide) q37 0 rfl rfl dX0_rank_156 rfl ?_
        refine g_iload hc dX0_rank_159 4 rfl ?_
        refine n_bald hc 5 0 rfl rfl (by omega) (by decide) dX0_rank_161 ?_
        refine n_icmp_ne (tgt := 175) hc dX0_rank_162 (by decide) (by omega) (by omega) (fun c162 => ?_) (fun c162 => ?_)
        · skip
          refine g_iconst (v := nI 0) hc dX0_rank_175 (by decide) ?_
          exact j176 0 (by omega) (by rw [if_neg (by omega)])
        · skip
          refine g_aload_n hc dX0_rank_165 rfl 0 rfl ?_
          refine x_get hc 10 (by decide) q38 0 rfl rfl dX0_rank_166 rfl ?_
          refine g_iload hc dX0_rank_169 4 rfl ?_
          refine n_bald hc 6 0 rfl rfl (by omega) (by decide) dX0_rank_171 ?_
          refine g_goto (tgt := 176) hc dX0_rank_172 (by decide) ?_
          exact j176 _ (by omega) (by rw [if_pos (by omega), eB])
    refine g_iload_n hc dX0_rank_77 rfl 3 rfl ?_
    refine g_bipush (v := nI 66) hc dX0_rank_78 (by decide) ?_
    refine n_icmp_ge (tgt := 222) hc dX0_rank_80 (by decide) (by omega) (by omega) (fun c80 => ?_) (fun c80 => ?_)
    · skip
      refine g_iconst (v := nI 1) hc dX0_rank_222 (by decide) ?_
      exact absurd c80 (by omega)
    · skip
      refine g_aload_n hc dX0_rank_83 rfl 0 rfl ?_
      refine x_callI (n := 0) (As := []) (rest := []) hc (cX_bestCandidate h dB dS dI L 1 x1 x2 wc1 k P1 S1 W1 A1 B1 R1 RW1 D1 hb1.1 hb1.2.2.1 (fun i => by have := hb1.2.2.2.2.2.1 i; omega) (by omega)) (lw_V q121 q123 qs4 q18 q124) (by decide +kernel) (by decide) (by decide) rfl rfl (by simp [Value.category]) dX0_rank_84 (fun r84 u84 k84 => ?_)
      rcases bC_spec hI wc1 (Nat.le_refl _) with ⟨e0, hall⟩ | ⟨b, e0, hbw, hRb, hmin⟩
      · rw [e0] at k84
        subst k84
        refine g_istore (lv' := [(0, .ref (h 0)), (1, .int (nI x1)), (2, .int (nI x2)), (3, .int (nI k)), (4, .int (eN 0))]) hc dX0_rank_87 (by decide) [1, 2, 3, 4, 0] rfl ?_
        refine g_iload hc dX0_rank_89 4 rfl ?_
        refine e_if_ge (tgt := 96) hc dX0_rank_91 (by decide) (by decide) (fun y h => by cases h) (fun _ => ?_)
        refine g_iconst (v := nI 1) hc dX0_rank_94 (by decide) ?_
        exact hR _ (1, x1, x2, wc1, k, P1, S1, W1, A1, B1, R1, RW1, D1) _ _ ⟨rk_done hL hx1 hx2 hx3 hI hall, Or.inr ⟨x1, x2, es, et, hx1, hx2, hx3, rfl, rfl, rfl, rfl⟩⟩ dX0_rank_95
      · rw [e0] at k84
        subst k84
        refine g_top (v' := .int (nI b)) rfl ?_
        have hAS := (hI.2.1 b hbw).1
        refine g_istore (lv' := [(0, .ref (h 0)), (1, .int (nI x1)), (2, .int (nI x2)), (3, .int (nI k)), (4, .int (nI b))]) hc dX0_rank_87 (by decide) [1, 2, 3, 4, 0] rfl ?_
        refine g_iload hc dX0_rank_89 4 rfl ?_
        refine n_if_ge (tgt := 96) hc dX0_rank_91 (by decide) (by omega) ?_
        refine g_aload_n hc dX0_rank_96 rfl 0 rfl ?_
        refine x_get hc 11 (by decide) q39 0 rfl rfl dX0_rank_97 rfl ?_
        refine g_iload hc dX0_rank_100 4 rfl ?_
        refine g_aload_n hc dX0_rank_102 rfl 0 rfl ?_
        refine x_get hc 5 (by decide) q33 0 rfl rfl dX0_rank_103 rfl ?_
        refine n_i2b hc dX0_rank_106 (by omega) ?_
        refine g_top (v' := .int (eN (k + 1))) rfl ?_
        refine e_bast (ws' := XW h dB dS dI L 1 x1 x2 wc1 k P1 S1 W1 A1 B1 (updN R1 b (k + 1)) RW1 D1) hc 7 0 rfl rfl (by omega) (by decide) dX0_rank_107 (by omega) rfl ?_
        refine g_aload_n hc dX0_rank_108 rfl 0 rfl ?_
        refine x_get hc 12 (by decide) q40 0 rfl rfl dX0_rank_109 rfl ?_
        refine g_aload_n hc dX0_rank_112 rfl 0 rfl ?_
        refine x_get hc 5 (by decide) q33 0 rfl rfl dX0_rank_113 rfl ?_
        refine g_iload hc dX0_rank_116 4 rfl ?_
        refine n_i2b hc dX0_rank_118 (by omega) ?_
        refine n_bast (ws' := XW h dB dS dI L 1 x1 x2 wc1 k P1 S1 W1 A1 B1 (updN R1 b (k + 1)) (updN RW1 k b) D1) hc 8 0 rfl rfl (by omega) (by decide) dX0_rank_119 (by omega) rfl ?_
        refine g_aload_n hc dX0_rank_120 rfl 0 rfl ?_
        refine g_dup hc dX0_rank_121 rfl ?_
        refine x_get hc 5 (by decide) q33 0 rfl rfl dX0_rank_122 rfl ?_
        refine g_iconst (v := nI 1) hc dX0_rank_125 (by decide) ?_
        refine n_iadd hc dX0_rank_126 ?_
        refine x_put (ws' := XW h dB dS dI L 1 x1 x2 wc1 (k + 1) P1 S1 W1 A1 B1 (updN R1 b (k + 1)) (updN RW1 k b) D1) (ty := .int) hc 5 (by decide) q33 0 rfl rfl (by decide +kernel) rfl rfl (Nat.le_of_ble_eq_true rfl) dX0_rank_127 rfl rfl ?_
        refine g_aload_n hc dX0_rank_130 rfl 0 rfl ?_
        refine x_get hc 9 (by decide) q37 0 rfl rfl dX0_rank_131 rfl ?_
        refine g_iload hc dX0_rank_134 4 rfl ?_
        refine n_bald hc 5 0 rfl rfl (by omega) (by decide) dX0_rank_136 ?_
        refine g_istore (lv' := [(0, .ref (h 0)), (1, .int (nI x1)), (2, .int (nI x2)), (3, .int (nI k)), (4, .int (nI b)), (5, .int (nI (A1 b)))]) hc dX0_rank_137 (by decide) [1, 2, 3, 4, 5, 0] rfl ?_
        exact inner b hbw c80 hAS (A1 b) (P1, S1, W1, A1, B1, updN R1 b (k + 1), wc1, D1) (by omega) ⟨Nat.le_refl _, rk_pop hx1 hx2 hx3 hI hbw hRb hmin⟩
  have j35 : ∀ x1 x2 : Nat, x1 < 6 → x2 < 6 → x1 ≠ x2 → s = nI x1 → t = nI x2 → G Γ (XW h dB dS dI L kn fr to wc rc P S W A B R RW D) 35 [(0, .ref (h 0)), (1, .int (nI x1)), (2, .int (nI x2))] [] := by
    intro x1 x2 hx1 hx2 hx3 es et
    refine g_aload_n hc dX0_rank_35 rfl 0 rfl ?_
    refine g_iconst (v := nI 1) hc dX0_rank_36 (by decide) ?_
    refine x_put (ws' := XW h dB dS dI L 1 fr to wc rc P S W A B R RW D) (ty := .boolean) hc 1 (by decide) q29 0 rfl rfl (by decide +kernel) rfl rfl (Nat.le_of_ble_eq_true rfl) dX0_rank_37 rfl rfl ?_
    refine g_aload_n hc dX0_rank_40 rfl 0 rfl ?_
    refine g_iload_n hc dX0_rank_41 rfl 1 rfl ?_
    refine x_put (ws' := XW h dB dS dI L 1 x1 to wc rc P S W A B R RW D) (ty := .int) hc 2 (by decide) q30 0 rfl rfl (by decide +kernel) rfl rfl (Nat.le_of_ble_eq_true rfl) dX0_rank_42 rfl rfl ?_
    refine g_aload_n hc dX0_rank_45 rfl 0 rfl ?_
    refine g_iload_n hc dX0_rank_46 rfl 2 rfl ?_
    refine x_put (ws' := XW h dB dS dI L 1 x1 x2 wc rc P S W A B R RW D) (ty := .int) hc 3 (by decide) q31 0 rfl rfl (by decide +kernel) rfl rfl (Nat.le_of_ble_eq_true rfl) dX0_rank_47 rfl rfl ?_
    refine g_aload_n hc dX0_rank_50 rfl 0 rfl ?_
    refine g_iconst (v := nI 0) hc dX0_rank_51 (by decide) ?_
    refine x_put (ws' := XW h dB dS dI L 1 x1 x2 0 rc P S W A B R RW D) (ty := .int) hc 4 (by decide) q32 0 rfl rfl (by decide +kernel) rfl rfl (Nat.le_of_ble_eq_true rfl) dX0_rank_52 rfl rfl ?_
    refine g_aload_n hc dX0_rank_55 rfl 0 rfl ?_
    refine g_iconst (v := nI 0) hc dX0_rank_56 (by decide) ?_
    refine x_put (ws' := XW h dB dS dI L 1 x1 x2 0 0 P S W A B R RW D) (ty := .int) hc 5 (by decide) q33 0 rfl rfl (by decide +kernel) rfl rfl (Nat.le_of_ble_eq_true rfl) dX0_rank_57 rfl rfl ?_
    refine g_aload_n hc dX0_rank_60 rfl 0 rfl ?_
    refine x_get hc 6 (by decide) q34 0 rfl rfl dX0_rank_61 rfl ?_
    refine g_iconst (v := nI 0) hc dX0_rank_64 (by decide) ?_
    refine g_iload_n hc dX0_rank_65 rfl 1 rfl ?_
    refine n_i2b hc dX0_rank_66 (by omega) ?_
    refine n_bast (ws' := XW h dB dS dI L 1 x1 x2 0 0 (updN P 0 x1) S W A B R RW D) hc 2 0 rfl rfl (by omega) (by decide) dX0_rank_67 (by omega) rfl ?_
    refine g_aload_n hc dX0_rank_68 rfl 0 rfl ?_
    refine g_iconst (v := nI 0) hc dX0_rank_69 (by decide) ?_
    refine g_iconst (v := nI 0) hc dX0_rank_70 (by decide) ?_
    refine g_iconst (v := nI 0) hc dX0_rank_71 (by decide) ?_
    refine x_callV (n := 3) (As := [.int (nI 0), .int (nI 0), .int (nI 0)]) (rest := []) hc (cX_addCandidate h dB dS dI L 1 x1 x2 0 0 (updN P 0 x1) S W A B R RW D 0 0 0 hL (upd_lt hbd.1 hx1) hx2 (by decide) (by decide) (by decide) (fun _ => by decide)) (lw_V q105 q107 qs1 q18 q108) (by decide +kernel) (by decide) (by decide) rfl rfl (by simp [Value.category]) dX0_rank_72 (fun u72 k72 => ?_)
    obtain ⟨P3, S3, W3, A3, B3, R3, wc3, D3, he, hI⟩ := rk_first hL hx1 hx2 hx3 hbd D
    rw [he] at k72
    subst k72
    refine g_world (ws' := XW h dB dS dI L 1 x1 x2 wc3 0 P3 S3 W3 A3 B3 R3 RW D3) rfl ?_
    refine g_iconst (v := nI 0) hc dX0_rank_75 (by decide) ?_
    refine g_istore_n (lv' := [(0, .ref (h 0)), (1, .int (nI x1)), (2, .int (nI x2)), (3, .int (nI 0))]) hc dX0_rank_76 rfl (by decide) [1, 2, 3, 0] rfl ?_
    exact loops x1 x2 hx1 hx2 hx3 es et 0 ((P3, S3, W3, A3, B3, R3, wc3, D3), RW) (Nat.zero_le _) hI
  refine g_iload_n hc dX0_rank_0 rfl 1 rfl ?_
  refine g_iload_n hc dX0_rank_1 rfl 2 rfl ?_
  refine g_callS (n := 2) (As := [.int s, .int t]) (rest := []) hc (cX_isPair s t) (lw_S q78 q79 q18 q80) (by decide +kernel) (by decide) (by decide) rfl rfl (by simp [Value.category]) dX0_rank_2 (fun r2 k2 => ?_)
  rcases k2 with ⟨rfl, k2⟩ | ⟨rfl, k2⟩
  · obtain ⟨x1, x2, rfl, rfl, hx1, hx2, hx3⟩ := k2
    refine n_if_ne (tgt := 10) hc dX0_rank_5 (by decide) (by decide) (fun _ => ?_) (fun h => absurd h (by decide))
    refine g_aload_n hc dX0_rank_10 rfl 0 rfl ?_
    refine x_get hc 1 (by decide) q29 0 rfl rfl dX0_rank_11 rfl ?_
    refine n_if_eq (tgt := 35) hc dX0_rank_14 (by decide) (by omega) (fun c14 => ?_) (fun c14 => ?_)
    · skip
      exact j35 x1 x2 hx1 hx2 hx3 rfl rfl
    · skip
      refine g_aload_n hc dX0_rank_17 rfl 0 rfl ?_
      refine x_get hc 2 (by decide) q30 0 rfl rfl dX0_rank_18 rfl ?_
      refine g_iload_n hc dX0_rank_21 rfl 1 rfl ?_
      refine n_icmp_ne (tgt := 35) hc dX0_rank_22 (by decide) (by omega) (by omega) (fun c22 => ?_) (fun c22 => ?_)
      · skip
        exact j35 x1 x2 hx1 hx2 hx3 rfl rfl
      · skip
        refine g_aload_n hc dX0_rank_25 rfl 0 rfl ?_
        refine x_get hc 3 (by decide) q31 0 rfl rfl dX0_rank_26 rfl ?_
        refine g_iload_n hc dX0_rank_29 rfl 2 rfl ?_
        refine n_icmp_ne (tgt := 35) hc dX0_rank_30 (by decide) (by omega) (by omega) (fun c30 => ?_) (fun c30 => ?_)
        · skip
          exact j35 x1 x2 hx1 hx2 hx3 rfl rfl
        · skip
          refine g_iconst (v := nI 1) hc dX0_rank_33 (by decide) ?_
          have hk1 : kn = 1 := by omega
          exact hR _ (kn, fr, to, wc, rc, P, S, W, A, B, R, RW, D) _ _ ⟨⟨hL, hbd, hkn, hfr, hto, hwc, hrc, hfin⟩, Or.inr ⟨x1, x2, rfl, rfl, hx1, hx2, hx3, rfl, hk1, c22, c30⟩⟩ dX0_rank_34
  · skip
    refine n_if_ne (tgt := 10) hc dX0_rank_5 (by decide) (by decide) (fun h => absurd h (by decide)) (fun _ => ?_)
    refine g_iconst (v := nI 0) hc dX0_rank_8 (by decide) ?_
    exact hR _ (kn, fr, to, wc, rc, P, S, W, A, B, R, RW, D) _ _ ⟨⟨hL, hbd, hkn, hfr, hto, hwc, hrc, hfin⟩, Or.inl ⟨k2, rfl⟩⟩ dX0_rank_9
end
section
/-! what the queries answer, over the list of all ways in their order -/
def RSp (L : Nat → Nat) (s t : Nat) (Rs : List (List Nat)) : Prop := (∀ p, p ∈ Rs ↔ way L s t p) ∧ Rs.Pairwise (plt L)
theorem RSp_nodup {L : Nat → Nat} {s t : Nat} {Rs : List (List Nat)} (h : RSp L s t Rs) : Rs.Nodup := List.nodup_iff_pairwise_ne.mpr (h.2.imp (fun hab e => by subst e; exact plt_irrefl hab))
theorem RSp_uniq {L : Nat → Nat} {s t : Nat} {Rs Rs' : List (List Nat)} (h : RSp L s t Rs) (h' : RSp L s t Rs') : Rs = Rs' := by
  have hp : Rs.Perm Rs' := (List.perm_ext_iff_of_nodup (RSp_nodup h) (RSp_nodup h')).mpr (fun p => (h.1 p).trans (h'.1 p).symm)
  exact hp.eq_of_pairwise (le := plt L) (fun a b _ _ h1 h2 => (plt_asymm h1 h2).elim) h.2 h'.2
theorem RSp_65 {L : Nat → Nat} {s t : Nat} {Rs : List (List Nat)} (hs : s < 6) (ht : t < 6) (hst : s ≠ t) (h : RSp L s t Rs) : Rs.length ≤ 65 := ways_65 hs ht hst (RSp_nodup h) (fun p hp => (h.1 p).mp hp)
theorem XFin_RSp {L : Nat → Nat} {s t : Nat} {P S W RW : Nat → Nat} {rc : Nat} {Rs : List (List Nat)} (h : XFin L s t P S W RW rc Rs) : RSp L s t Rs := ⟨h.2.1, h.2.2.1⟩
def AnsQ (L : Nat → Nat) (s t : Int32) (N : Int32 → Prop) (F : Nat → Nat → List (List Nat) → Int32 → Prop) (r : Int32) : Prop := (¬ isPr s t ∧ N r) ∨ ∃ (s' t' : Nat) (Rs : List (List Nat)), s = nI s' ∧ t = nI t' ∧ s' < 6 ∧ t' < 6 ∧ s' ≠ t' ∧ RSp L s' t' Rs ∧ F s' t' Rs r
/-- the same for every list that is in order -/
def AnsA (L : Nat → Nat) (s t : Int32) (N : Int32 → Prop) (F : Nat → Nat → List (List Nat) → Int32 → Prop) (r : Int32) : Prop := (¬ isPr s t ∧ N r) ∨ ∃ (s' t' : Nat), s = nI s' ∧ t = nI t' ∧ s' < 6 ∧ t' < 6 ∧ s' ≠ t' ∧ ∀ Rs, RSp L s' t' Rs → F s' t' Rs r
theorem Ans_eq {L : Nat → Nat} {s t : Int32} {N : Int32 → Prop} {F : Nat → Nat → List (List Nat) → Int32 → Prop} {r r' : Int32} (hN : ∀ x y, N x → N y → x = y) (hF : ∀ s' t' Rs x y, s' < 6 → t' < 6 → F s' t' Rs x → F s' t' Rs y → x = y) (h : AnsQ L s t N F r) (h' : AnsA L s t N F r') : r = r' := by
  rcases h with ⟨h1, h2⟩ | ⟨s', t', Rs, h1, h2, h3, h4, h5, h6, h7⟩ <;> rcases h' with ⟨g1, g2⟩ | ⟨s2, t2, g1, g2, g3, g4, g5, g6⟩
  · exact hN _ _ h2 g2
  · exact absurd ⟨s2, t2, g1, g2, g3, g4, g5⟩ h1
  · exact absurd ⟨s', t', h1, h2, h3, h4, h5⟩ g1
  · have e1 := (nI_eq (show s' < 2 ^ 31 by omega) (show s2 < 2 ^ 31 by omega)).mp (h1.symm.trans g1)
    have e2 := (nI_eq (show t' < 2 ^ 31 by omega) (show t2 < 2 ^ 31 by omega)).mp (h2.symm.trans g2)
    subst e1; subst e2
    exact hF _ _ Rs _ _ h3 h4 h7 (g6 Rs h6)
def kth {α : Type} (l : List α) (k : Int32) : Option α := if 0 ≤ k.toInt then l[k.toInt.toNat]? else none
theorem kth_n {α : Type} (l : List α) {j : Nat} (h : j < 2147483648) : kth l (nI j) = l[j]? := by
  unfold kth
  rw [nI_toInt h, if_pos (by omega)]
  rfl
theorem kth_neg {α : Type} (l : List α) {k : Int32} (h : k < 0) : kth l k = none := by
  unfold kth
  rw [fa_lt] at h
  have : (0 : Int32).toInt = 0 := rfl
  rw [if_neg (by omega)]
theorem kth_ge {α : Type} (l : List α) {k : Int32} (hl : l.length < 2147483648) (h : nI l.length ≤ k) : kth l k = none := by
  unfold kth
  rw [fa_le, nI_toInt hl] at h
  rw [if_pos (by omega), List.getElem?_eq_none]
  omega
theorem ix_of {k : Int32} {n : Nat} (h1 : ¬ k < 0) (h2 : ¬ nI n ≤ k) (hn : n < 2147483648) : ∃ j, j < n ∧ k = nI j := by
  obtain ⟨j, hj, rfl⟩ := nI_of h1
  refine ⟨j, ?_, rfl⟩
  rcases Nat.lt_or_ge j n with h | h
  · exact h
  · exact absurd ((nI_leI hn hj).mpr h) h2
def lenA (L : Nat → Nat) (Rs : List (List Nat)) (k : Int32) : Int32 := match kth Rs k with
  | some p => nI (lenP L p)
  | none => eN 0
def sizA (Rs : List (List Nat)) (k : Int32) : Int32 := match kth Rs k with
  | some p => nI p.length
  | none => eN 0
def plcA (Rs : List (List Nat)) (k i : Int32) : Int32 := match kth Rs k with
  | some p => (match kth p i with
    | some v => nI v
    | none => eN 0)
  | none => eN 0
def witA (L : Nat → Nat) (Rs : List (List Nat)) (n : Int32) : Int32 := nI (Rs.takeWhile (fun p => decide (nI (lenP L p) ≤ n))).length
def shoA (L : Nat → Nat) (Rs : List (List Nat)) : Int32 := match Rs[0]? with
  | some p => witA L Rs (nI (lenP L p))
  | none => nI 0
def musF (s t : Nat) (Rs : List (List Nat)) (r : Int32) : Prop := ∃ x : Nat, r = nI x ∧ x < 64 ∧ ∀ v, v < 6 → (x.testBit v = true ↔ Rs ≠ [] ∧ v ≠ s ∧ v ≠ t ∧ ∀ p ∈ Rs, v ∈ p)
def avoA (Rs : List (List Nat)) (v : Nat) : Int32 := match Rs.findIdx? (fun p => decide (v ∉ p)) with
  | some k => nI k
  | none => eN 0
theorem musF_fun {s t : Nat} {Rs : List (List Nat)} {x y : Int32} (h : musF s t Rs x) (h' : musF s t Rs y) : x = y := by
  obtain ⟨a, rfl, ha, h1⟩ := h
  obtain ⟨b, rfl, hb, h2⟩ := h'
  have : a = b := by
    apply Nat.eq_of_testBit_eq
    intro v
    rcases Nat.lt_or_ge v 6 with hv | hv
    · have := (h1 v hv).trans (h2 v hv).symm
      cases hav : a.testBit v <;> cases hbv : b.testBit v <;> simp [hav, hbv] at this ⊢
    · rw [Nat.testBit_lt_two_pow (x := a) (Nat.lt_of_lt_of_le ha (Nat.pow_le_pow_right (n := 2) (by decide) hv)), Nat.testBit_lt_two_pow (x := b) (Nat.lt_of_lt_of_le hb (Nat.pow_le_pow_right (n := 2) (by decide) hv))]
  rw [this]
/-- takeWhile by its first failure -/
theorem takeWhile_len {α : Type} (p : α → Bool) : ∀ (l : List α) (c : Nat), c ≤ l.length → (∀ k (h : k < l.length), k < c → p l[k] = true) → (∀ h : c < l.length, p l[c] = false) → (l.takeWhile p).length = c := by
  intro l
  induction l with
  | nil => intro c hc _ _; simp at hc; subst hc; rfl
  | cons a l ih =>
    intro c hc h1 h2
    cases c with
    | zero =>
      have := h2 (by simp)
      simp at this
      rw [List.takeWhile_cons, if_neg (by rw [this]; decide)]
      rfl
    | succ c =>
      have := h1 0 (by simp) (by omega)
      simp at this
      rw [List.takeWhile_cons, if_pos this, List.length_cons]
      rw [ih c (by simpa using hc) (fun k hk hkc => by have := h1 (k + 1) (by simp; omega) (by omega); simpa using this) (fun hc' => by have := h2 (by simp; omega); simpa using this)]
theorem findIdx_some {α : Type} (p : α → Bool) : ∀ (l : List α) (c : Nat) (h : c < l.length), (∀ k (h : k < l.length), k < c → p l[k] = false) → p l[c] = true → l.findIdx? p = some c := by
  intro l c h h1 h2
  rw [List.findIdx?_eq_some_iff_getElem]
  exact ⟨h, h2, fun j hj => by rw [h1 j (by omega) hj]; decide⟩
theorem findIdx_none {α : Type} (p : α → Bool) (l : List α) (h1 : ∀ k (h : k < l.length), p l[k] = false) : l.findIdx? p = none := by
  rw [List.findIdx?_eq_none_iff]
  intro x hx
  obtain ⟨k, hk, rfl⟩ := List.mem_iff_getElem.mp hx
  exact h1 k hk
end
section
set_option maxRecDepth 100000
set_option maxHeartbeats 4000000
theorem n_ixor {Γ : GP} {cc : ByteArray} {nL : Nat} {own : String} {tys : List (ClassId × FieldType)} {lev : Nat} {ws : va_W} {pc : Nat} {lv : List (Nat × Value)} {st : List Value} (hc : GC Γ cc nL own tys lev) {x y : Nat} (hd : decode cc pc = .ok (.ixor, 1)) (k : G Γ ws (pc + 1) lv (.int (nI (x ^^^ y)) :: st)) : G Γ ws pc lv (.int (nI y) :: .int (nI x) :: st) := g_ixor hc hd (by rw [fb_xorI]; exact k)
def QP (L : Nat → Nat) (s t : Int32) (N : Int32 → Prop) (F : Nat → Nat → List (List Nat) → Int32 → Prop) (r : Int32) (u : XS) : Prop := XOKu L u ∧ AnsQ L s t N F r
def wayAtA (L : Nat → Nat) (s t k r : Int32) (u : XS) : Prop := XOKu L u ∧ ((¬ isPr s t ∧ r = eN 0) ∨ ∃ s' t' : Nat, s = nI s' ∧ t = nI t' ∧ s' < 6 ∧ t' < 6 ∧ s' ≠ t' ∧ u.1 = 1 ∧ u.2.1 = s' ∧ u.2.2.1 = t' ∧ ((r = eN 0 ∧ (k < 0 ∨ nI u.2.2.2.2.1 ≤ k)) ∨ ∃ j, k = nI j ∧ j < u.2.2.2.2.1 ∧ r = nI (u.2.2.2.2.2.2.2.2.2.2.2.1 j)))
theorem kth_out {α : Type} {Rs : List α} {rc : Nat} {k : Int32} (hl : Rs.length = rc) (hrc : rc ≤ 65) (h : k < 0 ∨ nI rc ≤ k) : kth Rs k = none := by
  rcases h with h | h
  · exact kth_neg Rs h
  · exact kth_ge Rs (by omega) (by rw [hl]; exact h)
theorem kth_in {α : Type} {Rs : List α} {j : Nat} (h : j < Rs.length) (hl : Rs.length ≤ 65) : kth Rs (nI j) = some Rs[j] := by
  rw [kth_n Rs (by omega), List.getElem?_eq_getElem h]
theorem ix_lt {k : Int32} {n : Nat} (h1 : ¬ k < 0) (h2 : k < nI n) (hn : n < 2147483648) : ∃ j, j < n ∧ k = nI j := by
  obtain ⟨j, hj, rfl⟩ := nI_of h1
  exact ⟨j, (nI_ltI hj hn).mp h2, rfl⟩
theorem nlt_le {k x : Int32} (h : ¬ k < x) : x ≤ k := fa_of_nlt h
theorem cX_wayAt (h : Nat → Nat) (dB dS dI : ClassId) (L : Nat → Nat) (kn fr to wc rc : Nat) (P S W A B R RW D : Nat → Nat) (s t k : Int32) (hok : XOK L kn fr to wc rc P S W A B R RW) : MI yX0_wayAt cX0_wayAt 4 .int 4 (XT dB dS dI) [.ref (h 0), .int s, .int t, .int k] (XW h dB dS dI L kn fr to wc rc P S W A B R RW D) (fun u : XS => XWu h dB dS dI L u) (fun r u => wayAtA L s t k r u) := by
  refine g_enterI (lv0 := [(0, .ref (h 0)), (1, .int s), (2, .int t), (3, .int k)]) (by decide) (Nat.le_of_ble_eq_true rfl) rfl (fun r u h => rfl) (fun Γ hc hR => ?_)
  refine g_aload_n hc dX0_wayAt_0 rfl 0 rfl ?_
  refine g_iload_n hc dX0_wayAt_1 rfl 1 rfl ?_
  refine g_iload_n hc dX0_wayAt_2 rfl 2 rfl ?_
  refine x_callI (n := 2) (As := [.int s, .int t]) (rest := []) hc (cX_rank h dB dS dI L kn fr to wc rc P S W A B R RW D s t hok) (lw_V q101 q103 qs0 q18 q104) (by decide +kernel) (by decide) (by decide) rfl rfl (by simp [Value.category]) dX0_wayAt_3 (fun r3 u3 k3 => ?_)
  obtain ⟨kn1, fr1, to1, wc1, rc1, P1, S1, W1, A1, B1, R1, RW1, D1⟩ := u3
  obtain ⟨hok1, hc1⟩ := k3
  have hok1 : XOK L kn1 fr1 to1 wc1 rc1 P1 S1 W1 A1 B1 R1 RW1 := hok1
  refine g_world (ws' := XW h dB dS dI L kn1 fr1 to1 wc1 rc1 P1 S1 W1 A1 B1 R1 RW1 D1) rfl ?_
  rcases hc1 with ⟨hn1, rfl⟩ | ⟨x1, x2, rfl, rfl, hx1, hx2, hx3, rfl, e1, e2, e3⟩
  · skip
    refine n_if_eq (tgt := 30) hc dX0_wayAt_6 (by decide) (by decide) (fun _ => ?_) (fun h => absurd h (by decide))
    refine g_iconst (v := eN 0) hc dX0_wayAt_30 (by decide) ?_
    exact hR _ (kn1, fr1, to1, wc1, rc1, P1, S1, W1, A1, B1, R1, RW1, D1) _ _ ⟨hok1, Or.inl ⟨hn1, rfl⟩⟩ dX0_wayAt_31
  · dsimp only at e1 e2 e3
    subst e1; subst e2; subst e3
    obtain ⟨_, Rs, hRs⟩ := hok1.2.2.2.2.2.2.2 rfl
    have hb1 := hok1.2.1
    have hrc1 : rc1 ≤ 65 := hok1.2.2.2.2.2.2.1
    refine n_if_eq (tgt := 30) hc dX0_wayAt_6 (by decide) (by decide) (fun h => absurd h (by decide)) (fun _ => ?_)
    refine g_iload_n hc dX0_wayAt_9 rfl 3 rfl ?_
    refine g_if_lt (tgt := 30) hc dX0_wayAt_10 (by decide) (fun c10 => ?_) (fun c10 => ?_)
    · skip
      refine g_iconst (v := eN 0) hc dX0_wayAt_30 (by decide) ?_
      exact hR _ (1, fr1, to1, wc1, rc1, P1, S1, W1, A1, B1, R1, RW1, D1) _ _ ⟨hok1, Or.inr ⟨fr1, to1, rfl, rfl, hx1, hx2, hx3, rfl, rfl, rfl, Or.inl ⟨rfl, Or.inl c10⟩⟩⟩ dX0_wayAt_31
    · skip
      refine g_iload_n hc dX0_wayAt_13 rfl 3 rfl ?_
      refine g_aload_n hc dX0_wayAt_14 rfl 0 rfl ?_
      refine x_get hc 5 (by decide) q33 0 rfl rfl dX0_wayAt_15 rfl ?_
      refine g_icmp_ge (tgt := 30) hc dX0_wayAt_18 (by decide) (fun c18 => ?_) (fun c18 => ?_)
      · skip
        refine g_iconst (v := eN 0) hc dX0_wayAt_30 (by decide) ?_
        exact hR _ (1, fr1, to1, wc1, rc1, P1, S1, W1, A1, B1, R1, RW1, D1) _ _ ⟨hok1, Or.inr ⟨fr1, to1, rfl, rfl, hx1, hx2, hx3, rfl, rfl, rfl, Or.inl ⟨rfl, Or.inr c18⟩⟩⟩ dX0_wayAt_31
      · skip
        obtain ⟨j, hj, rfl⟩ := ix_of c10 c18 (by omega)
        have hj65 := hb1.2.2.2.2.2.2 j
        refine g_aload_n hc dX0_wayAt_21 rfl 0 rfl ?_
        refine x_get hc 12 (by decide) q40 0 rfl rfl dX0_wayAt_22 rfl ?_
        refine g_iload_n hc dX0_wayAt_25 rfl 3 rfl ?_
        refine n_bald hc 8 0 rfl rfl (by omega) (by decide) dX0_wayAt_26 ?_
        refine g_goto (tgt := 31) hc dX0_wayAt_27 (by decide) ?_
        exact hR _ (1, fr1, to1, wc1, rc1, P1, S1, W1, A1, B1, R1, RW1, D1) _ _ ⟨hok1, Or.inr ⟨fr1, to1, rfl, rfl, hx1, hx2, hx3, rfl, rfl, rfl, Or.inr ⟨j, rfl, hj, rfl⟩⟩⟩ dX0_wayAt_31
theorem cX_ways (h : Nat → Nat) (dB dS dI : ClassId) (L : Nat → Nat) (kn fr to wc rc : Nat) (P S W A B R RW D : Nat → Nat) (s t : Int32) (hok : XOK L kn fr to wc rc P S W A B R RW) : MI yX0_ways cX0_ways 3 .int 4 (XT dB dS dI) [.ref (h 0), .int s, .int t] (XW h dB dS dI L kn fr to wc rc P S W A B R RW D) (fun u : XS => XWu h dB dS dI L u) (QP L s t (fun r => r = nI 0) (fun _ _ Rs r => r = nI Rs.length)) := by
  refine g_enterI (lv0 := [(0, .ref (h 0)), (1, .int s), (2, .int t)]) (by decide) (Nat.le_of_ble_eq_true rfl) rfl (fun r u h => rfl) (fun Γ hc hR => ?_)
  refine g_aload_n hc dX0_ways_0 rfl 0 rfl ?_
  refine g_iload_n hc dX0_ways_1 rfl 1 rfl ?_
  refine g_iload_n hc dX0_ways_2 rfl 2 rfl ?_
  refine x_callI (n := 2) (As := [.int s, .int t]) (rest := []) hc (cX_rank h dB dS dI L kn fr to wc rc P S W A B R RW D s t hok) (lw_V q101 q103 qs0 q18 q104) (by decide +kernel) (by decide) (by decide) rfl rfl (by simp [Value.category]) dX0_ways_3 (fun r3 u3 k3 => ?_)
  obtain ⟨kn1, fr1, to1, wc1, rc1, P1, S1, W1, A1, B1, R1, RW1, D1⟩ := u3
  obtain ⟨hok1, hc1⟩ := k3
  have hok1 : XOK L kn1 fr1 to1 wc1 rc1 P1 S1 W1 A1 B1 R1 RW1 := hok1
  refine g_world (ws' := XW h dB dS dI L kn1 fr1 to1 wc1 rc1 P1 S1 W1 A1 B1 R1 RW1 D1) rfl ?_
  rcases hc1 with ⟨hn1, rfl⟩ | ⟨x1, x2, rfl, rfl, hx1, hx2, hx3, rfl, e1, e2, e3⟩
  · skip
    refine n_if_eq (tgt := 16) hc dX0_ways_6 (by decide) (by decide) (fun _ => ?_) (fun h => absurd h (by decide))
    refine g_iconst (v := nI 0) hc dX0_ways_16 (by decide) ?_
    exact hR _ (kn1, fr1, to1, wc1, rc1, P1, S1, W1, A1, B1, R1, RW1, D1) _ _ ⟨hok1, Or.inl ⟨hn1, rfl⟩⟩ dX0_ways_17
  · dsimp only at e1 e2 e3
    subst e1; subst e2; subst e3
    obtain ⟨_, Rs, hRs⟩ := hok1.2.2.2.2.2.2.2 rfl
    have hb1 := hok1.2.1
    have hrc1 : rc1 ≤ 65 := hok1.2.2.2.2.2.2.1
    refine n_if_eq (tgt := 16) hc dX0_ways_6 (by decide) (by decide) (fun h => absurd h (by decide)) (fun _ => ?_)
    refine g_aload_n hc dX0_ways_9 rfl 0 rfl ?_
    refine x_get hc 5 (by decide) q33 0 rfl rfl dX0_ways_10 rfl ?_
    refine g_goto (tgt := 17) hc dX0_ways_13 (by decide) ?_
    exact hR _ (1, fr1, to1, wc1, rc1, P1, S1, W1, A1, B1, R1, RW1, D1) _ _ ⟨hok1, Or.inr ⟨fr1, to1, Rs, rfl, rfl, hx1, hx2, hx3, XFin_RSp hRs, by dsimp only; rw [hRs.1]⟩⟩ dX0_ways_17
theorem cX_length (h : Nat → Nat) (dB dS dI : ClassId) (L : Nat → Nat) (kn fr to wc rc : Nat) (P S W A B R RW D : Nat → Nat) (s t k : Int32) (hok : XOK L kn fr to wc rc P S W A B R RW) : MI yX0_length cX0_length 5 .int 5 (XT dB dS dI) [.ref (h 0), .int s, .int t, .int k] (XW h dB dS dI L kn fr to wc rc P S W A B R RW D) (fun u : XS => XWu h dB dS dI L u) (QP L s t (fun r => r = eN 0) (fun _ _ Rs r => r = lenA L Rs k)) := by
  refine g_enterI (lv0 := [(0, .ref (h 0)), (1, .int s), (2, .int t), (3, .int k)]) (by decide) (Nat.le_of_ble_eq_true rfl) rfl (fun r u h => rfl) (fun Γ hc hR => ?_)
  refine g_aload_n hc dX0_length_0 rfl 0 rfl ?_
  refine g_iload_n hc dX0_length_1 rfl 1 rfl ?_
  refine g_iload_n hc dX0_length_2 rfl 2 rfl ?_
  refine g_iload_n hc dX0_length_3 rfl 3 rfl ?_
  refine x_callI (n := 3) (As := [.int s, .int t, .int k]) (rest := []) hc (cX_wayAt h dB dS dI L kn fr to wc rc P S W A B R RW D s t k hok) (lw_V q133 q135 qs6 q18 q136) (by decide +kernel) (by decide) (by decide) rfl rfl (by simp [Value.category]) dX0_length_4 (fun r4 u4 k4 => ?_)
  obtain ⟨kn1, fr1, to1, wc1, rc1, P1, S1, W1, A1, B1, R1, RW1, D1⟩ := u4
  obtain ⟨hok1, hc1⟩ := k4
  have hok1 : XOK L kn1 fr1 to1 wc1 rc1 P1 S1 W1 A1 B1 R1 RW1 := hok1
  refine g_world (ws' := XW h dB dS dI L kn1 fr1 to1 wc1 rc1 P1 S1 W1 A1 B1 R1 RW1 D1) rfl ?_
  rcases hc1 with ⟨hn1, rfl⟩ | ⟨x1, x2, rfl, rfl, hx1, hx2, hx3, e1, e2, e3, hc2⟩
  · skip
    refine g_istore (lv' := [(0, .ref (h 0)), (1, .int s), (2, .int t), (3, .int k), (4, .int (eN 0))]) hc dX0_length_7 (by decide) [1, 2, 3, 4, 0] rfl ?_
    refine g_iload hc dX0_length_9 4 rfl ?_
    refine e_if_ge (tgt := 18) hc dX0_length_11 (by decide) (by decide) (fun y h => by cases h) (fun _ => ?_)
    refine g_iconst (v := eN 0) hc dX0_length_14 (by decide) ?_
    refine g_goto (tgt := 25) hc dX0_length_15 (by decide) ?_
    exact hR _ (kn1, fr1, to1, wc1, rc1, P1, S1, W1, A1, B1, R1, RW1, D1) _ _ ⟨hok1, Or.inl ⟨hn1, rfl⟩⟩ dX0_length_25
  · dsimp only at e1 e2 e3 hc2
    subst e1; subst e2; subst e3
    obtain ⟨_, Rs, hRs⟩ := hok1.2.2.2.2.2.2.2 rfl
    have hb1 := hok1.2.1
    have hrc1 : rc1 ≤ 65 := hok1.2.2.2.2.2.2.1
    have hRl : Rs.length = rc1 := hRs.1
    rcases hc2 with ⟨rfl, hk1⟩ | ⟨j, rfl, hj, rfl⟩
    · skip
      refine g_istore (lv' := [(0, .ref (h 0)), (1, .int (nI fr1)), (2, .int (nI to1)), (3, .int k), (4, .int (eN 0))]) hc dX0_length_7 (by decide) [1, 2, 3, 4, 0] rfl ?_
      refine g_iload hc dX0_length_9 4 rfl ?_
      refine e_if_ge (tgt := 18) hc dX0_length_11 (by decide) (by decide) (fun y h => by cases h) (fun _ => ?_)
      refine g_iconst (v := eN 0) hc dX0_length_14 (by decide) ?_
      refine g_goto (tgt := 25) hc dX0_length_15 (by decide) ?_
      exact hR _ (1, fr1, to1, wc1, rc1, P1, S1, W1, A1, B1, R1, RW1, D1) _ _ ⟨hok1, Or.inr ⟨fr1, to1, Rs, rfl, rfl, hx1, hx2, hx3, XFin_RSp hRs, by dsimp only; rw [lenA, kth_out hRl hrc1 hk1]⟩⟩ dX0_length_25
    · have hjl : j < Rs.length := by omega
      obtain ⟨g1, g2, g3, g4⟩ := hRs.2.2.2 j hjl
      have g5 := hb1.2.1 (RW1 j)
      have g6 := hb1.2.2.1 (RW1 j)
      refine g_istore (lv' := [(0, .ref (h 0)), (1, .int (nI fr1)), (2, .int (nI to1)), (3, .int (nI j)), (4, .int (nI (RW1 j)))]) hc dX0_length_7 (by decide) [1, 2, 3, 4, 0] rfl ?_
      refine g_iload hc dX0_length_9 4 rfl ?_
      refine n_if_ge (tgt := 18) hc dX0_length_11 (by decide) (by omega) ?_
      refine g_aload_n hc dX0_length_18 rfl 0 rfl ?_
      refine x_get hc 8 (by decide) q36 0 rfl rfl dX0_length_19 rfl ?_
      refine g_iload hc dX0_length_22 4 rfl ?_
      refine n_sald hc 4 1 rfl rfl (by omega) (by decide) dX0_length_24 ?_
      exact hR _ (1, fr1, to1, wc1, rc1, P1, S1, W1, A1, B1, R1, RW1, D1) _ _ ⟨hok1, Or.inr ⟨fr1, to1, Rs, rfl, rfl, hx1, hx2, hx3, XFin_RSp hRs, by dsimp only; rw [lenA, kth_in hjl (by omega), g3]⟩⟩ dX0_length_25
theorem cX_size (h : Nat → Nat) (dB dS dI : ClassId) (L : Nat → Nat) (kn fr to wc rc : Nat) (P S W A B R RW D : Nat → Nat) (s t k : Int32) (hok : XOK L kn fr to wc rc P S W A B R RW) : MI yX0_size cX0_size 5 .int 5 (XT dB dS dI) [.ref (h 0), .int s, .int t, .int k] (XW h dB dS dI L kn fr to wc rc P S W A B R RW D) (fun u : XS => XWu h dB dS dI L u) (QP L s t (fun r => r = eN 0) (fun _ _ Rs r => r = sizA Rs k)) := by
  refine g_enterI (lv0 := [(0, .ref (h 0)), (1, .int s), (2, .int t), (3, .int k)]) (by decide) (Nat.le_of_ble_eq_true rfl) rfl (fun r u h => rfl) (fun Γ hc hR => ?_)
  refine g_aload_n hc dX0_size_0 rfl 0 rfl ?_
  refine g_iload_n hc dX0_size_1 rfl 1 rfl ?_
  refine g_iload_n hc dX0_size_2 rfl 2 rfl ?_
  refine g_iload_n hc dX0_size_3 rfl 3 rfl ?_
  refine x_callI (n := 3) (As := [.int s, .int t, .int k]) (rest := []) hc (cX_wayAt h dB dS dI L kn fr to wc rc P S W A B R RW D s t k hok) (lw_V q133 q135 qs6 q18 q136) (by decide +kernel) (by decide) (by decide) rfl rfl (by simp [Value.category]) dX0_size_4 (fun r4 u4 k4 => ?_)
  obtain ⟨kn1, fr1, to1, wc1, rc1, P1, S1, W1, A1, B1, R1, RW1, D1⟩ := u4
  obtain ⟨hok1, hc1⟩ := k4
  have hok1 : XOK L kn1 fr1 to1 wc1 rc1 P1 S1 W1 A1 B1 R1 RW1 := hok1
  refine g_world (ws' := XW h dB dS dI L kn1 fr1 to1 wc1 rc1 P1 S1 W1 A1 B1 R1 RW1 D1) rfl ?_
  rcases hc1 with ⟨hn1, rfl⟩ | ⟨x1, x2, rfl, rfl, hx1, hx2, hx3, e1, e2, e3, hc2⟩
  · skip
    refine g_istore (lv' := [(0, .ref (h 0)), (1, .int s), (2, .int t), (3, .int k), (4, .int (eN 0))]) hc dX0_size_7 (by decide) [1, 2, 3, 4, 0] rfl ?_
    refine g_iload hc dX0_size_9 4 rfl ?_
    refine e_if_ge (tgt := 18) hc dX0_size_11 (by decide) (by decide) (fun y h => by cases h) (fun _ => ?_)
    refine g_iconst (v := eN 0) hc dX0_size_14 (by decide) ?_
    refine g_goto (tgt := 25) hc dX0_size_15 (by decide) ?_
    exact hR _ (kn1, fr1, to1, wc1, rc1, P1, S1, W1, A1, B1, R1, RW1, D1) _ _ ⟨hok1, Or.inl ⟨hn1, rfl⟩⟩ dX0_size_25
  · dsimp only at e1 e2 e3 hc2
    subst e1; subst e2; subst e3
    obtain ⟨_, Rs, hRs⟩ := hok1.2.2.2.2.2.2.2 rfl
    have hb1 := hok1.2.1
    have hrc1 : rc1 ≤ 65 := hok1.2.2.2.2.2.2.1
    have hRl : Rs.length = rc1 := hRs.1
    rcases hc2 with ⟨rfl, hk1⟩ | ⟨j, rfl, hj, rfl⟩
    · skip
      refine g_istore (lv' := [(0, .ref (h 0)), (1, .int (nI fr1)), (2, .int (nI to1)), (3, .int k), (4, .int (eN 0))]) hc dX0_size_7 (by decide) [1, 2, 3, 4, 0] rfl ?_
      refine g_iload hc dX0_size_9 4 rfl ?_
      refine e_if_ge (tgt := 18) hc dX0_size_11 (by decide) (by decide) (fun y h => by cases h) (fun _ => ?_)
      refine g_iconst (v := eN 0) hc dX0_size_14 (by decide) ?_
      refine g_goto (tgt := 25) hc dX0_size_15 (by decide) ?_
      exact hR _ (1, fr1, to1, wc1, rc1, P1, S1, W1, A1, B1, R1, RW1, D1) _ _ ⟨hok1, Or.inr ⟨fr1, to1, Rs, rfl, rfl, hx1, hx2, hx3, XFin_RSp hRs, by dsimp only; rw [sizA, kth_out hRl hrc1 hk1]⟩⟩ dX0_size_25
    · have hjl : j < Rs.length := by omega
      obtain ⟨g1, g2, g3, g4⟩ := hRs.2.2.2 j hjl
      have g5 := hb1.2.1 (RW1 j)
      have g6 := hb1.2.2.1 (RW1 j)
      refine g_istore (lv' := [(0, .ref (h 0)), (1, .int (nI fr1)), (2, .int (nI to1)), (3, .int (nI j)), (4, .int (nI (RW1 j)))]) hc dX0_size_7 (by decide) [1, 2, 3, 4, 0] rfl ?_
      refine g_iload hc dX0_size_9 4 rfl ?_
      refine n_if_ge (tgt := 18) hc dX0_size_11 (by decide) (by omega) ?_
      refine g_aload_n hc dX0_size_18 rfl 0 rfl ?_
      refine x_get hc 7 (by decide) q35 0 rfl rfl dX0_size_19 rfl ?_
      refine g_iload hc dX0_size_22 4 rfl ?_
      refine n_bald hc 3 0 rfl rfl (by omega) (by decide) dX0_size_24 ?_
      exact hR _ (1, fr1, to1, wc1, rc1, P1, S1, W1, A1, B1, R1, RW1, D1) _ _ ⟨hok1, Or.inr ⟨fr1, to1, Rs, rfl, rfl, hx1, hx2, hx3, XFin_RSp hRs, by dsimp only; rw [sizA, kth_in hjl (by omega), g2]⟩⟩ dX0_size_25
theorem plc_at {P : Nat → Nat} {n w m : Nat} {p : List Nat} (h : rowP P n w = p) (hn : n = p.length) (hm : m < n) (h6 : n ≤ 6) : kth p (nI m) = some (P (w * 6 + m)) := by
  rw [kth_n p (by omega), ← h, rowP_get P n w m hm]
theorem plc_out {n : Nat} {p : List Nat} {i : Int32} (hn : n = p.length) (h6 : n ≤ 6) (h : i < 0 ∨ nI n ≤ i) : kth p i = none := kth_out hn.symm (by omega) h
theorem cX_place (h : Nat → Nat) (dB dS dI : ClassId) (L : Nat → Nat) (kn fr to wc rc : Nat) (P S W A B R RW D : Nat → Nat) (s t k i : Int32) (hok : XOK L kn fr to wc rc P S W A B R RW) : MI yX0_place cX0_place 6 .int 5 (XT dB dS dI) [.ref (h 0), .int s, .int t, .int k, .int i] (XW h dB dS dI L kn fr to wc rc P S W A B R RW D) (fun u : XS => XWu h dB dS dI L u) (QP L s t (fun r => r = eN 0) (fun _ _ Rs r => r = plcA Rs k i)) := by
  refine g_enterI (lv0 := [(0, .ref (h 0)), (1, .int s), (2, .int t), (3, .int k), (4, .int i)]) (by decide) (Nat.le_of_ble_eq_true rfl) rfl (fun r u h => rfl) (fun Γ hc hR => ?_)
  refine g_aload_n hc dX0_place_0 rfl 0 rfl ?_
  refine g_iload_n hc dX0_place_1 rfl 1 rfl ?_
  refine g_iload_n hc dX0_place_2 rfl 2 rfl ?_
  refine g_iload_n hc dX0_place_3 rfl 3 rfl ?_
  refine x_callI (n := 3) (As := [.int s, .int t, .int k]) (rest := []) hc (cX_wayAt h dB dS dI L kn fr to wc rc P S W A B R RW D s t k hok) (lw_V q133 q135 qs6 q18 q136) (by decide +kernel) (by decide) (by decide) rfl rfl (by simp [Value.category]) dX0_place_4 (fun r4 u4 k4 => ?_)
  obtain ⟨kn1, fr1, to1, wc1, rc1, P1, S1, W1, A1, B1, R1, RW1, D1⟩ := u4
  obtain ⟨hok1, hc1⟩ := k4
  have hok1 : XOK L kn1 fr1 to1 wc1 rc1 P1 S1 W1 A1 B1 R1 RW1 := hok1
  refine g_world (ws' := XW h dB dS dI L kn1 fr1 to1 wc1 rc1 P1 S1 W1 A1 B1 R1 RW1 D1) rfl ?_
  rcases hc1 with ⟨hn1, rfl⟩ | ⟨x1, x2, rfl, rfl, hx1, hx2, hx3, e1, e2, e3, hc2⟩
  · skip
    refine g_istore (lv' := [(0, .ref (h 0)), (1, .int s), (2, .int t), (3, .int k), (4, .int i), (5, .int (eN 0))]) hc dX0_place_7 (by decide) [1, 2, 3, 4, 5, 0] rfl ?_
    refine g_iload hc dX0_place_9 5 rfl ?_
    refine e_if_lt (tgt := 31) hc dX0_place_11 (by decide) (by decide) (fun _ => ?_) (fun y h => by cases h)
    refine g_iconst (v := eN 0) hc dX0_place_31 (by decide) ?_
    refine g_goto (tgt := 48) hc dX0_place_32 (by decide) ?_
    exact hR _ (kn1, fr1, to1, wc1, rc1, P1, S1, W1, A1, B1, R1, RW1, D1) _ _ ⟨hok1, Or.inl ⟨hn1, rfl⟩⟩ dX0_place_48
  · dsimp only at e1 e2 e3 hc2
    subst e1; subst e2; subst e3
    obtain ⟨_, Rs, hRs⟩ := hok1.2.2.2.2.2.2.2 rfl
    have hb1 := hok1.2.1
    have hrc1 : rc1 ≤ 65 := hok1.2.2.2.2.2.2.1
    have hRl : Rs.length = rc1 := hRs.1
    rcases hc2 with ⟨rfl, hk1⟩ | ⟨j, rfl, hj, rfl⟩
    · skip
      refine g_istore (lv' := [(0, .ref (h 0)), (1, .int (nI fr1)), (2, .int (nI to1)), (3, .int k), (4, .int i), (5, .int (eN 0))]) hc dX0_place_7 (by decide) [1, 2, 3, 4, 5, 0] rfl ?_
      refine g_iload hc dX0_place_9 5 rfl ?_
      refine e_if_lt (tgt := 31) hc dX0_place_11 (by decide) (by decide) (fun _ => ?_) (fun y h => by cases h)
      refine g_iconst (v := eN 0) hc dX0_place_31 (by decide) ?_
      refine g_goto (tgt := 48) hc dX0_place_32 (by decide) ?_
      exact hR _ (1, fr1, to1, wc1, rc1, P1, S1, W1, A1, B1, R1, RW1, D1) _ _ ⟨hok1, Or.inr ⟨fr1, to1, Rs, rfl, rfl, hx1, hx2, hx3, XFin_RSp hRs, by dsimp only; rw [plcA, kth_out hRl hrc1 hk1]⟩⟩ dX0_place_48
    · have hjl : j < Rs.length := by omega
      obtain ⟨g1, g2, g3, g4⟩ := hRs.2.2.2 j hjl
      have g5 := hb1.2.1 (RW1 j)
      have g6 := hb1.2.2.1 (RW1 j)
      refine g_istore (lv' := [(0, .ref (h 0)), (1, .int (nI fr1)), (2, .int (nI to1)), (3, .int (nI j)), (4, .int i), (5, .int (nI (RW1 j)))]) hc dX0_place_7 (by decide) [1, 2, 3, 4, 5, 0] rfl ?_
      refine g_iload hc dX0_place_9 5 rfl ?_
      refine n_if_lt (tgt := 31) hc dX0_place_11 (by decide) (by omega) ?_
      refine g_iload hc dX0_place_14 4 rfl ?_
      refine g_if_lt (tgt := 31) hc dX0_place_16 (by decide) (fun c16 => ?_) (fun c16 => ?_)
      · skip
        refine g_iconst (v := eN 0) hc dX0_place_31 (by decide) ?_
        refine g_goto (tgt := 48) hc dX0_place_32 (by decide) ?_
        exact hR _ (1, fr1, to1, wc1, rc1, P1, S1, W1, A1, B1, R1, RW1, D1) _ _ ⟨hok1, Or.inr ⟨fr1, to1, Rs, rfl, rfl, hx1, hx2, hx3, XFin_RSp hRs, by dsimp only; rw [plcA, kth_in hjl (by omega)]; dsimp only; rw [plc_out g2 g5 (Or.inl c16)]⟩⟩ dX0_place_48
      · skip
        refine g_iload hc dX0_place_19 4 rfl ?_
        refine g_aload_n hc dX0_place_21 rfl 0 rfl ?_
        refine x_get hc 7 (by decide) q35 0 rfl rfl dX0_place_22 rfl ?_
        refine g_iload hc dX0_place_25 5 rfl ?_
        refine n_bald hc 3 0 rfl rfl (by omega) (by decide) dX0_place_27 ?_
        refine g_icmp_lt (tgt := 35) hc dX0_place_28 (by decide) (fun c28 => ?_) (fun c28 => ?_)
        · skip
          obtain ⟨m, hm, rfl⟩ := ix_lt c16 c28 (by omega)
          refine g_aload_n hc dX0_place_35 rfl 0 rfl ?_
          refine x_get hc 6 (by decide) q34 0 rfl rfl dX0_place_36 rfl ?_
          refine g_iload hc dX0_place_39 5 rfl ?_
          refine g_bipush (v := nI 6) hc dX0_place_41 (by decide) ?_
          refine n_imul hc dX0_place_43 ?_
          refine g_iload hc dX0_place_44 4 rfl ?_
          refine n_iadd hc dX0_place_46 ?_
          refine n_bald hc 2 0 rfl rfl (by omega) (by decide) dX0_place_47 ?_
          exact hR _ (1, fr1, to1, wc1, rc1, P1, S1, W1, A1, B1, R1, RW1, D1) _ _ ⟨hok1, Or.inr ⟨fr1, to1, Rs, rfl, rfl, hx1, hx2, hx3, XFin_RSp hRs, by dsimp only; rw [plcA, kth_in hjl (by omega)]; dsimp only; rw [plc_at g4 g2 hm g5]⟩⟩ dX0_place_48
        · skip
          refine g_iconst (v := eN 0) hc dX0_place_31 (by decide) ?_
          refine g_goto (tgt := 48) hc dX0_place_32 (by decide) ?_
          exact hR _ (1, fr1, to1, wc1, rc1, P1, S1, W1, A1, B1, R1, RW1, D1) _ _ ⟨hok1, Or.inr ⟨fr1, to1, Rs, rfl, rfl, hx1, hx2, hx3, XFin_RSp hRs, by dsimp only; rw [plcA, kth_in hjl (by omega)]; dsimp only; rw [plc_out g2 g5 (Or.inr (nlt_le c28))]⟩⟩ dX0_place_48
theorem wit_len {L : Nat → Nat} {s t : Nat} {P S W RW : Nat → Nat} {rc : Nat} {Rs : List (List Nat)} (h : XFin L s t P S W RW rc Rs) {n : Int32} {c : Nat} (hc : c ≤ rc) (h1 : ∀ k, k < c → nI (W (RW k)) ≤ n) (h2 : c < rc → n < nI (W (RW c))) : nI c = witA L Rs n := by
  have hl := h.1
  rw [witA, takeWhile_len _ Rs c (by omega)]
  · intro k hk hkc
    rw [decide_eq_true_eq, ← (h.2.2.2 k hk).2.2.1]
    exact h1 k hkc
  · intro hcl
    have := h2 (by omega)
    rw [(h.2.2.2 c hcl).2.2.1] at this
    rw [decide_eq_false_iff_not]
    exact (fa_of_lt this).2.1
theorem cX_within (h : Nat → Nat) (dB dS dI : ClassId) (L : Nat → Nat) (kn fr to wc rc : Nat) (P S W A B R RW D : Nat → Nat) (s t n : Int32) (hok : XOK L kn fr to wc rc P S W A B R RW) : MI yX0_within cX0_within 5 .int 4 (XT dB dS dI) [.ref (h 0), .int s, .int t, .int n] (XW h dB dS dI L kn fr to wc rc P S W A B R RW D) (fun u : XS => XWu h dB dS dI L u) (QP L s t (fun r => r = nI 0) (fun _ _ Rs r => r = witA L Rs n)) := by
  refine g_enterI (lv0 := [(0, .ref (h 0)), (1, .int s), (2, .int t), (3, .int n)]) (by decide) (Nat.le_of_ble_eq_true rfl) rfl (fun r u h => rfl) (fun Γ hc hR => ?_)
  refine g_aload_n hc dX0_within_0 rfl 0 rfl ?_
  refine g_iload_n hc dX0_within_1 rfl 1 rfl ?_
  refine g_iload_n hc dX0_within_2 rfl 2 rfl ?_
  refine x_callI (n := 2) (As := [.int s, .int t]) (rest := []) hc (cX_rank h dB dS dI L kn fr to wc rc P S W A B R RW D s t hok) (lw_V q101 q103 qs0 q18 q104) (by decide +kernel) (by decide) (by decide) rfl rfl (by simp [Value.category]) dX0_within_3 (fun r3 u3 k3 => ?_)
  obtain ⟨kn1, fr1, to1, wc1, rc1, P1, S1, W1, A1, B1, R1, RW1, D1⟩ := u3
  obtain ⟨hok1, hc1⟩ := k3
  have hok1 : XOK L kn1 fr1 to1 wc1 rc1 P1 S1 W1 A1 B1 R1 RW1 := hok1
  refine g_world (ws' := XW h dB dS dI L kn1 fr1 to1 wc1 rc1 P1 S1 W1 A1 B1 R1 RW1 D1) rfl ?_
  rcases hc1 with ⟨hn1, rfl⟩ | ⟨x1, x2, rfl, rfl, hx1, hx2, hx3, rfl, e1, e2, e3⟩
  · skip
    refine n_if_ne (tgt := 11) hc dX0_within_6 (by decide) (by decide) (fun h => absurd h (by decide)) (fun _ => ?_)
    refine g_iconst (v := nI 0) hc dX0_within_9 (by decide) ?_
    exact hR _ (kn1, fr1, to1, wc1, rc1, P1, S1, W1, A1, B1, R1, RW1, D1) _ _ ⟨hok1, Or.inl ⟨hn1, rfl⟩⟩ dX0_within_10
  · dsimp only at e1 e2 e3
    subst e1; subst e2; subst e3
    obtain ⟨_, Rs, hRs⟩ := hok1.2.2.2.2.2.2.2 rfl
    have hb1 := hok1.2.1
    have hrc1 : rc1 ≤ 65 := hok1.2.2.2.2.2.2.1
    refine n_if_ne (tgt := 11) hc dX0_within_6 (by decide) (by decide) (fun _ => ?_) (fun h => absurd h (by decide))
    refine g_iconst (v := nI 0) hc dX0_within_11 (by decide) ?_
    refine g_istore (lv' := [(0, .ref (h 0)), (1, .int (nI fr1)), (2, .int (nI to1)), (3, .int n), (4, .int (nI 0))]) hc dX0_within_12 (by decide) [1, 2, 3, 4, 0] rfl ?_
    have loop : ∀ (c : Nat) (_ : Unit), c ≤ rc1 → (∀ k, k < c → nI (W1 (RW1 k)) ≤ n) → G Γ (XW h dB dS dI L 1 fr1 to1 wc1 rc1 P1 S1 W1 A1 B1 R1 RW1 D1) 14 [(0, .ref (h 0)), (1, .int (nI fr1)), (2, .int (nI to1)), (3, .int n), (4, .int (nI c))] [] := by
      refine up_loop rc1 _ _ ?_
      intro c _ hcr hI ih
      have g1 := hb1.2.2.2.2.2.2 c
      refine g_iload hc dX0_within_14 4 rfl ?_
      refine g_aload_n hc dX0_within_16 rfl 0 rfl ?_
      refine x_get hc 5 (by decide) q33 0 rfl rfl dX0_within_17 rfl ?_
      refine n_icmp_ge (tgt := 45) hc dX0_within_20 (by decide) (by omega) (by omega) (fun c20 => ?_) (fun c20 => ?_)
      · skip
        refine g_iload hc dX0_within_45 4 rfl ?_
        exact hR _ (1, fr1, to1, wc1, rc1, P1, S1, W1, A1, B1, R1, RW1, D1) _ _ ⟨hok1, Or.inr ⟨fr1, to1, Rs, rfl, rfl, hx1, hx2, hx3, XFin_RSp hRs, by exact wit_len hRs hcr hI (fun hh => by omega)⟩⟩ dX0_within_47
      · skip
        refine g_aload_n hc dX0_within_23 rfl 0 rfl ?_
        refine x_get hc 8 (by decide) q36 0 rfl rfl dX0_within_24 rfl ?_
        refine g_aload_n hc dX0_within_27 rfl 0 rfl ?_
        refine x_get hc 12 (by decide) q40 0 rfl rfl dX0_within_28 rfl ?_
        refine g_iload hc dX0_within_31 4 rfl ?_
        refine n_bald hc 8 0 rfl rfl (by omega) (by decide) dX0_within_33 ?_
        refine n_sald hc 4 1 rfl rfl (by omega) (by decide) dX0_within_34 ?_
        refine g_iload_n hc dX0_within_35 rfl 3 rfl ?_
        refine g_icmp_gt (tgt := 45) hc dX0_within_36 (by decide) (fun c36 => ?_) (fun c36 => ?_)
        · skip
          refine g_iload hc dX0_within_45 4 rfl ?_
          exact hR _ (1, fr1, to1, wc1, rc1, P1, S1, W1, A1, B1, R1, RW1, D1) _ _ ⟨hok1, Or.inr ⟨fr1, to1, Rs, rfl, rfl, hx1, hx2, hx3, XFin_RSp hRs, by exact wit_len hRs hcr hI (fun _ => c36)⟩⟩ dX0_within_47
        · skip
          refine n_iinc (lv' := [(0, .ref (h 0)), (1, .int (nI fr1)), (2, .int (nI to1)), (3, .int n), (4, .int (nI (c + 1)))]) (q := 4) hc dX0_within_39 rfl (by decide) [1, 2, 3, 4, 0] rfl ?_
          refine g_goto (tgt := 14) hc dX0_within_42 (by decide) ?_
          exact ih c20 () (lt_s hI (fa_of_nlt c36))
    exact loop 0 () (Nat.zero_le _) (fun k hk => absurd hk (by omega))
theorem cX_shortest (h : Nat → Nat) (dB dS dI : ClassId) (L : Nat → Nat) (kn fr to wc rc : Nat) (P S W A B R RW D : Nat → Nat) (s t : Int32) (hok : XOK L kn fr to wc rc P S W A B R RW) : MI yX0_shortest cX0_shortest 4 .int 6 (XT dB dS dI) [.ref (h 0), .int s, .int t] (XW h dB dS dI L kn fr to wc rc P S W A B R RW D) (fun u : XS => XWu h dB dS dI L u) (QP L s t (fun r => r = nI 0) (fun _ _ Rs r => r = shoA L Rs)) := by
  refine g_enterI (lv0 := [(0, .ref (h 0)), (1, .int s), (2, .int t)]) (by decide) (Nat.le_of_ble_eq_true rfl) rfl (fun r u h => rfl) (fun Γ hc hR => ?_)
  refine g_aload_n hc dX0_shortest_0 rfl 0 rfl ?_
  refine g_iload_n hc dX0_shortest_1 rfl 1 rfl ?_
  refine g_iload_n hc dX0_shortest_2 rfl 2 rfl ?_
  refine g_iconst (v := nI 0) hc dX0_shortest_3 (by decide) ?_
  refine x_callI (n := 3) (As := [.int s, .int t, .int (nI 0)]) (rest := []) hc (cX_length h dB dS dI L kn fr to wc rc P S W A B R RW D s t (nI 0) hok) (lw_V q153 q130 q131 q18 q132) (by decide +kernel) (by decide) (by decide) rfl rfl (by simp [Value.category]) dX0_shortest_4 (fun r4 u4 k4 => ?_)
  obtain ⟨kn1, fr1, to1, wc1, rc1, P1, S1, W1, A1, B1, R1, RW1, D1⟩ := u4
  obtain ⟨hok1, hc1⟩ := k4
  have hok1 : XOK L kn1 fr1 to1 wc1 rc1 P1 S1 W1 A1 B1 R1 RW1 := hok1
  refine g_world (ws' := XW h dB dS dI L kn1 fr1 to1 wc1 rc1 P1 S1 W1 A1 B1 R1 RW1 D1) rfl ?_
  rcases hc1 with ⟨hn1, rfl⟩ | ⟨x1, x2, Rs, e1, e2, hx1, hx2, hx3, hRs, e3⟩
  · skip
    refine g_istore_n (lv' := [(0, .ref (h 0)), (1, .int s), (2, .int t), (3, .int (eN 0))]) hc dX0_shortest_7 rfl (by decide) [1, 2, 3, 0] rfl ?_
    refine g_iload_n hc dX0_shortest_8 rfl 3 rfl ?_
    refine e_if_ge (tgt := 16) hc dX0_shortest_9 (by decide) (by decide) (fun y h => by cases h) (fun _ => ?_)
    refine g_iconst (v := nI 0) hc dX0_shortest_12 (by decide) ?_
    refine g_goto (tgt := 23) hc dX0_shortest_13 (by decide) ?_
    exact hR _ (kn1, fr1, to1, wc1, rc1, P1, S1, W1, A1, B1, R1, RW1, D1) _ _ ⟨hok1, Or.inl ⟨hn1, rfl⟩⟩ dX0_shortest_23
  · rw [lenA, show nI 0 = nI 0 from rfl, kth_n Rs (by decide)] at e3
    cases h0 : Rs[0]? with
    | none =>
      rw [h0] at e3
      subst e3
      refine g_istore_n (lv' := [(0, .ref (h 0)), (1, .int s), (2, .int t), (3, .int (eN 0))]) hc dX0_shortest_7 rfl (by decide) [1, 2, 3, 0] rfl ?_
      refine g_iload_n hc dX0_shortest_8 rfl 3 rfl ?_
      refine e_if_ge (tgt := 16) hc dX0_shortest_9 (by decide) (by decide) (fun y h => by cases h) (fun _ => ?_)
      refine g_iconst (v := nI 0) hc dX0_shortest_12 (by decide) ?_
      refine g_goto (tgt := 23) hc dX0_shortest_13 (by decide) ?_
      exact hR _ (kn1, fr1, to1, wc1, rc1, P1, S1, W1, A1, B1, R1, RW1, D1) _ _ ⟨hok1, Or.inr ⟨x1, x2, Rs, e1, e2, hx1, hx2, hx3, hRs, by dsimp only; rw [shoA, h0]⟩⟩ dX0_shortest_23
    | some p0 =>
      rw [h0] at e3
      dsimp only at e3
      subst e3
      have hl0 : lenP L p0 ≤ 120 := by have h1 := way_len6 ((hRs.1 p0).mp (List.mem_of_getElem? h0)); have h2 := lenP_le hok1.1 p0; omega
      refine g_istore_n (lv' := [(0, .ref (h 0)), (1, .int s), (2, .int t), (3, .int (nI (lenP L p0)))]) hc dX0_shortest_7 rfl (by decide) [1, 2, 3, 0] rfl ?_
      refine g_iload_n hc dX0_shortest_8 rfl 3 rfl ?_
      refine n_if_ge (tgt := 16) hc dX0_shortest_9 (by decide) (by omega) ?_
      refine g_aload_n hc dX0_shortest_16 rfl 0 rfl ?_
      refine g_iload_n hc dX0_shortest_17 rfl 1 rfl ?_
      refine g_iload_n hc dX0_shortest_18 rfl 2 rfl ?_
      refine g_iload_n hc dX0_shortest_19 rfl 3 rfl ?_
      refine x_callI (n := 3) (As := [.int s, .int t, .int (nI (lenP L p0))]) (rest := []) hc (cX_within h dB dS dI L kn1 fr1 to1 wc1 rc1 P1 S1 W1 A1 B1 R1 RW1 D1 s t (nI (lenP L p0)) hok1) (lw_V q154 q146 q147 q18 q148) (by decide +kernel) (by decide) (by decide) rfl rfl (by simp [Value.category]) dX0_shortest_20 (fun r20 u20 k20 => ?_)
      obtain ⟨hok2, hc2⟩ := k20
      refine hR _ u20 _ _ ⟨hok2, Or.inr ⟨x1, x2, Rs, e1, e2, hx1, hx2, hx3, hRs, ?_⟩⟩ dX0_shortest_23
      rcases hc2 with ⟨hn2, _⟩ | ⟨y1, y2, Rs2, f1, f2, hy1, hy2, hy3, hRs2, f3⟩
      · exact absurd ⟨x1, x2, e1, e2, hx1, hx2, hx3⟩ hn2
      · have q1 := (nI_eq (show x1 < 2 ^ 31 by omega) (show y1 < 2 ^ 31 by omega)).mp (e1.symm.trans f1)
        have q2 := (nI_eq (show x2 < 2 ^ 31 by omega) (show y2 < 2 ^ 31 by omega)).mp (e2.symm.trans f2)
        subst q1; subst q2
        rw [RSp_uniq hRs2 hRs] at f3
        try dsimp only at f3 ⊢
        rw [f3, shoA, h0]
end
section
set_option maxRecDepth 100000
set_option maxHeartbeats 4000000
theorem mus0 : ∀ s, s < 6 → ∀ t, t < 6 → (63 &&& ((1 * 2 ^ s ||| 1 * 2 ^ t) ^^^ 4294967295)) < 64 ∧ ∀ v, v < 6 → ((63 &&& ((1 * 2 ^ s ||| 1 * 2 ^ t) ^^^ 4294967295)).testBit v = true ↔ v ≠ s ∧ v ≠ t) := by decide +kernel
theorem row_in {L : Nat → Nat} {s t : Nat} {P S W RW : Nat → Nat} {rc : Nat} {Rs : List (List Nat)} (h : XFin L s t P S W RW rc Rs) {k : Nat} (hk : k < Rs.length) (v : Nat) : (bef P (RW k) (S (RW k))).testBit v = true ↔ v ∈ Rs[k] := by
  rw [bef_bit, (h.2.2.2 k hk).2.2.2]
theorem and_lt64 {a b : Nat} (ha : a < 64) : a &&& b < 64 := Nat.lt_of_le_of_lt Nat.and_le_left ha
def musI (s t : Nat) (Rs : List (List Nat)) (k x : Nat) : Prop := x < 64 ∧ ∀ v, v < 6 → (x.testBit v = true ↔ v ≠ s ∧ v ≠ t ∧ ∀ j (h : j < Rs.length), j < k → v ∈ Rs[j])
theorem musI_0 {s t : Nat} (hs : s < 6) (ht : t < 6) (Rs : List (List Nat)) : musI s t Rs 0 (63 &&& ((1 * 2 ^ s ||| 1 * 2 ^ t) ^^^ 4294967295)) := by
  have h := mus0 s hs t ht
  refine ⟨h.1, fun v hv => (h.2 v hv).trans ⟨fun g => ⟨g.1, g.2, fun j _ hj => absurd hj (by omega)⟩, fun g => ⟨g.1, g.2.1⟩⟩⟩
theorem musI_s {L : Nat → Nat} {s t : Nat} {P S W RW : Nat → Nat} {rc : Nat} {Rs : List (List Nat)} (h : XFin L s t P S W RW rc Rs) {k x : Nat} (hk : k < rc) (hI : musI s t Rs k x) : musI s t Rs (k + 1) (x &&& bef P (RW k) (S (RW k))) := by
  have hkl : k < Rs.length := by rw [h.1]; exact hk
  refine ⟨and_lt64 hI.1, fun v hv => ?_⟩
  rw [Nat.testBit_and, Bool.and_eq_true, hI.2 v hv, row_in h hkl]
  constructor
  · rintro ⟨⟨g1, g2, g3⟩, g4⟩
    refine ⟨g1, g2, fun j hj hjk => ?_⟩
    rcases Nat.lt_or_ge j k with q | q
    · exact g3 j hj q
    · obtain rfl : j = k := by omega
      exact g4
  · rintro ⟨g1, g2, g3⟩
    exact ⟨⟨g1, g2, fun j hj hjk => g3 j hj (by omega)⟩, g3 k hkl (by omega)⟩
theorem musI_e {s t : Nat} {Rs : List (List Nat)} {x : Nat} (hI : musI s t Rs Rs.length x) (hne : Rs ≠ []) : musF s t Rs (nI x) := by
  refine ⟨x, rfl, hI.1, fun v hv => (hI.2 v hv).trans ⟨fun g => ⟨hne, g.1, g.2.1, fun p hp => ?_⟩, fun g => ⟨g.2.1, g.2.2.1, fun j hj _ => g.2.2.2 _ (List.getElem_mem hj)⟩⟩⟩
  obtain ⟨j, hj, rfl⟩ := List.mem_iff_getElem.mp hp
  exact g.2.2 j hj hj
theorem mus_nil {s t : Nat} : musF s t [] (nI 0) := ⟨0, rfl, by decide, fun v hv => by simp⟩
theorem cX_musts (h : Nat → Nat) (dB dS dI : ClassId) (L : Nat → Nat) (kn fr to wc rc : Nat) (P S W A B R RW D : Nat → Nat) (s t : Int32) (hok : XOK L kn fr to wc rc P S W A B R RW) : MI yX0_musts cX0_musts 5 .int 4 (XT dB dS dI) [.ref (h 0), .int s, .int t] (XW h dB dS dI L kn fr to wc rc P S W A B R RW D) (fun u : XS => XWu h dB dS dI L u) (QP L s t (fun r => r = nI 0) musF) := by
  refine g_enterI (lv0 := [(0, .ref (h 0)), (1, .int s), (2, .int t)]) (by decide) (Nat.le_of_ble_eq_true rfl) rfl (fun r u h => rfl) (fun Γ hc hR => ?_)
  refine g_aload_n hc dX0_musts_0 rfl 0 rfl ?_
  refine g_iload_n hc dX0_musts_1 rfl 1 rfl ?_
  refine g_iload_n hc dX0_musts_2 rfl 2 rfl ?_
  refine x_callI (n := 2) (As := [.int s, .int t]) (rest := []) hc (cX_rank h dB dS dI L kn fr to wc rc P S W A B R RW D s t hok) (lw_V q101 q103 qs0 q18 q104) (by decide +kernel) (by decide) (by decide) rfl rfl (by simp [Value.category]) dX0_musts_3 (fun r3 u3 k3 => ?_)
  obtain ⟨kn1, fr1, to1, wc1, rc1, P1, S1, W1, A1, B1, R1, RW1, D1⟩ := u3
  obtain ⟨hok1, hc1⟩ := k3
  have hok1 : XOK L kn1 fr1 to1 wc1 rc1 P1 S1 W1 A1 B1 R1 RW1 := hok1
  refine g_world (ws' := XW h dB dS dI L kn1 fr1 to1 wc1 rc1 P1 S1 W1 A1 B1 R1 RW1 D1) rfl ?_
  rcases hc1 with ⟨hn1, rfl⟩ | ⟨x1, x2, rfl, rfl, hx1, hx2, hx3, rfl, e1, e2, e3⟩
  · skip
    refine n_if_eq (tgt := 16) hc dX0_musts_6 (by decide) (by decide) (fun _ => ?_) (fun h => absurd h (by decide))
    refine g_iconst (v := nI 0) hc dX0_musts_16 (by decide) ?_
    exact hR _ (kn1, fr1, to1, wc1, rc1, P1, S1, W1, A1, B1, R1, RW1, D1) _ _ ⟨hok1, Or.inl ⟨hn1, rfl⟩⟩ dX0_musts_17
  · dsimp only at e1 e2 e3
    subst e1; subst e2; subst e3
    obtain ⟨_, Rs, hRs⟩ := hok1.2.2.2.2.2.2.2 rfl
    have hb1 := hok1.2.1
    have hrc1 : rc1 ≤ 65 := hok1.2.2.2.2.2.2.1
    refine n_if_eq (tgt := 16) hc dX0_musts_6 (by decide) (by decide) (fun h => absurd h (by decide)) (fun _ => ?_)
    refine g_aload_n hc dX0_musts_9 rfl 0 rfl ?_
    refine x_get hc 5 (by decide) q33 0 rfl rfl dX0_musts_10 rfl ?_
    refine n_if_ne (tgt := 18) hc dX0_musts_13 (by decide) (by omega) (fun c13 => ?_) (fun c13 => ?_)
    · skip
      refine g_bipush (v := nI 63) hc dX0_musts_18 (by decide) ?_
      refine g_iconst (v := nI 1) hc dX0_musts_20 (by decide) ?_
      refine g_iload_n hc dX0_musts_21 rfl 1 rfl ?_
      refine n_ishl hc dX0_musts_22 (by omega) (shl_ok (by omega)) ?_
      refine g_iconst (v := nI 1) hc dX0_musts_23 (by decide) ?_
      refine g_iload_n hc dX0_musts_24 rfl 2 rfl ?_
      refine n_ishl hc dX0_musts_25 (by omega) (shl_ok (by omega)) ?_
      refine n_ior hc dX0_musts_26 ?_
      refine g_iconst (v := nI 4294967295) hc dX0_musts_27 (by decide) ?_
      refine n_ixor hc dX0_musts_28 ?_
      refine n_iand hc dX0_musts_29 ?_
      refine g_istore_n (lv' := [(0, .ref (h 0)), (1, .int (nI fr1)), (2, .int (nI to1)), (3, .int (nI (63 &&& (((1 * 2 ^ fr1) ||| (1 * 2 ^ to1)) ^^^ 4294967295))))]) hc dX0_musts_30 rfl (by decide) [1, 2, 3, 0] rfl ?_
      refine g_iconst (v := nI 0) hc dX0_musts_31 (by decide) ?_
      refine g_istore (lv' := [(0, .ref (h 0)), (1, .int (nI fr1)), (2, .int (nI to1)), (3, .int (nI (63 &&& (((1 * 2 ^ fr1) ||| (1 * 2 ^ to1)) ^^^ 4294967295)))), (4, .int (nI 0))]) hc dX0_musts_32 (by decide) [1, 2, 3, 4, 0] rfl ?_
      have loop : ∀ (k x : Nat), k ≤ rc1 → musI fr1 to1 Rs k x → G Γ (XW h dB dS dI L 1 fr1 to1 wc1 rc1 P1 S1 W1 A1 B1 R1 RW1 D1) 34 [(0, .ref (h 0)), (1, .int (nI fr1)), (2, .int (nI to1)), (3, .int (nI x)), (4, .int (nI k))] [] := by
        refine up_loop rc1 _ _ ?_
        intro k x hkr hI ih
        have g1 := hb1.2.2.2.2.2.2 k
        have g2 := hb1.2.1 (RW1 k)
        refine g_iload hc dX0_musts_34 4 rfl ?_
        refine g_aload_n hc dX0_musts_36 rfl 0 rfl ?_
        refine x_get hc 5 (by decide) q33 0 rfl rfl dX0_musts_37 rfl ?_
        refine n_icmp_ge (tgt := 63) hc dX0_musts_40 (by decide) (by omega) (by omega) (fun c40 => ?_) (fun c40 => ?_)
        · skip
          refine g_iload_n hc dX0_musts_63 rfl 3 rfl ?_
          have hke : k = rc1 := by omega
          exact hR _ (1, fr1, to1, wc1, rc1, P1, S1, W1, A1, B1, R1, RW1, D1) _ _ ⟨hok1, Or.inr ⟨fr1, to1, Rs, rfl, rfl, hx1, hx2, hx3, XFin_RSp hRs, musI_e (by rw [hRs.1, ← hke]; exact hI) (fun e => c13 (by rw [← hRs.1, e]; rfl))⟩⟩ dX0_musts_64
        · skip
          refine g_iload_n hc dX0_musts_43 rfl 3 rfl ?_
          refine g_aload_n hc dX0_musts_44 rfl 0 rfl ?_
          refine g_aload_n hc dX0_musts_45 rfl 0 rfl ?_
          refine x_get hc 12 (by decide) q40 0 rfl rfl dX0_musts_46 rfl ?_
          refine g_iload hc dX0_musts_49 4 rfl ?_
          refine n_bald hc 8 0 rfl rfl (by omega) (by decide) dX0_musts_51 ?_
          refine x_callI (n := 1) (As := [.int (nI (RW1 k))]) (rest := [.int (nI x)]) hc (cX_placesOf h dB dS dI L 1 fr1 to1 wc1 rc1 P1 S1 W1 A1 B1 R1 RW1 D1 (RW1 k) hb1.1 (by omega) (by omega)) (lw_V q159 q161 qs7 q18 q162) (by decide +kernel) (by decide) (by decide) rfl rfl (by simp [Value.category]) dX0_musts_52 (fun r52 u52 k52 => ?_)
          subst k52
          refine n_iand hc dX0_musts_55 ?_
          refine g_istore_n (lv' := [(0, .ref (h 0)), (1, .int (nI fr1)), (2, .int (nI to1)), (3, .int (nI (x &&& (bef P1 (RW1 k) (S1 (RW1 k)))))), (4, .int (nI k))]) hc dX0_musts_56 rfl (by decide) [1, 2, 3, 0, 4] rfl ?_
          refine n_iinc (lv' := [(0, .ref (h 0)), (1, .int (nI fr1)), (2, .int (nI to1)), (3, .int (nI (x &&& (bef P1 (RW1 k) (S1 (RW1 k)))))), (4, .int (nI (k + 1)))]) (q := 4) hc dX0_musts_57 rfl (by decide) [1, 2, 3, 4, 0] rfl ?_
          refine g_goto (tgt := 34) hc dX0_musts_60 (by decide) ?_
          exact ih c40 _ (musI_s hRs c40 hI)
      exact loop 0 _ (Nat.zero_le _) (musI_0 hx1 hx2 Rs)
    · skip
      refine g_iconst (v := nI 0) hc dX0_musts_16 (by decide) ?_
      exact hR _ (1, fr1, to1, wc1, rc1, P1, S1, W1, A1, B1, R1, RW1, D1) _ _ ⟨hok1, Or.inr ⟨fr1, to1, Rs, rfl, rfl, hx1, hx2, hx3, XFin_RSp hRs, by have e : Rs = [] := List.length_eq_zero_iff.mp (by rw [hRs.1]; exact c13); rw [e]; exact mus_nil⟩⟩ dX0_musts_17
def avoQ (L : Nat → Nat) (s t v r : Int32) : Prop := ((¬ isPl v ∨ v = s ∨ v = t) ∧ r = eN 0) ∨ ∃ v' : Nat, v = nI v' ∧ v' < 6 ∧ ¬ v = s ∧ ¬ v = t ∧ AnsQ L s t (fun r => r = eN 0) (fun _ _ Rs r => r = avoA Rs v') r
theorem avo_some {L : Nat → Nat} {s t : Nat} {P S W RW : Nat → Nat} {rc : Nat} {Rs : List (List Nat)} (h : XFin L s t P S W RW rc Rs) {v k : Nat} (hk : k < rc) (h1 : ∀ j, j < k → (bef P (RW j) (S (RW j))).testBit v = true) (h2 : ¬ (bef P (RW k) (S (RW k))).testBit v = true) : nI k = avoA Rs v := by
  have hkl : k < Rs.length := by rw [h.1]; exact hk
  rw [avoA, findIdx_some _ Rs k hkl]
  · intro j hj hjk
    rw [decide_eq_false_iff_not, Classical.not_not]
    exact (row_in h hj v).mp (h1 j hjk)
  · rw [decide_eq_true_eq]
    exact fun hm => h2 ((row_in h hkl v).mpr hm)
theorem avo_none {L : Nat → Nat} {s t : Nat} {P S W RW : Nat → Nat} {rc : Nat} {Rs : List (List Nat)} (h : XFin L s t P S W RW rc Rs) {v : Nat} (h1 : ∀ j, j < rc → (bef P (RW j) (S (RW j))).testBit v = true) : eN 0 = avoA Rs v := by
  rw [avoA, findIdx_none _ Rs]
  intro j hj
  rw [decide_eq_false_iff_not, Classical.not_not]
  exact (row_in h hj v).mp (h1 j (by rw [← h.1]; exact hj))
theorem cX_firstAvoiding (h : Nat → Nat) (dB dS dI : ClassId) (L : Nat → Nat) (kn fr to wc rc : Nat) (P S W A B R RW D : Nat → Nat) (s t v : Int32) (hok : XOK L kn fr to wc rc P S W A B R RW) : MI yX0_firstAvoiding cX0_firstAvoiding 6 .int 4 (XT dB dS dI) [.ref (h 0), .int s, .int t, .int v] (XW h dB dS dI L kn fr to wc rc P S W A B R RW D) (fun u : XS => XWu h dB dS dI L u) (fun r u => XOKu L u ∧ avoQ L s t v r) := by
  refine g_enterI (lv0 := [(0, .ref (h 0)), (1, .int s), (2, .int t), (3, .int v)]) (by decide) (Nat.le_of_ble_eq_true rfl) rfl (fun r u h => rfl) (fun Γ hc hR => ?_)
  refine g_iload_n hc dX0_firstAvoiding_0 rfl 3 rfl ?_
  refine g_callS (n := 1) (As := [.int v]) (rest := []) hc (cX_isPlace v) (lw_S q81 q82 q18 q83) (by decide +kernel) (by decide) (by decide) rfl rfl (by simp [Value.category]) dX0_firstAvoiding_1 (fun r1 k1 => ?_)
  rcases k1 with ⟨rfl, k1⟩ | ⟨rfl, k1⟩
  · obtain ⟨v1, rfl, hv1⟩ := k1
    refine n_if_eq (tgt := 26) hc dX0_firstAvoiding_4 (by decide) (by decide) (fun h => absurd h (by decide)) (fun _ => ?_)
    refine g_iload_n hc dX0_firstAvoiding_7 rfl 3 rfl ?_
    refine g_iload_n hc dX0_firstAvoiding_8 rfl 1 rfl ?_
    refine g_icmp_eq (tgt := 26) hc dX0_firstAvoiding_9 (by decide) (fun c9 => ?_) (fun c9 => ?_)
    · skip
      refine g_iconst (v := eN 0) hc dX0_firstAvoiding_26 (by decide) ?_
      exact hR _ (kn, fr, to, wc, rc, P, S, W, A, B, R, RW, D) _ _ ⟨hok, Or.inl ⟨Or.inr (Or.inl c9), rfl⟩⟩ dX0_firstAvoiding_27
    · skip
      refine g_iload_n hc dX0_firstAvoiding_12 rfl 3 rfl ?_
      refine g_iload_n hc dX0_firstAvoiding_13 rfl 2 rfl ?_
      refine g_icmp_eq (tgt := 26) hc dX0_firstAvoiding_14 (by decide) (fun c14 => ?_) (fun c14 => ?_)
      · skip
        refine g_iconst (v := eN 0) hc dX0_firstAvoiding_26 (by decide) ?_
        exact hR _ (kn, fr, to, wc, rc, P, S, W, A, B, R, RW, D) _ _ ⟨hok, Or.inl ⟨Or.inr (Or.inr c14), rfl⟩⟩ dX0_firstAvoiding_27
      · skip
        refine g_aload_n hc dX0_firstAvoiding_17 rfl 0 rfl ?_
        refine g_iload_n hc dX0_firstAvoiding_18 rfl 1 rfl ?_
        refine g_iload_n hc dX0_firstAvoiding_19 rfl 2 rfl ?_
        refine x_callI (n := 2) (As := [.int s, .int t]) (rest := []) hc (cX_rank h dB dS dI L kn fr to wc rc P S W A B R RW D s t hok) (lw_V q101 q103 qs0 q18 q104) (by decide +kernel) (by decide) (by decide) rfl rfl (by simp [Value.category]) dX0_firstAvoiding_20 (fun r20 u20 k20 => ?_)
        obtain ⟨kn1, fr1, to1, wc1, rc1, P1, S1, W1, A1, B1, R1, RW1, D1⟩ := u20
        obtain ⟨hok1, hc1⟩ := k20
        have hok1 : XOK L kn1 fr1 to1 wc1 rc1 P1 S1 W1 A1 B1 R1 RW1 := hok1
        refine g_world (ws' := XW h dB dS dI L kn1 fr1 to1 wc1 rc1 P1 S1 W1 A1 B1 R1 RW1 D1) rfl ?_
        rcases hc1 with ⟨hn1, rfl⟩ | ⟨x1, x2, rfl, rfl, hx1, hx2, hx3, rfl, e1, e2, e3⟩
        · skip
          refine n_if_ne (tgt := 28) hc dX0_firstAvoiding_23 (by decide) (by decide) (fun h => absurd h (by decide)) (fun _ => ?_)
          refine g_iconst (v := eN 0) hc dX0_firstAvoiding_26 (by decide) ?_
          exact hR _ (kn1, fr1, to1, wc1, rc1, P1, S1, W1, A1, B1, R1, RW1, D1) _ _ ⟨hok1, Or.inr ⟨v1, rfl, hv1, c9, c14, Or.inl ⟨hn1, rfl⟩⟩⟩ dX0_firstAvoiding_27
        · dsimp only at e1 e2 e3
          subst e1; subst e2; subst e3
          obtain ⟨_, Rs, hRs⟩ := hok1.2.2.2.2.2.2.2 rfl
          have hb1 := hok1.2.1
          have hrc1 : rc1 ≤ 65 := hok1.2.2.2.2.2.2.1
          refine n_if_ne (tgt := 28) hc dX0_firstAvoiding_23 (by decide) (by decide) (fun _ => ?_) (fun h => absurd h (by decide))
          refine g_iconst (v := nI 0) hc dX0_firstAvoiding_28 (by decide) ?_
          refine g_istore (lv' := [(0, .ref (h 0)), (1, .int (nI fr1)), (2, .int (nI to1)), (3, .int (nI v1)), (4, .int (nI 0))]) hc dX0_firstAvoiding_29 (by decide) [1, 2, 3, 4, 0] rfl ?_
          have loop : ∀ (k : Nat) (_ : Unit), k ≤ rc1 → (∀ j, j < k → (bef P1 (RW1 j) (S1 (RW1 j))).testBit v1 = true) → G Γ (XW h dB dS dI L 1 fr1 to1 wc1 rc1 P1 S1 W1 A1 B1 R1 RW1 D1) 31 [(0, .ref (h 0)), (1, .int (nI fr1)), (2, .int (nI to1)), (3, .int (nI v1)), (4, .int (nI k))] [] := by
            refine up_loop rc1 _ _ ?_
            intro k _ hkr hI ih
            have g1 := hb1.2.2.2.2.2.2 k
            have g2 := hb1.2.1 (RW1 k)
            have g3 := bef_lt hb1.1 (RW1 k) (S1 (RW1 k))
            refine g_iload hc dX0_firstAvoiding_31 4 rfl ?_
            refine g_aload_n hc dX0_firstAvoiding_33 rfl 0 rfl ?_
            refine x_get hc 5 (by decide) q33 0 rfl rfl dX0_firstAvoiding_34 rfl ?_
            refine n_icmp_ge (tgt := 71) hc dX0_firstAvoiding_37 (by decide) (by omega) (by omega) (fun c37 => ?_) (fun c37 => ?_)
            · skip
              refine g_iconst (v := eN 0) hc dX0_firstAvoiding_71 (by decide) ?_
              exact hR _ (1, fr1, to1, wc1, rc1, P1, S1, W1, A1, B1, R1, RW1, D1) _ _ ⟨hok1, Or.inr ⟨v1, rfl, hv1, c9, c14, Or.inr ⟨fr1, to1, Rs, rfl, rfl, hx1, hx2, hx3, XFin_RSp hRs, avo_none hRs (fun j hj => hI j (by omega))⟩⟩⟩ dX0_firstAvoiding_72
            · skip
              refine g_aload_n hc dX0_firstAvoiding_40 rfl 0 rfl ?_
              refine g_aload_n hc dX0_firstAvoiding_41 rfl 0 rfl ?_
              refine x_get hc 12 (by decide) q40 0 rfl rfl dX0_firstAvoiding_42 rfl ?_
              refine g_iload hc dX0_firstAvoiding_45 4 rfl ?_
              refine n_bald hc 8 0 rfl rfl (by omega) (by decide) dX0_firstAvoiding_47 ?_
              refine x_callI (n := 1) (As := [.int (nI (RW1 k))]) (rest := []) hc (cX_placesOf h dB dS dI L 1 fr1 to1 wc1 rc1 P1 S1 W1 A1 B1 R1 RW1 D1 (RW1 k) hb1.1 (by omega) (by omega)) (lw_V q159 q161 qs7 q18 q162) (by decide +kernel) (by decide) (by decide) rfl rfl (by simp [Value.category]) dX0_firstAvoiding_48 (fun r48 u48 k48 => ?_)
              subst k48
              refine g_istore (lv' := [(0, .ref (h 0)), (1, .int (nI fr1)), (2, .int (nI to1)), (3, .int (nI v1)), (4, .int (nI k)), (5, .int (nI (bef P1 (RW1 k) (S1 (RW1 k)))))]) hc dX0_firstAvoiding_51 (by decide) [1, 2, 3, 4, 5, 0] rfl ?_
              refine g_iload hc dX0_firstAvoiding_53 5 rfl ?_
              refine g_iload_n hc dX0_firstAvoiding_55 rfl 3 rfl ?_
              refine g_callS (n := 2) (As := [.int (nI (bef P1 (RW1 k) (S1 (RW1 k)))), .int (nI v1)]) (rest := []) hc (cX_in (bef P1 (RW1 k) (S1 (RW1 k))) v1 (by omega) (by omega)) (lw_S q114 q115 q18 q116) (by decide +kernel) (by decide) (by decide) rfl rfl (by simp [Value.category]) dX0_firstAvoiding_56 (fun r56 k56 => ?_)
              rcases k56 with ⟨rfl, k56⟩ | ⟨rfl, k56⟩
              · skip
                refine n_if_ne (tgt := 65) hc dX0_firstAvoiding_59 (by decide) (by decide) (fun _ => ?_) (fun h => absurd h (by decide))
                refine n_iinc (lv' := [(0, .ref (h 0)), (1, .int (nI fr1)), (2, .int (nI to1)), (3, .int (nI v1)), (4, .int (nI (k + 1))), (5, .int (nI (bef P1 (RW1 k) (S1 (RW1 k)))))]) (q := 4) hc dX0_firstAvoiding_65 rfl (by decide) [1, 2, 3, 4, 0, 5] rfl ?_
                refine g_goto (tgt := 31) hc dX0_firstAvoiding_68 (by decide) ?_
                refine g_lv (lv' := [(0, .ref (h 0)), (1, .int (nI fr1)), (2, .int (nI to1)), (3, .int (nI v1)), (4, .int (nI (k + 1)))]) [0, 1, 2, 3, 4] rfl ?_
                exact ih c37 () (lt_s hI k56)
              · skip
                refine n_if_ne (tgt := 65) hc dX0_firstAvoiding_59 (by decide) (by decide) (fun h => absurd h (by decide)) (fun _ => ?_)
                refine g_iload hc dX0_firstAvoiding_62 4 rfl ?_
                exact hR _ (1, fr1, to1, wc1, rc1, P1, S1, W1, A1, B1, R1, RW1, D1) _ _ ⟨hok1, Or.inr ⟨v1, rfl, hv1, c9, c14, Or.inr ⟨fr1, to1, Rs, rfl, rfl, hx1, hx2, hx3, XFin_RSp hRs, avo_some hRs c37 hI k56⟩⟩⟩ dX0_firstAvoiding_64
          exact loop 0 () (Nat.zero_le _) (fun k hk => absurd hk (by omega))
  · skip
    refine n_if_eq (tgt := 26) hc dX0_firstAvoiding_4 (by decide) (by decide) (fun _ => ?_) (fun h => absurd h (by decide))
    refine g_iconst (v := eN 0) hc dX0_firstAvoiding_26 (by decide) ?_
    exact hR _ (kn, fr, to, wc, rc, P, S, W, A, B, R, RW, D) _ _ ⟨hok, Or.inl ⟨Or.inl k1, rfl⟩⟩ dX0_firstAvoiding_27
/-- the least length of a way, or 2^20 where there is none -/
def ML (L : Nat → Nat) (s t d : Nat) : Prop := (d = 1048576 ∧ ∀ p, ¬ way L s t p) ∨ (d < 1048576 ∧ ∃ p, way L s t p ∧ lenP L p = d ∧ ∀ q, way L s t q → d ≤ lenP L q)
theorem dm_ML {L : Nat → Nat} (hL : ∀ i, L i ≤ 20) {s t : Nat} (hs : s < 6) (ht : t < 6) (D : Nat → Nat) : ML L s t (dmeas L 0 t D s) := by
  have hD := dmeas_spec hL (X := 0) ht D
  have hb := hD.2.1 s hs
  rcases Nat.lt_or_ge (dmeas L 0 t D s) 1048576 with h | h
  · obtain ⟨q, p1, p2, _⟩ := greedy hL ht hD 0 6 s hs (by simp) h (by have := cntLT_5 (D := dmeas L 0 t D) hs; omega)
    exact Or.inr ⟨h, q, p1, p2, fun q' hq' => path_low hD q' s hq'⟩
  · refine Or.inl ⟨by omega, fun p hp => ?_⟩
    have h1 := path_low hD p s hp
    have h2 := lenP_le hL p
    have h3 := way_len6 hp
    omega
def detR (d1 d2 : Nat) : Int32 := if 1048576 ≤ d1 then nI 0 else if d2 < 1048576 then nI d2 - nI d1 else eN 0
def detQ (L : Nat → Nat) (s t a b r : Int32) : Prop := ((¬ isPr s t ∨ ¬ isPr a b ∨ ∃ x y : Nat, a = nI x ∧ b = nI y ∧ x < 6 ∧ y < 6 ∧ L (x * 6 + y) = 0) ∧ r = nI 0) ∨ ∃ s' t' x y d1 d2 : Nat, s = nI s' ∧ t = nI t' ∧ s' < 6 ∧ t' < 6 ∧ s' ≠ t' ∧ a = nI x ∧ b = nI y ∧ x < 6 ∧ y < 6 ∧ x ≠ y ∧ 0 < L (x * 6 + y) ∧ ML L s' t' d1 ∧ ML (updN L (x * 6 + y) 0) s' t' d2 ∧ r = detR d1 d2
theorem upd_back (L : Nat → Nat) (i x : Nat) : updN (updN L i x) i (L i) = L := by
  funext j
  unfold updN
  by_cases e : j = i
  · simp [e]
  · simp [e]
theorem cX_detour (h : Nat → Nat) (dB dS dI : ClassId) (L : Nat → Nat) (kn fr to wc rc : Nat) (P S W A B R RW D : Nat → Nat) (s t a b : Int32) (hL : ∀ i, L i ≤ 20) : MI yX0_detour cX0_detour 7 .int 3 (XT dB dS dI) [.ref (h 0), .int s, .int t, .int a, .int b] (XW h dB dS dI L kn fr to wc rc P S W A B R RW D) (fun D' : Nat → Nat => XW h dB dS dI L kn fr to wc rc P S W A B R RW D') (fun r _ => detQ L s t a b r) := by
  refine g_enterI (lv0 := [(0, .ref (h 0)), (1, .int s), (2, .int t), (3, .int a), (4, .int b)]) (by decide) (Nat.le_of_ble_eq_true rfl) rfl (fun r u h => rfl) (fun Γ hc hR => ?_)
  refine g_iload_n hc dX0_detour_0 rfl 1 rfl ?_
  refine g_iload_n hc dX0_detour_1 rfl 2 rfl ?_
  refine g_callS (n := 2) (As := [.int s, .int t]) (rest := []) hc (cX_isPair s t) (lw_S q78 q79 q18 q80) (by decide +kernel) (by decide) (by decide) rfl rfl (by simp [Value.category]) dX0_detour_2 (fun r2 k2 => ?_)
  rcases k2 with ⟨rfl, k2⟩ | ⟨rfl, k2⟩
  · obtain ⟨y1, y2, rfl, rfl, hy1, hy2, hy3⟩ := k2
    refine n_if_eq (tgt := 18) hc dX0_detour_5 (by decide) (by decide) (fun h => absurd h (by decide)) (fun _ => ?_)
    refine g_aload_n hc dX0_detour_8 rfl 0 rfl ?_
    refine g_iload_n hc dX0_detour_9 rfl 3 rfl ?_
    refine g_iload hc dX0_detour_10 4 rfl ?_
    refine x_callI (n := 2) (As := [.int a, .int b]) (rest := []) hc (cX_road h dB dS dI L kn fr to wc rc P S W A B R RW D a b hL) (lw_V q88 q89 q90 q18 q91) (by decide +kernel) (by decide) (by decide) rfl rfl (by simp [Value.category]) dX0_detour_12 (fun r12 u12 k12 => ?_)
    rcases roadA_cases k12 with ⟨rfl, q12⟩ | ⟨x1, x2, rfl, rfl, hx1, hx2, hx3, hx4, rfl⟩
    · skip
      refine e_if_ge (tgt := 20) hc dX0_detour_15 (by decide) (by decide) (fun y h => by cases h) (fun _ => ?_)
      refine g_iconst (v := nI 0) hc dX0_detour_18 (by decide) ?_
      exact hR _ D _ _ (Or.inl ⟨Or.inr q12, rfl⟩) dX0_detour_19
    · have b12 := hL (x1 * 6 + x2)
      refine n_if_ge (tgt := 20) hc dX0_detour_15 (by decide) (by omega) ?_
      refine g_aload_n hc dX0_detour_20 rfl 0 rfl ?_
      refine g_iload_n hc dX0_detour_21 rfl 2 rfl ?_
      refine g_iconst (v := nI 0) hc dX0_detour_22 (by decide) ?_
      refine x_callV (n := 2) (As := [.int (nI y2), .int (nI 0)]) (rest := []) hc (cX_measure h dB dS dI L kn fr to wc rc P S W A B R RW D y2 0 hL hy2 (by decide)) (lw_V q109 q111 qs2 q18 q112) (by decide +kernel) (by decide) (by decide) rfl rfl (by simp [Value.category]) dX0_detour_23 (fun u23 k23 => ?_)
      obtain ⟨rfl, hD1⟩ := k23
      have hDs := hD1 y1 hy1
      refine g_aload_n hc dX0_detour_26 rfl 0 rfl ?_
      refine x_get hc 13 (by decide) q41 0 rfl rfl dX0_detour_27 rfl ?_
      refine g_iload_n hc dX0_detour_30 rfl 1 rfl ?_
      refine n_iald hc 9 2 rfl rfl (by omega) (by decide) dX0_detour_31 ?_
      refine g_istore (lv' := [(0, .ref (h 0)), (1, .int (nI y1)), (2, .int (nI y2)), (3, .int (nI x1)), (4, .int (nI x2)), (5, .int (nI ((dmeas L 0 y2 D) y1)))]) hc dX0_detour_32 (by decide) [1, 2, 3, 4, 5, 0] rfl ?_
      refine g_aload_n hc dX0_detour_34 rfl 0 rfl ?_
      refine x_get hc 0 (by decide) q28 0 rfl rfl dX0_detour_35 rfl ?_
      refine g_iload_n hc dX0_detour_38 rfl 3 rfl ?_
      refine g_bipush (v := nI 6) hc dX0_detour_39 (by decide) ?_
      refine n_imul hc dX0_detour_41 ?_
      refine g_iload hc dX0_detour_42 4 rfl ?_
      refine n_iadd hc dX0_detour_44 ?_
      refine n_bald hc 1 0 rfl rfl (by omega) (by decide) dX0_detour_45 ?_
      have b45 := hL (x1 * 6 + x2)
      refine g_istore (lv' := [(0, .ref (h 0)), (1, .int (nI y1)), (2, .int (nI y2)), (3, .int (nI x1)), (4, .int (nI x2)), (5, .int (nI ((dmeas L 0 y2 D) y1))), (6, .int (nI (L (x1 * 6 + x2))))]) hc dX0_detour_46 (by decide) [1, 2, 3, 4, 5, 6, 0] rfl ?_
      refine g_aload_n hc dX0_detour_48 rfl 0 rfl ?_
      refine x_get hc 0 (by decide) q28 0 rfl rfl dX0_detour_49 rfl ?_
      refine g_iload_n hc dX0_detour_52 rfl 3 rfl ?_
      refine g_bipush (v := nI 6) hc dX0_detour_53 (by decide) ?_
      refine n_imul hc dX0_detour_55 ?_
      refine g_iload hc dX0_detour_56 4 rfl ?_
      refine n_iadd hc dX0_detour_58 ?_
      refine g_iconst (v := nI 0) hc dX0_detour_59 (by decide) ?_
      refine n_bast (ws' := XW h dB dS dI (updN L (x1 * 6 + x2) 0) kn fr to wc rc P S W A B R RW (dmeas L 0 y2 D)) hc 1 0 rfl rfl (by omega) (by decide) dX0_detour_60 (by omega) rfl ?_
      refine g_aload_n hc dX0_detour_61 rfl 0 rfl ?_
      refine g_iload_n hc dX0_detour_62 rfl 2 rfl ?_
      refine g_iconst (v := nI 0) hc dX0_detour_63 (by decide) ?_
      refine x_callV (n := 2) (As := [.int (nI y2), .int (nI 0)]) (rest := []) hc (cX_measure h dB dS dI (updN L (x1 * 6 + x2) 0) kn fr to wc rc P S W A B R RW (dmeas L 0 y2 D) y2 0 (upd_le hL (by decide)) hy2 (by decide)) (lw_V q109 q111 qs2 q18 q112) (by decide +kernel) (by decide) (by decide) rfl rfl (by simp [Value.category]) dX0_detour_64 (fun u64 k64 => ?_)
      obtain ⟨rfl, hD2⟩ := k64
      have hDs2 := hD2 y1 hy1
      refine g_aload_n hc dX0_detour_67 rfl 0 rfl ?_
      refine x_get hc 0 (by decide) q28 0 rfl rfl dX0_detour_68 rfl ?_
      refine g_iload_n hc dX0_detour_71 rfl 3 rfl ?_
      refine g_bipush (v := nI 6) hc dX0_detour_72 (by decide) ?_
      refine n_imul hc dX0_detour_74 ?_
      refine g_iload hc dX0_detour_75 4 rfl ?_
      refine n_iadd hc dX0_detour_77 ?_
      refine g_iload hc dX0_detour_78 6 rfl ?_
      refine n_bast (ws' := XW h dB dS dI (updN (updN L (x1 * 6 + x2) 0) (x1 * 6 + x2) (L (x1 * 6 + x2))) kn fr to wc rc P S W A B R RW (dmeas (updN L (x1 * 6 + x2) 0) 0 y2 (dmeas L 0 y2 D))) hc 1 0 rfl rfl (by omega) (by decide) dX0_detour_80 (by omega) rfl ?_
      refine g_world (ws' := XW h dB dS dI L kn fr to wc rc P S W A B R RW (dmeas (updN L (x1 * 6 + x2) 0) 0 y2 (dmeas L 0 y2 D))) (by rw [upd_back]) ?_
      refine g_iload hc dX0_detour_81 5 rfl ?_
      refine g_ldc (v := nI 1048576) hc q113 dX0_detour_83 ?_
      refine n_icmp_lt (tgt := 90) hc dX0_detour_85 (by decide) (by omega) (by omega) (fun c85 => ?_) (fun c85 => ?_)
      · skip
        refine g_aload_n hc dX0_detour_90 rfl 0 rfl ?_
        refine x_get hc 13 (by decide) q41 0 rfl rfl dX0_detour_91 rfl ?_
        refine g_iload_n hc dX0_detour_94 rfl 1 rfl ?_
        refine n_iald hc 9 2 rfl rfl (by omega) (by decide) dX0_detour_95 ?_
        refine g_ldc (v := nI 1048576) hc q113 dX0_detour_96 ?_
        refine n_icmp_ge (tgt := 113) hc dX0_detour_98 (by decide) (by omega) (by omega) (fun c98 => ?_) (fun c98 => ?_)
        · skip
          refine g_iconst (v := eN 0) hc dX0_detour_113 (by decide) ?_
          exact hR _ (dmeas (updN L (x1 * 6 + x2) 0) 0 y2 (dmeas L 0 y2 D)) _ _ (Or.inr ⟨y1, y2, x1, x2, _, _, rfl, rfl, hy1, hy2, hy3, rfl, rfl, hx1, hx2, hx3, hx4, dm_ML hL hy1 hy2 D, dm_ML (upd_le hL (by decide)) hy1 hy2 (dmeas L 0 y2 D), by rw [detR, if_neg (by omega), if_neg (by omega)]⟩) dX0_detour_114
        · skip
          refine g_aload_n hc dX0_detour_101 rfl 0 rfl ?_
          refine x_get hc 13 (by decide) q41 0 rfl rfl dX0_detour_102 rfl ?_
          refine g_iload_n hc dX0_detour_105 rfl 1 rfl ?_
          refine n_iald hc 9 2 rfl rfl (by omega) (by decide) dX0_detour_106 ?_
          refine g_iload hc dX0_detour_107 5 rfl ?_
          refine g_isub hc dX0_detour_109 ?_
          refine g_goto (tgt := 114) hc dX0_detour_110 (by decide) ?_
          exact hR _ (dmeas (updN L (x1 * 6 + x2) 0) 0 y2 (dmeas L 0 y2 D)) _ _ (Or.inr ⟨y1, y2, x1, x2, _, _, rfl, rfl, hy1, hy2, hy3, rfl, rfl, hx1, hx2, hx3, hx4, dm_ML hL hy1 hy2 D, dm_ML (upd_le hL (by decide)) hy1 hy2 (dmeas L 0 y2 D), by rw [detR, if_neg (by omega), if_pos c98]⟩) dX0_detour_114
      · skip
        refine g_iconst (v := nI 0) hc dX0_detour_88 (by decide) ?_
        exact hR _ (dmeas (updN L (x1 * 6 + x2) 0) 0 y2 (dmeas L 0 y2 D)) _ _ (Or.inr ⟨y1, y2, x1, x2, _, _, rfl, rfl, hy1, hy2, hy3, rfl, rfl, hx1, hx2, hx3, hx4, dm_ML hL hy1 hy2 D, dm_ML (upd_le hL (by decide)) hy1 hy2 (dmeas L 0 y2 D), by rw [detR, if_pos c85]⟩) dX0_detour_89
  · skip
    refine n_if_eq (tgt := 18) hc dX0_detour_5 (by decide) (by decide) (fun _ => ?_) (fun h => absurd h (by decide))
    refine g_iconst (v := nI 0) hc dX0_detour_18 (by decide) ?_
    exact hR _ D _ _ (Or.inl ⟨Or.inl k2, rfl⟩) dX0_detour_19
end
section
set_option maxRecDepth 100000
set_option maxHeartbeats 4000000
theorem isPl_of5 {a : Int32} (h1 : ¬ a < 0) (h2 : ¬ (nI 5) < a) : isPl a := by
  obtain ⟨j, hj, rfl⟩ := nI_of h1
  refine ⟨j, rfl, ?_⟩
  rcases Nat.lt_or_ge j 6 with h | h
  · exact h
  · exact absurd ((nI_ltI (a := 5) (b := j) (by decide) hj).mpr (by omega)) h2
theorem not_isPl5 {a : Int32} (h : nI 5 < a) : ¬ isPl a := by
  rintro ⟨j, rfl, hj⟩
  have := (nI_ltI (a := 5) (b := j) (by decide) (by omega)).mp h
  omega
theorem cM_pair (h : Nat → Nat) (dI : ClassId) (L : Nat → Nat) (cnt : Nat) (Y Z : Nat → Nat) (a b : Int32) : MI yX1_pair cX1_pair 3 .boolean 0 (MT dI) [.ref (h 0), .int a, .int b] (MW h dI L cnt Y Z) (fun _ : Unit => MW h dI L cnt Y Z) (bPost (isPr a b)) := by
  refine g_enterI (lv0 := [(0, .ref (h 0)), (1, .int a), (2, .int b)]) (by decide) (Nat.le_of_ble_eq_true rfl) rfl (fun r u h => bPost_nar h) (fun Γ hc hR => ?_)
  refine g_iload_n hc dX1_pair_0 rfl 1 rfl ?_
  refine g_iload_n hc dX1_pair_1 rfl 2 rfl ?_
  refine g_icmp_eq (tgt := 27) hc dX1_pair_2 (by decide) (fun c2 => ?_) (fun c2 => ?_)
  · skip
    refine g_iconst (v := nI 0) hc dX1_pair_27 (by decide) ?_
    exact hR _ () _ _ (Or.inr ⟨rfl, fun hh => isPr_ne hh c2⟩) dX1_pair_28
  · skip
    refine g_iload_n hc dX1_pair_5 rfl 1 rfl ?_
    refine g_if_lt (tgt := 27) hc dX1_pair_6 (by decide) (fun c6 => ?_) (fun c6 => ?_)
    · skip
      refine g_iconst (v := nI 0) hc dX1_pair_27 (by decide) ?_
      exact hR _ () _ _ (Or.inr ⟨rfl, fun hh => not_isPl1 c6 (isPr_l hh)⟩) dX1_pair_28
    · skip
      refine g_iload_n hc dX1_pair_9 rfl 1 rfl ?_
      refine g_iconst (v := nI 5) hc dX1_pair_10 (by decide) ?_
      refine g_icmp_gt (tgt := 27) hc dX1_pair_11 (by decide) (fun c11 => ?_) (fun c11 => ?_)
      · skip
        refine g_iconst (v := nI 0) hc dX1_pair_27 (by decide) ?_
        exact hR _ () _ _ (Or.inr ⟨rfl, fun hh => not_isPl5 c11 (isPr_l hh)⟩) dX1_pair_28
      · skip
        refine g_iload_n hc dX1_pair_14 rfl 2 rfl ?_
        refine g_if_lt (tgt := 27) hc dX1_pair_15 (by decide) (fun c15 => ?_) (fun c15 => ?_)
        · skip
          refine g_iconst (v := nI 0) hc dX1_pair_27 (by decide) ?_
          exact hR _ () _ _ (Or.inr ⟨rfl, fun hh => not_isPl1 c15 (isPr_r hh)⟩) dX1_pair_28
        · skip
          refine g_iload_n hc dX1_pair_18 rfl 2 rfl ?_
          refine g_iconst (v := nI 5) hc dX1_pair_19 (by decide) ?_
          refine g_icmp_gt (tgt := 27) hc dX1_pair_20 (by decide) (fun c20 => ?_) (fun c20 => ?_)
          · skip
            refine g_iconst (v := nI 0) hc dX1_pair_27 (by decide) ?_
            exact hR _ () _ _ (Or.inr ⟨rfl, fun hh => not_isPl5 c20 (isPr_r hh)⟩) dX1_pair_28
          · skip
            refine g_iconst (v := nI 1) hc dX1_pair_23 (by decide) ?_
            refine g_goto (tgt := 28) hc dX1_pair_24 (by decide) ?_
            exact hR _ () _ _ (Or.inl ⟨rfl, isPr_of (isPl_of5 c6 c11) (isPl_of5 c15 c20) c2⟩) dX1_pair_28
theorem cM_build (h : Nat → Nat) (dI : ClassId) (L : Nat → Nat) (cnt : Nat) (Y Z : Nat → Nat) (a b c : Int32) : MI yX1_build cX1_build 4 .boolean 1 (MT dI) [.ref (h 0), .int a, .int b, .int c] (MW h dI L cnt Y Z) (fun L' : Nat → Nat => MW h dI L' cnt Y Z) (fun r L' => bldA L a b c r L' 0 0) := by
  refine g_enterI (lv0 := [(0, .ref (h 0)), (1, .int a), (2, .int b), (3, .int c)]) (by decide) (Nat.le_of_ble_eq_true rfl) rfl (fun r u h => by rcases h with ⟨_, _, _, _, _, _, _, _, _, _, _, rfl, _⟩ | ⟨_, rfl, _⟩ <;> rfl) (fun Γ hc hR => ?_)
  refine g_aload_n hc dX1_build_0 rfl 0 rfl ?_
  refine g_iload_n hc dX1_build_1 rfl 1 rfl ?_
  refine g_iload_n hc dX1_build_2 rfl 2 rfl ?_
  refine m_callI (n := 2) (As := [.int a, .int b]) (rest := []) hc (cM_pair h dI L cnt Y Z a b) (lw_V q194 q196 qs8 q19 q197) (by decide +kernel) (by decide) (by decide) rfl rfl (by simp [Value.category]) dX1_build_3 (fun r3 u3 k3 => ?_)
  rcases k3 with ⟨rfl, k3⟩ | ⟨rfl, k3⟩
  · obtain ⟨x1, x2, rfl, rfl, hx1, hx2, hx3⟩ := k3
    refine n_if_eq (tgt := 20) hc dX1_build_6 (by decide) (by decide) (fun h => absurd h (by decide)) (fun _ => ?_)
    refine g_iload_n hc dX1_build_9 rfl 3 rfl ?_
    refine g_iconst (v := nI 1) hc dX1_build_10 (by decide) ?_
    refine g_icmp_lt (tgt := 20) hc dX1_build_11 (by decide) (fun c11 => ?_) (fun c11 => ?_)
    · skip
      refine g_iconst (v := nI 0) hc dX1_build_20 (by decide) ?_
      exact hR _ L _ _ (Or.inr ⟨Or.inr (Or.inl c11), rfl, rfl, rfl⟩) dX1_build_21
    · skip
      refine g_iload_n hc dX1_build_14 rfl 3 rfl ?_
      refine g_bipush (v := nI 20) hc dX1_build_15 (by decide) ?_
      refine g_icmp_le (tgt := 22) hc dX1_build_17 (by decide) (fun c17 => ?_) (fun c17 => ?_)
      · skip
        obtain ⟨z, rfl, hz1, hz2⟩ := z_of c11 c17
        refine g_aload_n hc dX1_build_22 rfl 0 rfl ?_
        refine m_get hc 0 (by decide) q177 0 rfl rfl dX1_build_23 rfl ?_
        refine g_bipush (v := nI 6) hc dX1_build_26 (by decide) ?_
        refine g_iload_n hc dX1_build_28 rfl 1 rfl ?_
        refine n_imul hc dX1_build_29 ?_
        refine g_iload_n hc dX1_build_30 rfl 2 rfl ?_
        refine n_iadd hc dX1_build_31 ?_
        refine g_iload_n hc dX1_build_32 rfl 3 rfl ?_
        refine n_iast (ws' := MW h dI (updN L (6 * x1 + x2) z) cnt Y Z) hc 1 0 rfl rfl (by omega) (by decide) dX1_build_33 rfl ?_
        refine g_world (ws' := MW h dI (updN L (x1 * 6 + x2) z) cnt Y Z) (by rw [Nat.mul_comm 6 x1]) ?_
        refine g_iconst (v := nI 1) hc dX1_build_34 (by decide) ?_
        exact hR _ (updN L (x1 * 6 + x2) z) _ _ (Or.inl ⟨x1, x2, z, rfl, rfl, rfl, hx1, hx2, hx3, hz1, hz2, rfl, rfl, rfl⟩) dX1_build_35
      · skip
        refine g_iconst (v := nI 0) hc dX1_build_20 (by decide) ?_
        exact hR _ L _ _ (Or.inr ⟨Or.inr (Or.inr (fa_nle c17)), rfl, rfl, rfl⟩) dX1_build_21
  · skip
    refine n_if_eq (tgt := 20) hc dX1_build_6 (by decide) (by decide) (fun _ => ?_) (fun h => absurd h (by decide))
    refine g_iconst (v := nI 0) hc dX1_build_20 (by decide) ?_
    exact hR _ L _ _ (Or.inr ⟨Or.inl k3, rfl, rfl, rfl⟩) dX1_build_21
theorem cM_close (h : Nat → Nat) (dI : ClassId) (L : Nat → Nat) (cnt : Nat) (Y Z : Nat → Nat) (a b : Int32) (hL : ∀ i, L i ≤ 20) : MI yX1_close cX1_close 3 .boolean 1 (MT dI) [.ref (h 0), .int a, .int b] (MW h dI L cnt Y Z) (fun L' : Nat → Nat => MW h dI L' cnt Y Z) (fun r L' => clsA L a b r L' 0 0) := by
  refine g_enterI (lv0 := [(0, .ref (h 0)), (1, .int a), (2, .int b)]) (by decide) (Nat.le_of_ble_eq_true rfl) rfl (fun r u h => by rcases h with ⟨_, _, _, _, _, _, _, _, rfl, _⟩ | ⟨_, rfl, _⟩ <;> rfl) (fun Γ hc hR => ?_)
  refine g_aload_n hc dX1_close_0 rfl 0 rfl ?_
  refine g_iload_n hc dX1_close_1 rfl 1 rfl ?_
  refine g_iload_n hc dX1_close_2 rfl 2 rfl ?_
  refine m_callI (n := 2) (As := [.int a, .int b]) (rest := []) hc (cM_pair h dI L cnt Y Z a b) (lw_V q194 q196 qs8 q19 q197) (by decide +kernel) (by decide) (by decide) rfl rfl (by simp [Value.category]) dX1_close_3 (fun r3 u3 k3 => ?_)
  rcases k3 with ⟨rfl, k3⟩ | ⟨rfl, k3⟩
  · obtain ⟨x1, x2, rfl, rfl, hx1, hx2, hx3⟩ := k3
    refine n_if_eq (tgt := 23) hc dX1_close_6 (by decide) (by decide) (fun h => absurd h (by decide)) (fun _ => ?_)
    refine g_aload_n hc dX1_close_9 rfl 0 rfl ?_
    refine m_get hc 0 (by decide) q177 0 rfl rfl dX1_close_10 rfl ?_
    refine g_bipush (v := nI 6) hc dX1_close_13 (by decide) ?_
    refine g_iload_n hc dX1_close_15 rfl 1 rfl ?_
    refine n_imul hc dX1_close_16 ?_
    refine g_iload_n hc dX1_close_17 rfl 2 rfl ?_
    refine n_iadd hc dX1_close_18 ?_
    refine n_iald hc 1 0 rfl rfl (by omega) (by decide) dX1_close_19 ?_
    have b19 := hL (6 * x1 + x2)
    refine n_if_ne (tgt := 25) hc dX1_close_20 (by decide) (by omega) (fun c20 => ?_) (fun c20 => ?_)
    · skip
      refine g_aload_n hc dX1_close_25 rfl 0 rfl ?_
      refine m_get hc 0 (by decide) q177 0 rfl rfl dX1_close_26 rfl ?_
      refine g_bipush (v := nI 6) hc dX1_close_29 (by decide) ?_
      refine g_iload_n hc dX1_close_31 rfl 1 rfl ?_
      refine n_imul hc dX1_close_32 ?_
      refine g_iload_n hc dX1_close_33 rfl 2 rfl ?_
      refine n_iadd hc dX1_close_34 ?_
      refine g_iconst (v := nI 0) hc dX1_close_35 (by decide) ?_
      refine n_iast (ws' := MW h dI (updN L (6 * x1 + x2) 0) cnt Y Z) hc 1 0 rfl rfl (by omega) (by decide) dX1_close_36 rfl ?_
      refine g_world (ws' := MW h dI (updN L (x1 * 6 + x2) 0) cnt Y Z) (by rw [Nat.mul_comm 6 x1]) ?_
      refine g_iconst (v := nI 1) hc dX1_close_37 (by decide) ?_
      exact hR _ (updN L (x1 * 6 + x2) 0) _ _ (Or.inl ⟨x1, x2, rfl, rfl, hx1, hx2, hx3, by rw [Nat.mul_comm]; omega, rfl, rfl, rfl⟩) dX1_close_38
    · skip
      refine g_iconst (v := nI 0) hc dX1_close_23 (by decide) ?_
      exact hR _ L _ _ (Or.inr ⟨Or.inr ⟨x1, x2, rfl, rfl, hx1, hx2, by rw [Nat.mul_comm]; exact c20⟩, rfl, rfl, rfl⟩) dX1_close_24
  · skip
    refine n_if_eq (tgt := 23) hc dX1_close_6 (by decide) (by decide) (fun _ => ?_) (fun h => absurd h (by decide))
    refine g_iconst (v := nI 0) hc dX1_close_23 (by decide) ?_
    exact hR _ L _ _ (Or.inr ⟨Or.inl k3, rfl, rfl, rfl⟩) dX1_close_24
theorem cM_road (h : Nat → Nat) (dI : ClassId) (L : Nat → Nat) (cnt : Nat) (Y Z : Nat → Nat) (a b : Int32) (hL : ∀ i, L i ≤ 20) : MI yX1_road cX1_road 3 .int 1 (MT dI) [.ref (h 0), .int a, .int b] (MW h dI L cnt Y Z) (fun _ : Unit => MW h dI L cnt Y Z) (fun r _ => roadA L a b r) := by
  refine g_enterI (lv0 := [(0, .ref (h 0)), (1, .int a), (2, .int b)]) (by decide) (Nat.le_of_ble_eq_true rfl) rfl (fun r u h => rfl) (fun Γ hc hR => ?_)
  refine g_aload_n hc dX1_road_0 rfl 0 rfl ?_
  refine g_iload_n hc dX1_road_1 rfl 1 rfl ?_
  refine g_iload_n hc dX1_road_2 rfl 2 rfl ?_
  refine m_callI (n := 2) (As := [.int a, .int b]) (rest := []) hc (cM_pair h dI L cnt Y Z a b) (lw_V q194 q196 qs8 q19 q197) (by decide +kernel) (by decide) (by decide) rfl rfl (by simp [Value.category]) dX1_road_3 (fun r3 u3 k3 => ?_)
  rcases k3 with ⟨rfl, k3⟩ | ⟨rfl, k3⟩
  · obtain ⟨x1, x2, rfl, rfl, hx1, hx2, hx3⟩ := k3
    refine n_if_eq (tgt := 37) hc dX1_road_6 (by decide) (by decide) (fun h => absurd h (by decide)) (fun _ => ?_)
    refine g_aload_n hc dX1_road_9 rfl 0 rfl ?_
    refine m_get hc 0 (by decide) q177 0 rfl rfl dX1_road_10 rfl ?_
    refine g_bipush (v := nI 6) hc dX1_road_13 (by decide) ?_
    refine g_iload_n hc dX1_road_15 rfl 1 rfl ?_
    refine n_imul hc dX1_road_16 ?_
    refine g_iload_n hc dX1_road_17 rfl 2 rfl ?_
    refine n_iadd hc dX1_road_18 ?_
    refine n_iald hc 1 0 rfl rfl (by omega) (by decide) dX1_road_19 ?_
    have b19 := hL (6 * x1 + x2)
    refine n_if_le (tgt := 37) hc dX1_road_20 (by decide) (by omega) (fun c20 => ?_) (fun c20 => ?_)
    · skip
      refine g_iconst (v := eN 0) hc dX1_road_37 (by decide) ?_
      exact hR _ () _ _ (roadA_no hx1 hx2 (by rw [Nat.mul_comm]; exact c20)) dX1_road_38
    · skip
      refine g_aload_n hc dX1_road_23 rfl 0 rfl ?_
      refine m_get hc 0 (by decide) q177 0 rfl rfl dX1_road_24 rfl ?_
      refine g_bipush (v := nI 6) hc dX1_road_27 (by decide) ?_
      refine g_iload_n hc dX1_road_29 rfl 1 rfl ?_
      refine n_imul hc dX1_road_30 ?_
      refine g_iload_n hc dX1_road_31 rfl 2 rfl ?_
      refine n_iadd hc dX1_road_32 ?_
      refine n_iald hc 1 0 rfl rfl (by omega) (by decide) dX1_road_33 ?_
      have b33 := hL (6 * x1 + x2)
      refine g_goto (tgt := 38) hc dX1_road_34 (by decide) ?_
      exact hR _ () _ _ (by rw [Nat.mul_comm] at c20 ⊢; exact roadA_yes hx1 hx2 hx3 c20) dX1_road_38
  · skip
    refine n_if_eq (tgt := 37) hc dX1_road_6 (by decide) (by decide) (fun _ => ?_) (fun h => absurd h (by decide))
    refine g_iconst (v := eN 0) hc dX1_road_37 (by decide) ?_
    exact hR _ () _ _ (roadA_np k3) dX1_road_38
theorem cM_roads (h : Nat → Nat) (dI : ClassId) (L : Nat → Nat) (cnt : Nat) (Y Z : Nat → Nat) (hL : ∀ i, L i ≤ 20) : MI yX1_roads cX1_roads 3 .int 0 (MT dI) [.ref (h 0)] (MW h dI L cnt Y Z) (fun _ : Unit => MW h dI L cnt Y Z) (fun r _ => r = nI (cntPos L 36)) := by
  refine g_enterI (lv0 := [(0, .ref (h 0))]) (by decide) (Nat.le_of_ble_eq_true rfl) rfl (fun r u h => rfl) (fun Γ hc hR => ?_)
  have loop : ∀ (i acc : Nat), i ≤ 36 → acc = cntPos L i → G Γ (MW h dI L cnt Y Z) 4 [(0, .ref (h 0)), (1, .int (nI acc)), (2, .int (nI i))] [] := by
    refine up_loop 36 _ _ ?_
    intro i acc hi e ih
    have hle := cntPos_le L i
    have j26 : ∀ z : Nat, z = cntPos L (i + 1) → i < 36 → G Γ (MW h dI L cnt Y Z) 26 [(0, .ref (h 0)), (1, .int (nI acc)), (2, .int (nI i))] [.int (nI z)] := by
      intro z hz hi2
      refine g_istore_n (lv' := [(0, .ref (h 0)), (1, .int (nI z)), (2, .int (nI i))]) hc dX1_roads_26 rfl (by decide) [1, 0, 2] rfl ?_
      refine n_iinc (lv' := [(0, .ref (h 0)), (1, .int (nI z)), (2, .int (nI (i + 1)))]) (q := 2) hc dX1_roads_27 rfl (by decide) [1, 2, 0] rfl ?_
      refine g_goto (tgt := 4) hc dX1_roads_30 (by decide) ?_
      exact ih hi2 _ hz
    refine g_iload_n hc dX1_roads_4 rfl 2 rfl ?_
    refine g_bipush (v := nI 36) hc dX1_roads_5 (by decide) ?_
    refine n_icmp_ge (tgt := 33) hc dX1_roads_7 (by decide) (by omega) (by omega) (fun c7 => ?_) (fun c7 => ?_)
    · skip
      refine g_iload_n hc dX1_roads_33 rfl 1 rfl ?_
      exact hR _ () _ _ (by rw [e, show i = 36 by omega]) dX1_roads_34
    · skip
      refine g_aload_n hc dX1_roads_10 rfl 0 rfl ?_
      refine m_get hc 0 (by decide) q177 0 rfl rfl dX1_roads_11 rfl ?_
      refine g_iload_n hc dX1_roads_14 rfl 2 rfl ?_
      refine n_iald hc 1 0 rfl rfl (by omega) (by decide) dX1_roads_15 ?_
      have b15 := hL i
      refine n_if_le (tgt := 25) hc dX1_roads_16 (by decide) (by omega) (fun c16 => ?_) (fun c16 => ?_)
      · skip
        refine g_iload_n hc dX1_roads_25 rfl 1 rfl ?_
        exact j26 _ (by rw [cntPos, if_neg (by omega), e]; rfl) (by omega)
      · skip
        refine g_iload_n hc dX1_roads_19 rfl 1 rfl ?_
        refine g_iconst (v := nI 1) hc dX1_roads_20 (by decide) ?_
        refine n_iadd hc dX1_roads_21 ?_
        refine g_goto (tgt := 26) hc dX1_roads_22 (by decide) ?_
        exact j26 _ (by rw [cntPos, if_pos c16, e]) (by omega)
  refine g_iconst (v := nI 0) hc dX1_roads_0 (by decide) ?_
  refine g_istore_n (lv' := [(0, .ref (h 0)), (1, .int (nI 0))]) hc dX1_roads_1 rfl (by decide) [1, 0] rfl ?_
  refine g_iconst (v := nI 0) hc dX1_roads_2 (by decide) ?_
  refine g_istore_n (lv' := [(0, .ref (h 0)), (1, .int (nI 0)), (2, .int (nI 0))]) hc dX1_roads_3 rfl (by decide) [1, 2, 0] rfl ?_
  exact loop 0 0 (by decide) rfl
def dgY (y i : Nat) : Nat := y / 2 ^ (4 * i) % 16
theorem dg_and (y i : Nat) : y / 2 ^ (4 * i) &&& 15 = dgY y i := Nat.and_two_pow_sub_one_eq_mod _ 4
theorem cM_digit (h : Nat → Nat) (dI : ClassId) (L : Nat → Nat) (cnt : Nat) (Y Z : Nat → Nat) (w i : Nat) (hw : w < 65) (hi : i < 6) (hY : Y w < 16777216) : MI yX1_digit cX1_digit 3 .int 0 (MT dI) [.ref (h 0), .int (nI w), .int (nI i)] (MW h dI L cnt Y Z) (fun _ : Unit => MW h dI L cnt Y Z) (fun r _ => r = nI (dgY (Y w) i)) := by
  refine g_enterI (lv0 := [(0, .ref (h 0)), (1, .int (nI w)), (2, .int (nI i))]) (by decide) (Nat.le_of_ble_eq_true rfl) rfl (fun r u h => rfl) (fun Γ hc hR => ?_)
  refine g_aload_n hc dX1_digit_0 rfl 0 rfl ?_
  refine m_get hc 2 (by decide) q179 0 rfl rfl dX1_digit_1 rfl ?_
  refine g_iload_n hc dX1_digit_4 rfl 1 rfl ?_
  refine n_iald hc 2 0 rfl rfl (by omega) (by decide) dX1_digit_5 ?_
  refine g_iconst (v := nI 4) hc dX1_digit_6 (by decide) ?_
  refine g_iload_n hc dX1_digit_7 rfl 2 rfl ?_
  refine n_imul hc dX1_digit_8 ?_
  refine n_ishr hc dX1_digit_9 (by omega) (by omega) ?_
  refine g_bipush (v := nI 15) hc dX1_digit_10 (by decide) ?_
  refine n_iand hc dX1_digit_12 ?_
  exact hR _ () _ _ (by rw [dg_and]) dX1_digit_13
end
section
set_option maxRecDepth 100000
set_option maxHeartbeats 4000000
/-! look, in plain numbers: (rest, used, at, sum, way, size, ok, ended) -/
abbrev LkS : Type := Nat × Nat × Nat × Nat × Nat × Nat × Nat × Nat
def lkS (L : Nat → Nat) (g : LkS) : LkS :=
  if g.1 % 7 < 6 then (g.1 / 7, g.2.1 ||| 1 * 2 ^ (g.1 % 7), g.1 % 7, g.2.2.2.1 + L (6 * g.2.2.1 + g.1 % 7), g.2.2.2.2.1 ||| (g.1 % 7) * 2 ^ (4 * g.2.2.2.2.2.1), g.2.2.2.2.2.1 + 1, if g.2.2.2.2.2.2.1 = 1 ∧ g.2.2.2.2.2.2.2 = 0 ∧ ¬ g.2.1.testBit (g.1 % 7) = true ∧ 0 < L (6 * g.2.2.1 + g.1 % 7) then 1 else 0, g.2.2.2.2.2.2.2)
  else (g.1 / 7, g.2.1, g.2.2.1, g.2.2.2.1, g.2.2.2.2.1, g.2.2.2.2.2.1, g.2.2.2.2.2.2.1, 1)
def lkI (L : Nat → Nat) : Nat → LkS → LkS
  | 0, g => g
  | k + 1, g => lkI L k (lkS L g)
def lk0 (L : Nat → Nat) (s t c : Nat) : LkS := lkI L 4 (c, 1 * 2 ^ s ||| 1 * 2 ^ t, s, 0, s, 1, 1, 0)
def lkOk (L : Nat → Nat) (t : Nat) (g : LkS) : Prop := g.2.2.2.2.2.2.1 = 1 ∧ 0 < L (6 * g.2.2.1 + t)
def lkY (t : Nat) (g : LkS) : Nat := if g.2.2.2.2.2.1 < 5 then (g.2.2.2.2.1 ||| t * 2 ^ (4 * g.2.2.2.2.2.1)) ||| 15 * 2 ^ (4 * g.2.2.2.2.2.1 + 4) else g.2.2.2.2.1 ||| t * 2 ^ (4 * g.2.2.2.2.2.1)
abbrev MS : Type := Nat × (Nat → Nat) × (Nat → Nat)
def lookA (L : Nat → Nat) (t cnt : Nat) (Y Z : Nat → Nat) (g : LkS) (u : MS) : Prop := (lkOk L t g ∧ u = (cnt + 1, updN Y cnt (lkY t g), updN Z cnt (g.2.2.2.1 + L (6 * g.2.2.1 + t)))) ∨ (¬ lkOk L t g ∧ u = (cnt, Y, Z))
theorem shl_small {v n : Nat} (hv : v ≤ 15) (hn : n ≤ 24) : v * 2 ^ n < 4294967296 := by
  have h1 : (2 : Nat) ^ n ≤ 2 ^ 24 := Nat.pow_le_pow_right (by decide) hn
  have h2 : v * 2 ^ n ≤ 15 * 2 ^ 24 := Nat.mul_le_mul hv h1
  omega
theorem and1_lt (x : Nat) : x &&& 1 < 2147483648 := by rw [Nat.and_one_is_mod]; omega
theorem cM_look (h : Nat → Nat) (dI : ClassId) (L : Nat → Nat) (cnt : Nat) (Y Z : Nat → Nat) (s t c : Nat) (hL : ∀ i, L i ≤ 20) (hs : s < 6) (ht : t < 6) (hc24 : c < 2401) (hcnt : cnt ≤ 65) (hroom : lkOk L t (lk0 L s t c) → cnt < 65) : MV yX1_look cX1_look 14 0 (MT dI) [.ref (h 0), .int (nI s), .int (nI t), .int (nI c)] (MW h dI L cnt Y Z) (fun u : MS => MW h dI L u.1 u.2.1 u.2.2) (lookA L t cnt Y Z (lk0 L s t c)) := by
  refine g_enterV (lv0 := [(0, .ref (h 0)), (1, .int (nI s)), (2, .int (nI t)), (3, .int (nI c))]) (by decide) (Nat.le_of_ble_eq_true rfl) rfl (fun Γ hc hR => ?_)
  have hu0 : (1 * 2 ^ s ||| 1 * 2 ^ t) < 64 := or_lt64 (by rw [Nat.one_mul]; exact Nat.pow_lt_pow_right (a := 2) (m := s) (n := 6) (by decide) hs) (by rw [Nat.one_mul]; exact Nat.pow_lt_pow_right (a := 2) (m := t) (n := 6) (by decide) ht)
  have loop : ∀ (k : Nat) (g : LkS), k ≤ 4 → (lkI L (4 - k) g = lk0 L s t c ∧ g.1 ≤ 2401 ∧ g.2.1 < 64 ∧ g.2.2.1 < 6 ∧ g.2.2.2.1 ≤ 20 * k ∧ g.2.2.2.2.2.1 ≤ 1 + k ∧ g.2.2.2.2.2.2.1 ≤ 1 ∧ g.2.2.2.2.2.2.2 ≤ 1) → G Γ (MW h dI L cnt Y Z) 33 [(0, .ref (h 0)), (1, .int (nI s)), (2, .int (nI t)), (3, .int (nI c)), (4, .int (nI g.1)), (5, .int (nI g.2.1)), (6, .int (nI g.2.2.1)), (7, .int (nI g.2.2.2.1)), (8, .int (nI g.2.2.2.2.1)), (9, .int (nI g.2.2.2.2.2.1)), (10, .int (nI g.2.2.2.2.2.2.1)), (11, .int (nI g.2.2.2.2.2.2.2)), (12, .int (nI k))] [] := by
    refine up_loop 4 _ _ ?_
    intro k g hk4 hI ih
    obtain ⟨rest, used, at1, sm, wy, sz, ok, en⟩ := g
    obtain ⟨e, h1, h2, h3, h4, h5, h6, h7⟩ := hI
    dsimp only at h1 h2 h3 h4 h5 h6 h7 ⊢
    have hv7 : rest % 7 < 7 := Nat.mod_lt _ (by decide)
    have step : k < 4 → lkI L (4 - (k + 1)) (lkS L (rest, used, at1, sm, wy, sz, ok, en)) = lk0 L s t c := by
      intro hk
      rw [← e, show 4 - k = (4 - (k + 1)) + 1 by omega]
      rfl
    have j101 : ∀ z : Nat, k < 4 → rest % 7 < 6 → z = (if (ok = 1 ∧ en = 0 ∧ ¬ used.testBit (rest % 7) = true ∧ 0 < L (6 * at1 + rest % 7)) then 1 else 0) → G Γ (MW h dI L cnt Y Z) 101 [(0, .ref (h 0)), (1, .int (nI s)), (2, .int (nI t)), (3, .int (nI c)), (4, .int (nI (rest / 7))), (5, .int (nI used)), (6, .int (nI at1)), (7, .int (nI sm)), (8, .int (nI wy)), (9, .int (nI sz)), (10, .int (nI ok)), (11, .int (nI en)), (12, .int (nI k)), (13, .int (nI (rest % 7)))] [.int (nI z)] := by
      intro z hk hv hz
      have hz1 : z ≤ 1 := by rw [hz]; split <;> omega
      have hLv := hL (6 * at1 + rest % 7)
      have hs2 := step hk
      rw [lkS, if_pos hv] at hs2
      dsimp only at hs2
      rw [← hz] at hs2
      refine g_istore (lv' := [(0, .ref (h 0)), (1, .int (nI s)), (2, .int (nI t)), (3, .int (nI c)), (4, .int (nI (rest / 7))), (5, .int (nI used)), (6, .int (nI at1)), (7, .int (nI sm)), (8, .int (nI wy)), (9, .int (nI sz)), (10, .int (nI z)), (11, .int (nI en)), (12, .int (nI k)), (13, .int (nI (rest % 7)))]) hc dX1_look_101 (by decide) [1, 2, 3, 4, 5, 6, 7, 8, 9, 10, 0, 11, 12, 13] rfl ?_
      refine g_iload hc dX1_look_103 7 rfl ?_
      refine g_aload_n hc dX1_look_105 rfl 0 rfl ?_
      refine m_get hc 0 (by decide) q177 0 rfl rfl dX1_look_106 rfl ?_
      refine g_bipush (v := nI 6) hc dX1_look_109 (by decide) ?_
      refine g_iload hc dX1_look_111 6 rfl ?_
      refine n_imul hc dX1_look_113 ?_
      refine g_iload hc dX1_look_114 13 rfl ?_
      refine n_iadd hc dX1_look_116 ?_
      refine n_iald hc 1 0 rfl rfl (by omega) (by decide) dX1_look_117 ?_
      refine n_iadd hc dX1_look_118 ?_
      refine g_istore (lv' := [(0, .ref (h 0)), (1, .int (nI s)), (2, .int (nI t)), (3, .int (nI c)), (4, .int (nI (rest / 7))), (5, .int (nI used)), (6, .int (nI at1)), (7, .int (nI (sm + (L (6 * at1 + (rest % 7)))))), (8, .int (nI wy)), (9, .int (nI sz)), (10, .int (nI z)), (11, .int (nI en)), (12, .int (nI k)), (13, .int (nI (rest % 7)))]) hc dX1_look_119 (by decide) [1, 2, 3, 4, 5, 6, 7, 0, 8, 9, 10, 11, 12, 13] rfl ?_
      refine g_iload hc dX1_look_121 5 rfl ?_
      refine g_iconst (v := nI 1) hc dX1_look_123 (by decide) ?_
      refine g_iload hc dX1_look_124 13 rfl ?_
      refine n_ishl hc dX1_look_126 (by omega) (shl_ok (by omega)) ?_
      refine n_ior hc dX1_look_127 ?_
      refine g_istore (lv' := [(0, .ref (h 0)), (1, .int (nI s)), (2, .int (nI t)), (3, .int (nI c)), (4, .int (nI (rest / 7))), (5, .int (nI (used ||| (1 * 2 ^ (rest % 7))))), (6, .int (nI at1)), (7, .int (nI (sm + (L (6 * at1 + (rest % 7)))))), (8, .int (nI wy)), (9, .int (nI sz)), (10, .int (nI z)), (11, .int (nI en)), (12, .int (nI k)), (13, .int (nI (rest % 7)))]) hc dX1_look_128 (by decide) [1, 2, 3, 4, 5, 0, 6, 7, 8, 9, 10, 11, 12, 13] rfl ?_
      refine g_iload hc dX1_look_130 8 rfl ?_
      refine g_iload hc dX1_look_132 13 rfl ?_
      refine g_iconst (v := nI 4) hc dX1_look_134 (by decide) ?_
      refine g_iload hc dX1_look_135 9 rfl ?_
      refine n_imul hc dX1_look_137 ?_
      refine n_ishl hc dX1_look_138 (by omega) (shl_small (by omega) (by omega)) ?_
      refine n_ior hc dX1_look_139 ?_
      refine g_istore (lv' := [(0, .ref (h 0)), (1, .int (nI s)), (2, .int (nI t)), (3, .int (nI c)), (4, .int (nI (rest / 7))), (5, .int (nI (used ||| (1 * 2 ^ (rest % 7))))), (6, .int (nI at1)), (7, .int (nI (sm + (L (6 * at1 + (rest % 7)))))), (8, .int (nI (wy ||| ((rest % 7) * 2 ^ (4 * sz))))), (9, .int (nI sz)), (10, .int (nI z)), (11, .int (nI en)), (12, .int (nI k)), (13, .int (nI (rest % 7)))]) hc dX1_look_140 (by decide) [1, 2, 3, 4, 5, 6, 7, 8, 0, 9, 10, 11, 12, 13] rfl ?_
      refine n_iinc (lv' := [(0, .ref (h 0)), (1, .int (nI s)), (2, .int (nI t)), (3, .int (nI c)), (4, .int (nI (rest / 7))), (5, .int (nI (used ||| (1 * 2 ^ (rest % 7))))), (6, .int (nI at1)), (7, .int (nI (sm + (L (6 * at1 + (rest % 7)))))), (8, .int (nI (wy ||| ((rest % 7) * 2 ^ (4 * sz))))), (9, .int (nI (sz + 1))), (10, .int (nI z)), (11, .int (nI en)), (12, .int (nI k)), (13, .int (nI (rest % 7)))]) (q := 9) hc dX1_look_142 rfl (by decide) [1, 2, 3, 4, 5, 6, 7, 8, 9, 0, 10, 11, 12, 13] rfl ?_
      refine g_iload hc dX1_look_145 13 rfl ?_
      refine g_istore (lv' := [(0, .ref (h 0)), (1, .int (nI s)), (2, .int (nI t)), (3, .int (nI c)), (4, .int (nI (rest / 7))), (5, .int (nI (used ||| (1 * 2 ^ (rest % 7))))), (6, .int (nI (rest % 7))), (7, .int (nI (sm + (L (6 * at1 + (rest % 7)))))), (8, .int (nI (wy ||| ((rest % 7) * 2 ^ (4 * sz))))), (9, .int (nI (sz + 1))), (10, .int (nI z)), (11, .int (nI en)), (12, .int (nI k)), (13, .int (nI (rest % 7)))]) hc dX1_look_147 (by decide) [1, 2, 3, 4, 5, 6, 0, 7, 8, 9, 10, 11, 12, 13] rfl ?_
      refine g_iload hc dX1_look_149 11 rfl ?_
      refine n_if_ne (tgt := 161) hc dX1_look_151 (by decide) (by omega) (fun c151 => ?_) (fun c151 => ?_)
      · skip
        refine g_iconst (v := nI 1) hc dX1_look_161 (by decide) ?_
        refine g_goto (tgt := 166) hc dX1_look_162 (by decide) ?_
        refine g_istore (lv' := [(0, .ref (h 0)), (1, .int (nI s)), (2, .int (nI t)), (3, .int (nI c)), (4, .int (nI (rest / 7))), (5, .int (nI (used ||| (1 * 2 ^ (rest % 7))))), (6, .int (nI (rest % 7))), (7, .int (nI (sm + (L (6 * at1 + (rest % 7)))))), (8, .int (nI (wy ||| ((rest % 7) * 2 ^ (4 * sz))))), (9, .int (nI (sz + 1))), (10, .int (nI z)), (11, .int (nI 1)), (12, .int (nI k)), (13, .int (nI (rest % 7)))]) hc dX1_look_166 (by decide) [1, 2, 3, 4, 5, 6, 7, 8, 9, 10, 11, 0, 12, 13] rfl ?_
        refine n_iinc (lv' := [(0, .ref (h 0)), (1, .int (nI s)), (2, .int (nI t)), (3, .int (nI c)), (4, .int (nI (rest / 7))), (5, .int (nI (used ||| (1 * 2 ^ (rest % 7))))), (6, .int (nI (rest % 7))), (7, .int (nI (sm + (L (6 * at1 + (rest % 7)))))), (8, .int (nI (wy ||| ((rest % 7) * 2 ^ (4 * sz))))), (9, .int (nI (sz + 1))), (10, .int (nI z)), (11, .int (nI 1)), (12, .int (nI (k + 1))), (13, .int (nI (rest % 7)))]) (q := 12) hc dX1_look_168 rfl (by decide) [1, 2, 3, 4, 5, 6, 7, 8, 9, 10, 11, 12, 0, 13] rfl ?_
        refine g_goto (tgt := 33) hc dX1_look_171 (by decide) ?_
        refine g_lv (lv' := [(0, .ref (h 0)), (1, .int (nI s)), (2, .int (nI t)), (3, .int (nI c)), (4, .int (nI (rest / 7))), (5, .int (nI (used ||| (1 * 2 ^ (rest % 7))))), (6, .int (nI (rest % 7))), (7, .int (nI (sm + (L (6 * at1 + (rest % 7)))))), (8, .int (nI (wy ||| ((rest % 7) * 2 ^ (4 * sz))))), (9, .int (nI (sz + 1))), (10, .int (nI z)), (11, .int (nI 1)), (12, .int (nI (k + 1)))]) [0, 1, 2, 3, 4, 5, 6, 7, 8, 9, 10, 11, 12] rfl ?_
        have hen : en = 1 := by omega
        rw [hen] at hs2
        exact ih hk (rest / 7, used ||| 1 * 2 ^ (rest % 7), rest % 7, sm + L (6 * at1 + rest % 7), wy ||| rest % 7 * 2 ^ (4 * sz), sz + 1, z, 1) ⟨hs2, by dsimp only; omega, or_lt64 h2 (by rw [Nat.one_mul]; exact Nat.pow_lt_pow_right (a := 2) (m := rest % 7) (n := 6) (by decide) hv), hv, by dsimp only; omega, by dsimp only; omega, hz1, by dsimp only; omega⟩
      · skip
        refine g_iload hc dX1_look_154 13 rfl ?_
        refine g_bipush (v := nI 6) hc dX1_look_156 (by decide) ?_
        refine n_icmp_ne (tgt := 165) hc dX1_look_158 (by decide) (by omega) (by omega) (fun c158 => ?_) (fun c158 => ?_)
        · skip
          refine g_iconst (v := nI 0) hc dX1_look_165 (by decide) ?_
          refine g_istore (lv' := [(0, .ref (h 0)), (1, .int (nI s)), (2, .int (nI t)), (3, .int (nI c)), (4, .int (nI (rest / 7))), (5, .int (nI (used ||| (1 * 2 ^ (rest % 7))))), (6, .int (nI (rest % 7))), (7, .int (nI (sm + (L (6 * at1 + (rest % 7)))))), (8, .int (nI (wy ||| ((rest % 7) * 2 ^ (4 * sz))))), (9, .int (nI (sz + 1))), (10, .int (nI z)), (11, .int (nI 0)), (12, .int (nI k)), (13, .int (nI (rest % 7)))]) hc dX1_look_166 (by decide) [1, 2, 3, 4, 5, 6, 7, 8, 9, 10, 11, 0, 12, 13] rfl ?_
          refine n_iinc (lv' := [(0, .ref (h 0)), (1, .int (nI s)), (2, .int (nI t)), (3, .int (nI c)), (4, .int (nI (rest / 7))), (5, .int (nI (used ||| (1 * 2 ^ (rest % 7))))), (6, .int (nI (rest % 7))), (7, .int (nI (sm + (L (6 * at1 + (rest % 7)))))), (8, .int (nI (wy ||| ((rest % 7) * 2 ^ (4 * sz))))), (9, .int (nI (sz + 1))), (10, .int (nI z)), (11, .int (nI 0)), (12, .int (nI (k + 1))), (13, .int (nI (rest % 7)))]) (q := 12) hc dX1_look_168 rfl (by decide) [1, 2, 3, 4, 5, 6, 7, 8, 9, 10, 11, 12, 0, 13] rfl ?_
          refine g_goto (tgt := 33) hc dX1_look_171 (by decide) ?_
          refine g_lv (lv' := [(0, .ref (h 0)), (1, .int (nI s)), (2, .int (nI t)), (3, .int (nI c)), (4, .int (nI (rest / 7))), (5, .int (nI (used ||| (1 * 2 ^ (rest % 7))))), (6, .int (nI (rest % 7))), (7, .int (nI (sm + (L (6 * at1 + (rest % 7)))))), (8, .int (nI (wy ||| ((rest % 7) * 2 ^ (4 * sz))))), (9, .int (nI (sz + 1))), (10, .int (nI z)), (11, .int (nI 0)), (12, .int (nI (k + 1)))]) [0, 1, 2, 3, 4, 5, 6, 7, 8, 9, 10, 11, 12] rfl ?_
          rw [c151] at hs2
          exact ih hk (rest / 7, used ||| 1 * 2 ^ (rest % 7), rest % 7, sm + L (6 * at1 + rest % 7), wy ||| rest % 7 * 2 ^ (4 * sz), sz + 1, z, 0) ⟨hs2, by dsimp only; omega, or_lt64 h2 (by rw [Nat.one_mul]; exact Nat.pow_lt_pow_right (a := 2) (m := rest % 7) (n := 6) (by decide) hv), hv, by dsimp only; omega, by dsimp only; omega, hz1, by dsimp only; omega⟩
        · skip
          refine g_iconst (v := nI 1) hc dX1_look_161 (by decide) ?_
          refine g_goto (tgt := 166) hc dX1_look_162 (by decide) ?_
          refine g_istore (lv' := [(0, .ref (h 0)), (1, .int (nI s)), (2, .int (nI t)), (3, .int (nI c)), (4, .int (nI (rest / 7))), (5, .int (nI (used ||| (1 * 2 ^ (rest % 7))))), (6, .int (nI (rest % 7))), (7, .int (nI (sm + (L (6 * at1 + (rest % 7)))))), (8, .int (nI (wy ||| ((rest % 7) * 2 ^ (4 * sz))))), (9, .int (nI (sz + 1))), (10, .int (nI z)), (11, .int (nI 1)), (12, .int (nI k)), (13, .int (nI (rest % 7)))]) hc dX1_look_166 (by decide) [1, 2, 3, 4, 5, 6, 7, 8, 9, 10, 11, 0, 12, 13] rfl ?_
          refine n_iinc (lv' := [(0, .ref (h 0)), (1, .int (nI s)), (2, .int (nI t)), (3, .int (nI c)), (4, .int (nI (rest / 7))), (5, .int (nI (used ||| (1 * 2 ^ (rest % 7))))), (6, .int (nI (rest % 7))), (7, .int (nI (sm + (L (6 * at1 + (rest % 7)))))), (8, .int (nI (wy ||| ((rest % 7) * 2 ^ (4 * sz))))), (9, .int (nI (sz + 1))), (10, .int (nI z)), (11, .int (nI 1)), (12, .int (nI (k + 1))), (13, .int (nI (rest % 7)))]) (q := 12) hc dX1_look_168 rfl (by decide) [1, 2, 3, 4, 5, 6, 7, 8, 9, 10, 11, 12, 0, 13] rfl ?_
          refine g_goto (tgt := 33) hc dX1_look_171 (by decide) ?_
          refine g_lv (lv' := [(0, .ref (h 0)), (1, .int (nI s)), (2, .int (nI t)), (3, .int (nI c)), (4, .int (nI (rest / 7))), (5, .int (nI (used ||| (1 * 2 ^ (rest % 7))))), (6, .int (nI (rest % 7))), (7, .int (nI (sm + (L (6 * at1 + (rest % 7)))))), (8, .int (nI (wy ||| ((rest % 7) * 2 ^ (4 * sz))))), (9, .int (nI (sz + 1))), (10, .int (nI z)), (11, .int (nI 1)), (12, .int (nI (k + 1)))]) [0, 1, 2, 3, 4, 5, 6, 7, 8, 9, 10, 11, 12] rfl ?_
          exact absurd c158 (by omega)
    refine g_iload hc dX1_look_33 12 rfl ?_
    refine g_iconst (v := nI 4) hc dX1_look_35 (by decide) ?_
    refine n_icmp_ge (tgt := 174) hc dX1_look_36 (by decide) (by omega) (by omega) (fun c36 => ?_) (fun c36 => ?_)
    · skip
      have hk : k = 4 := by omega
      have hfin : (rest, used, at1, sm, wy, sz, ok, en) = lk0 L s t c := by rw [← e, hk]; rfl
      have hLt := hL (6 * at1 + t)
      refine g_lv (lv' := [(0, .ref (h 0)), (2, .int (nI t)), (6, .int (nI at1)), (7, .int (nI sm)), (8, .int (nI wy)), (9, .int (nI sz)), (10, .int (nI ok))]) [0, 2, 6, 7, 8, 9, 10] rfl ?_
      have j245 : ∀ z : Nat, ok = 1 → 0 < L (6 * at1 + t) → cnt < 65 → z = lkY t (rest, used, at1, sm, wy, sz, ok, en) → G Γ (MW h dI L cnt Y Z) 245 [(0, .ref (h 0)), (2, .int (nI t)), (6, .int (nI at1)), (7, .int (nI sm)), (8, .int (nI (wy ||| t * 2 ^ (4 * sz)))), (9, .int (nI sz)), (10, .int (nI ok))] [.int (nI z), .int (nI cnt), .ref (h 2)] := by
        intro z hok hLp hc65 hz
        refine n_iast (ws' := MW h dI L cnt (updN Y cnt z) Z) hc 2 0 rfl rfl (by omega) (by decide) dX1_look_245 rfl ?_
        refine g_aload_n hc dX1_look_246 rfl 0 rfl ?_
        refine m_get hc 3 (by decide) q180 0 rfl rfl dX1_look_247 rfl ?_
        refine g_aload_n hc dX1_look_250 rfl 0 rfl ?_
        refine m_get hc 1 (by decide) q178 0 rfl rfl dX1_look_251 rfl ?_
        refine g_iload hc dX1_look_254 3 rfl ?_
        refine g_aload_n hc dX1_look_256 rfl 0 rfl ?_
        refine m_get hc 0 (by decide) q177 0 rfl rfl dX1_look_257 rfl ?_
        refine g_bipush (v := nI 6) hc dX1_look_260 (by decide) ?_
        refine g_iload hc dX1_look_262 2 rfl ?_
        refine n_imul hc dX1_look_264 ?_
        refine g_iload_n hc dX1_look_265 rfl 1 rfl ?_
        refine n_iadd hc dX1_look_266 ?_
        refine n_iald hc 1 0 rfl rfl (by omega) (by decide) dX1_look_267 ?_
        refine n_iadd hc dX1_look_268 ?_
        refine n_iast (ws' := MW h dI L cnt (updN Y cnt z) (updN Z cnt (sm + (L (6 * at1 + t))))) hc 3 0 rfl rfl (by omega) (by decide) dX1_look_269 rfl ?_
        refine g_aload_n hc dX1_look_270 rfl 0 rfl ?_
        refine g_dup hc dX1_look_271 rfl ?_
        refine m_get hc 1 (by decide) q178 0 rfl rfl dX1_look_272 rfl ?_
        refine g_iconst (v := nI 1) hc dX1_look_275 (by decide) ?_
        refine n_iadd hc dX1_look_276 ?_
        refine m_put (ws' := MW h dI L (cnt + 1) (updN Y cnt z) (updN Z cnt (sm + (L (6 * at1 + t))))) (ty := .int) hc 1 (by decide) q178 0 rfl rfl (by decide +kernel) rfl rfl (Nat.le_of_ble_eq_true rfl) dX1_look_277 rfl rfl ?_
        refine hR (cnt + 1, updN Y cnt z, updN Z cnt (sm + L (6 * at1 + t))) _ _ (Or.inl ⟨by rw [← hfin]; exact ⟨hok, hLp⟩, ?_⟩) dX1_look_280
        rw [← hfin, hz]
      refine g_iload hc dX1_look_174 6 rfl ?_
      refine n_if_eq (tgt := 280) hc dX1_look_176 (by decide) (by omega) (fun c176 => ?_) (fun c176 => ?_)
      · skip
        exact hR (cnt, Y, Z) _ _ (Or.inr ⟨by rw [← hfin]; exact fun hh => by have := hh.1; dsimp only at this; omega, rfl⟩) dX1_look_280
      · skip
        refine g_aload_n hc dX1_look_179 rfl 0 rfl ?_
        refine m_get hc 0 (by decide) q177 0 rfl rfl dX1_look_180 rfl ?_
        refine g_bipush (v := nI 6) hc dX1_look_183 (by decide) ?_
        refine g_iload hc dX1_look_185 2 rfl ?_
        refine n_imul hc dX1_look_187 ?_
        refine g_iload_n hc dX1_look_188 rfl 1 rfl ?_
        refine n_iadd hc dX1_look_189 ?_
        refine n_iald hc 1 0 rfl rfl (by omega) (by decide) dX1_look_190 ?_
        have b190 := hL (6 * at1 + t)
        refine n_if_le (tgt := 280) hc dX1_look_191 (by decide) (by omega) (fun c191 => ?_) (fun c191 => ?_)
        · skip
          exact hR (cnt, Y, Z) _ _ (Or.inr ⟨by rw [← hfin]; exact fun hh => by have := hh.2; dsimp only at this; omega, rfl⟩) dX1_look_280
        · skip
          refine g_aload_n hc dX1_look_194 rfl 0 rfl ?_
          refine m_get hc 1 (by decide) q178 0 rfl rfl dX1_look_195 rfl ?_
          refine g_bipush (v := nI 65) hc dX1_look_198 (by decide) ?_
          refine n_icmp_ge (tgt := 280) hc dX1_look_200 (by decide) (by omega) (by omega) (fun c200 => ?_) (fun c200 => ?_)
          · skip
            have hlt := hroom (by rw [← hfin]; exact ⟨by dsimp only; omega, c191⟩)
            exact absurd c200 (by omega)
          · skip
            refine g_iload hc dX1_look_203 4 rfl ?_
            refine g_iload_n hc dX1_look_205 rfl 1 rfl ?_
            refine g_iconst (v := nI 4) hc dX1_look_206 (by decide) ?_
            refine g_iload hc dX1_look_207 5 rfl ?_
            refine n_imul hc dX1_look_209 ?_
            refine n_ishl hc dX1_look_210 (by omega) (shl_small (by omega) (by omega)) ?_
            refine n_ior hc dX1_look_211 ?_
            refine g_istore (lv' := [(0, .ref (h 0)), (2, .int (nI t)), (6, .int (nI at1)), (7, .int (nI sm)), (8, .int (nI (wy ||| (t * 2 ^ (4 * sz))))), (9, .int (nI sz)), (10, .int (nI ok))]) hc dX1_look_212 (by decide) [1, 2, 3, 4, 0, 5, 6] rfl ?_
            refine g_aload_n hc dX1_look_214 rfl 0 rfl ?_
            refine m_get hc 2 (by decide) q179 0 rfl rfl dX1_look_215 rfl ?_
            refine g_aload_n hc dX1_look_218 rfl 0 rfl ?_
            refine m_get hc 1 (by decide) q178 0 rfl rfl dX1_look_219 rfl ?_
            refine g_iload hc dX1_look_222 5 rfl ?_
            refine g_iconst (v := nI 5) hc dX1_look_224 (by decide) ?_
            refine n_icmp_ge (tgt := 243) hc dX1_look_225 (by decide) (by omega) (by omega) (fun c225 => ?_) (fun c225 => ?_)
            · skip
              refine g_iload hc dX1_look_243 4 rfl ?_
              exact j245 _ (by omega) c191 c200 (by rw [lkY, if_neg (by dsimp only; omega)])
            · skip
              refine g_iload hc dX1_look_228 4 rfl ?_
              refine g_bipush (v := nI 15) hc dX1_look_230 (by decide) ?_
              refine g_iconst (v := nI 4) hc dX1_look_232 (by decide) ?_
              refine g_iload hc dX1_look_233 5 rfl ?_
              refine n_imul hc dX1_look_235 ?_
              refine g_iconst (v := nI 4) hc dX1_look_236 (by decide) ?_
              refine n_iadd hc dX1_look_237 ?_
              refine n_ishl hc dX1_look_238 (by omega) (shl_small (by omega) (by omega)) ?_
              refine n_ior hc dX1_look_239 ?_
              refine g_goto (tgt := 245) hc dX1_look_240 (by decide) ?_
              exact j245 _ (by omega) c191 c200 (by rw [lkY, if_pos c225])
      skip
    · skip
      refine g_iload hc dX1_look_39 4 rfl ?_
      refine g_bipush (v := nI 7) hc dX1_look_41 (by decide) ?_
      refine n_irem hc dX1_look_43 (by decide) (by decide) (by omega) ?_
      refine g_istore (lv' := [(0, .ref (h 0)), (1, .int (nI s)), (2, .int (nI t)), (3, .int (nI c)), (4, .int (nI rest)), (5, .int (nI used)), (6, .int (nI at1)), (7, .int (nI sm)), (8, .int (nI wy)), (9, .int (nI sz)), (10, .int (nI ok)), (11, .int (nI en)), (12, .int (nI k)), (13, .int (nI (rest % 7)))]) hc dX1_look_44 (by decide) [1, 2, 3, 4, 5, 6, 7, 8, 9, 10, 11, 12, 13, 0] rfl ?_
      refine g_iload hc dX1_look_46 4 rfl ?_
      refine g_bipush (v := nI 7) hc dX1_look_48 (by decide) ?_
      refine n_idiv hc dX1_look_50 (by decide) (by decide) (by omega) ?_
      refine g_istore (lv' := [(0, .ref (h 0)), (1, .int (nI s)), (2, .int (nI t)), (3, .int (nI c)), (4, .int (nI (rest / 7))), (5, .int (nI used)), (6, .int (nI at1)), (7, .int (nI sm)), (8, .int (nI wy)), (9, .int (nI sz)), (10, .int (nI ok)), (11, .int (nI en)), (12, .int (nI k)), (13, .int (nI (rest % 7)))]) hc dX1_look_51 (by decide) [1, 2, 3, 4, 0, 5, 6, 7, 8, 9, 10, 11, 12, 13] rfl ?_
      refine g_iload hc dX1_look_53 13 rfl ?_
      refine g_bipush (v := nI 6) hc dX1_look_55 (by decide) ?_
      refine n_icmp_ge (tgt := 149) hc dX1_look_57 (by decide) (by omega) (by omega) (fun c57 => ?_) (fun c57 => ?_)
      · skip
        refine g_iload hc dX1_look_149 11 rfl ?_
        refine n_if_ne (tgt := 161) hc dX1_look_151 (by decide) (by omega) (fun c151 => ?_) (fun c151 => ?_)
        · skip
          refine g_iconst (v := nI 1) hc dX1_look_161 (by decide) ?_
          refine g_goto (tgt := 166) hc dX1_look_162 (by decide) ?_
          refine g_istore (lv' := [(0, .ref (h 0)), (1, .int (nI s)), (2, .int (nI t)), (3, .int (nI c)), (4, .int (nI (rest / 7))), (5, .int (nI used)), (6, .int (nI at1)), (7, .int (nI sm)), (8, .int (nI wy)), (9, .int (nI sz)), (10, .int (nI ok)), (11, .int (nI 1)), (12, .int (nI k)), (13, .int (nI (rest % 7)))]) hc dX1_look_166 (by decide) [1, 2, 3, 4, 5, 6, 7, 8, 9, 10, 11, 0, 12, 13] rfl ?_
          refine n_iinc (lv' := [(0, .ref (h 0)), (1, .int (nI s)), (2, .int (nI t)), (3, .int (nI c)), (4, .int (nI (rest / 7))), (5, .int (nI used)), (6, .int (nI at1)), (7, .int (nI sm)), (8, .int (nI wy)), (9, .int (nI sz)), (10, .int (nI ok)), (11, .int (nI 1)), (12, .int (nI (k + 1))), (13, .int (nI (rest % 7)))]) (q := 12) hc dX1_look_168 rfl (by decide) [1, 2, 3, 4, 5, 6, 7, 8, 9, 10, 11, 12, 0, 13] rfl ?_
          refine g_goto (tgt := 33) hc dX1_look_171 (by decide) ?_
          refine g_lv (lv' := [(0, .ref (h 0)), (1, .int (nI s)), (2, .int (nI t)), (3, .int (nI c)), (4, .int (nI (rest / 7))), (5, .int (nI used)), (6, .int (nI at1)), (7, .int (nI sm)), (8, .int (nI wy)), (9, .int (nI sz)), (10, .int (nI ok)), (11, .int (nI 1)), (12, .int (nI (k + 1)))]) [0, 1, 2, 3, 4, 5, 6, 7, 8, 9, 10, 11, 12] rfl ?_
          have hs2 := step c36
          rw [lkS, if_neg (by dsimp only; omega)] at hs2
          exact ih c36 _ ⟨hs2, by dsimp only; omega, h2, h3, by dsimp only; omega, by dsimp only; omega, h6, by dsimp only; omega⟩
        · skip
          refine g_iload hc dX1_look_154 13 rfl ?_
          refine g_bipush (v := nI 6) hc dX1_look_156 (by decide) ?_
          refine n_icmp_ne (tgt := 165) hc dX1_look_158 (by decide) (by omega) (by omega) (fun c158 => ?_) (fun c158 => ?_)
          · skip
            refine g_iconst (v := nI 0) hc dX1_look_165 (by decide) ?_
            refine g_istore (lv' := [(0, .ref (h 0)), (1, .int (nI s)), (2, .int (nI t)), (3, .int (nI c)), (4, .int (nI (rest / 7))), (5, .int (nI used)), (6, .int (nI at1)), (7, .int (nI sm)), (8, .int (nI wy)), (9, .int (nI sz)), (10, .int (nI ok)), (11, .int (nI 0)), (12, .int (nI k)), (13, .int (nI (rest % 7)))]) hc dX1_look_166 (by decide) [1, 2, 3, 4, 5, 6, 7, 8, 9, 10, 11, 0, 12, 13] rfl ?_
            refine n_iinc (lv' := [(0, .ref (h 0)), (1, .int (nI s)), (2, .int (nI t)), (3, .int (nI c)), (4, .int (nI (rest / 7))), (5, .int (nI used)), (6, .int (nI at1)), (7, .int (nI sm)), (8, .int (nI wy)), (9, .int (nI sz)), (10, .int (nI ok)), (11, .int (nI 0)), (12, .int (nI (k + 1))), (13, .int (nI (rest % 7)))]) (q := 12) hc dX1_look_168 rfl (by decide) [1, 2, 3, 4, 5, 6, 7, 8, 9, 10, 11, 12, 0, 13] rfl ?_
            refine g_goto (tgt := 33) hc dX1_look_171 (by decide) ?_
            refine g_lv (lv' := [(0, .ref (h 0)), (1, .int (nI s)), (2, .int (nI t)), (3, .int (nI c)), (4, .int (nI (rest / 7))), (5, .int (nI used)), (6, .int (nI at1)), (7, .int (nI sm)), (8, .int (nI wy)), (9, .int (nI sz)), (10, .int (nI ok)), (11, .int (nI 0)), (12, .int (nI (k + 1)))]) [0, 1, 2, 3, 4, 5, 6, 7, 8, 9, 10, 11, 12] rfl ?_
            exact absurd c158 (by omega)
          · skip
            refine g_iconst (v := nI 1) hc dX1_look_161 (by decide) ?_
            refine g_goto (tgt := 166) hc dX1_look_162 (by decide) ?_
            refine g_istore (lv' := [(0, .ref (h 0)), (1, .int (nI s)), (2, .int (nI t)), (3, .int (nI c)), (4, .int (nI (rest / 7))), (5, .int (nI used)), (6, .int (nI at1)), (7, .int (nI sm)), (8, .int (nI wy)), (9, .int (nI sz)), (10, .int (nI ok)), (11, .int (nI 1)), (12, .int (nI k)), (13, .int (nI (rest % 7)))]) hc dX1_look_166 (by decide) [1, 2, 3, 4, 5, 6, 7, 8, 9, 10, 11, 0, 12, 13] rfl ?_
            refine n_iinc (lv' := [(0, .ref (h 0)), (1, .int (nI s)), (2, .int (nI t)), (3, .int (nI c)), (4, .int (nI (rest / 7))), (5, .int (nI used)), (6, .int (nI at1)), (7, .int (nI sm)), (8, .int (nI wy)), (9, .int (nI sz)), (10, .int (nI ok)), (11, .int (nI 1)), (12, .int (nI (k + 1))), (13, .int (nI (rest % 7)))]) (q := 12) hc dX1_look_168 rfl (by decide) [1, 2, 3, 4, 5, 6, 7, 8, 9, 10, 11, 12, 0, 13] rfl ?_
            refine g_goto (tgt := 33) hc dX1_look_171 (by decide) ?_
            refine g_lv (lv' := [(0, .ref (h 0)), (1, .int (nI s)), (2, .int (nI t)), (3, .int (nI c)), (4, .int (nI (rest / 7))), (5, .int (nI used)), (6, .int (nI at1)), (7, .int (nI sm)), (8, .int (nI wy)), (9, .int (nI sz)), (10, .int (nI ok)), (11, .int (nI 1)), (12, .int (nI (k + 1)))]) [0, 1, 2, 3, 4, 5, 6, 7, 8, 9, 10, 11, 12] rfl ?_
            have hs2 := step c36
            rw [lkS, if_neg (by dsimp only; omega)] at hs2
            exact ih c36 _ ⟨hs2, by dsimp only; omega, h2, h3, by dsimp only; omega, by dsimp only; omega, h6, by dsimp only; omega⟩
      · skip
        refine g_iload hc dX1_look_60 10 rfl ?_
        refine n_if_eq (tgt := 100) hc dX1_look_62 (by decide) (by omega) (fun c62 => ?_) (fun c62 => ?_)
        · skip
          refine g_iconst (v := nI 0) hc dX1_look_100 (by decide) ?_
          exact j101 0 c36 c57 (by rw [if_neg (fun hh => by omega)])
        · skip
          refine g_iload hc dX1_look_65 11 rfl ?_
          refine n_if_ne (tgt := 100) hc dX1_look_67 (by decide) (by omega) (fun c67 => ?_) (fun c67 => ?_)
          · skip
            refine g_iconst (v := nI 0) hc dX1_look_100 (by decide) ?_
            exact j101 0 c36 c57 (by rw [if_neg (fun hh => by omega)])
          · skip
            have hb1 := and1_lt (used / 2 ^ (rest % 7))
            refine g_iload hc dX1_look_70 5 rfl ?_
            refine g_iload hc dX1_look_72 13 rfl ?_
            refine n_ishr hc dX1_look_74 (by omega) (by omega) ?_
            refine g_iconst (v := nI 1) hc dX1_look_75 (by decide) ?_
            refine n_iand hc dX1_look_76 ?_
            refine n_if_ne (tgt := 100) hc dX1_look_77 (by decide) (by omega) (fun c77 => ?_) (fun c77 => ?_)
            · skip
              refine g_iconst (v := nI 0) hc dX1_look_100 (by decide) ?_
              exact j101 0 c36 c57 (by rw [if_neg (fun hh => hh.2.2.1 (Classical.not_not.mp (fun hb => c77 (bit_of.mpr hb))))])
            · skip
              refine g_aload_n hc dX1_look_80 rfl 0 rfl ?_
              refine m_get hc 0 (by decide) q177 0 rfl rfl dX1_look_81 rfl ?_
              refine g_bipush (v := nI 6) hc dX1_look_84 (by decide) ?_
              refine g_iload hc dX1_look_86 6 rfl ?_
              refine n_imul hc dX1_look_88 ?_
              refine g_iload hc dX1_look_89 13 rfl ?_
              refine n_iadd hc dX1_look_91 ?_
              refine n_iald hc 1 0 rfl rfl (by omega) (by decide) dX1_look_92 ?_
              have b92 := hL (6 * at1 + (rest % 7))
              refine n_if_le (tgt := 100) hc dX1_look_93 (by decide) (by omega) (fun c93 => ?_) (fun c93 => ?_)
              · skip
                refine g_iconst (v := nI 0) hc dX1_look_100 (by decide) ?_
                exact j101 0 c36 c57 (by rw [if_neg (fun hh => by omega)])
              · skip
                refine g_iconst (v := nI 1) hc dX1_look_96 (by decide) ?_
                refine g_goto (tgt := 101) hc dX1_look_97 (by decide) ?_
                exact j101 1 c36 c57 (by rw [if_pos ⟨by omega, by omega, bit_of.mp c77, c93⟩])
  refine g_iload_n hc dX1_look_0 rfl 3 rfl ?_
  refine g_istore (lv' := [(0, .ref (h 0)), (1, .int (nI s)), (2, .int (nI t)), (3, .int (nI c)), (4, .int (nI c))]) hc dX1_look_1 (by decide) [1, 2, 3, 4, 0] rfl ?_
  refine g_iconst (v := nI 1) hc dX1_look_3 (by decide) ?_
  refine g_iload_n hc dX1_look_4 rfl 1 rfl ?_
  refine n_ishl hc dX1_look_5 (by omega) (shl_ok (by omega)) ?_
  refine g_iconst (v := nI 1) hc dX1_look_6 (by decide) ?_
  refine g_iload_n hc dX1_look_7 rfl 2 rfl ?_
  refine n_ishl hc dX1_look_8 (by omega) (shl_ok (by omega)) ?_
  refine n_ior hc dX1_look_9 ?_
  refine g_istore (lv' := [(0, .ref (h 0)), (1, .int (nI s)), (2, .int (nI t)), (3, .int (nI c)), (4, .int (nI c)), (5, .int (nI ((1 * 2 ^ s) ||| (1 * 2 ^ t))))]) hc dX1_look_10 (by decide) [1, 2, 3, 4, 5, 0] rfl ?_
  refine g_iload_n hc dX1_look_12 rfl 1 rfl ?_
  refine g_istore (lv' := [(0, .ref (h 0)), (1, .int (nI s)), (2, .int (nI t)), (3, .int (nI c)), (4, .int (nI c)), (5, .int (nI ((1 * 2 ^ s) ||| (1 * 2 ^ t)))), (6, .int (nI s))]) hc dX1_look_13 (by decide) [1, 2, 3, 4, 5, 6, 0] rfl ?_
  refine g_iconst (v := nI 0) hc dX1_look_15 (by decide) ?_
  refine g_istore (lv' := [(0, .ref (h 0)), (1, .int (nI s)), (2, .int (nI t)), (3, .int (nI c)), (4, .int (nI c)), (5, .int (nI ((1 * 2 ^ s) ||| (1 * 2 ^ t)))), (6, .int (nI s)), (7, .int (nI 0))]) hc dX1_look_16 (by decide) [1, 2, 3, 4, 5, 6, 7, 0] rfl ?_
  refine g_iload_n hc dX1_look_18 rfl 1 rfl ?_
  refine g_istore (lv' := [(0, .ref (h 0)), (1, .int (nI s)), (2, .int (nI t)), (3, .int (nI c)), (4, .int (nI c)), (5, .int (nI ((1 * 2 ^ s) ||| (1 * 2 ^ t)))), (6, .int (nI s)), (7, .int (nI 0)), (8, .int (nI s))]) hc dX1_look_19 (by decide) [1, 2, 3, 4, 5, 6, 7, 8, 0] rfl ?_
  refine g_iconst (v := nI 1) hc dX1_look_21 (by decide) ?_
  refine g_istore (lv' := [(0, .ref (h 0)), (1, .int (nI s)), (2, .int (nI t)), (3, .int (nI c)), (4, .int (nI c)), (5, .int (nI ((1 * 2 ^ s) ||| (1 * 2 ^ t)))), (6, .int (nI s)), (7, .int (nI 0)), (8, .int (nI s)), (9, .int (nI 1))]) hc dX1_look_22 (by decide) [1, 2, 3, 4, 5, 6, 7, 8, 9, 0] rfl ?_
  refine g_iconst (v := nI 1) hc dX1_look_24 (by decide) ?_
  refine g_istore (lv' := [(0, .ref (h 0)), (1, .int (nI s)), (2, .int (nI t)), (3, .int (nI c)), (4, .int (nI c)), (5, .int (nI ((1 * 2 ^ s) ||| (1 * 2 ^ t)))), (6, .int (nI s)), (7, .int (nI 0)), (8, .int (nI s)), (9, .int (nI 1)), (10, .int (nI 1))]) hc dX1_look_25 (by decide) [1, 2, 3, 4, 5, 6, 7, 8, 9, 10, 0] rfl ?_
  refine g_iconst (v := nI 0) hc dX1_look_27 (by decide) ?_
  refine g_istore (lv' := [(0, .ref (h 0)), (1, .int (nI s)), (2, .int (nI t)), (3, .int (nI c)), (4, .int (nI c)), (5, .int (nI ((1 * 2 ^ s) ||| (1 * 2 ^ t)))), (6, .int (nI s)), (7, .int (nI 0)), (8, .int (nI s)), (9, .int (nI 1)), (10, .int (nI 1)), (11, .int (nI 0))]) hc dX1_look_28 (by decide) [1, 2, 3, 4, 5, 6, 7, 8, 9, 10, 11, 0] rfl ?_
  refine g_iconst (v := nI 0) hc dX1_look_30 (by decide) ?_
  refine g_istore (lv' := [(0, .ref (h 0)), (1, .int (nI s)), (2, .int (nI t)), (3, .int (nI c)), (4, .int (nI c)), (5, .int (nI ((1 * 2 ^ s) ||| (1 * 2 ^ t)))), (6, .int (nI s)), (7, .int (nI 0)), (8, .int (nI s)), (9, .int (nI 1)), (10, .int (nI 1)), (11, .int (nI 0)), (12, .int (nI 0))]) hc dX1_look_31 (by decide) [1, 2, 3, 4, 5, 6, 7, 8, 9, 10, 11, 12, 0] rfl ?_
  exact loop 0 (c, 1 * 2 ^ s ||| 1 * 2 ^ t, s, 0, s, 1, 1, 0) (by decide) ⟨rfl, by dsimp only; omega, hu0, hs, by dsimp only; omega, by dsimp only; omega, by dsimp only; omega, by dsimp only; omega⟩
end
section
/-! what look and list find: the ways, coded -/
theorem lk_no (L : Nat → Nat) : ∀ (k : Nat) (g : LkS), g.2.2.2.2.2.2.1 = 0 → (lkI L k g).2.2.2.2.2.2.1 = 0 := by
  intro k
  induction k with
  | zero => intro g h; exact h
  | succ k ih =>
    intro g h
    refine ih (lkS L g) ?_
    unfold lkS
    split
    · exact if_neg (fun hh => by have := hh.1; omega)
    · exact h
theorem lk_end (L : Nat → Nat) : ∀ (k r u at1 sm wy sz : Nat), ((lkI L k (r, u, at1, sm, wy, sz, 1, 1)).2.2.2.2.2.2.1 = 1 ↔ okS u r k true = true) ∧ ((lkI L k (r, u, at1, sm, wy, sz, 1, 1)).2.2.2.2.2.2.1 = 1 → ∃ r', lkI L k (r, u, at1, sm, wy, sz, 1, 1) = (r', u, at1, sm, wy, sz, 1, 1)) := by
  intro k
  induction k with
  | zero => intro r u at1 sm wy sz; exact ⟨⟨fun _ => rfl, fun _ => rfl⟩, fun _ => ⟨r, rfl⟩⟩
  | succ k ih =>
    intro r u at1 sm wy sz
    have e : lkI L (k + 1) (r, u, at1, sm, wy, sz, 1, 1) = lkI L k (lkS L (r, u, at1, sm, wy, sz, 1, 1)) := rfl
    rw [e]
    unfold okS
    by_cases hv : r % 7 < 6
    · have h0 : (lkI L k (lkS L (r, u, at1, sm, wy, sz, 1, 1))).2.2.2.2.2.2.1 = 0 := by
        refine lk_no L k _ ?_
        unfold lkS
        rw [if_pos hv]
        dsimp only
        rw [if_neg (by omega)]
      rw [if_pos hv, h0]
      exact ⟨⟨fun h => by omega, fun h => by simp at h⟩, fun h => by omega⟩
    · have e2 : lkS L (r, u, at1, sm, wy, sz, 1, 1) = (r / 7, u, at1, sm, wy, sz, 1, 1) := by unfold lkS; rw [if_neg hv]
      rw [e2, if_neg hv]
      exact ih (r / 7) u at1 sm wy sz
def encW : Nat → Nat → List Nat → Nat
  | wy, _, [] => wy
  | wy, sz, v :: m => encW (wy ||| v * 2 ^ (4 * sz)) (sz + 1) m
def lkG (L : Nat → Nat) (at1 sm wy sz : Nat) (m : List Nat) (g : LkS) : Prop := (at1 :: m).getLast? = some g.2.2.1 ∧ g.2.2.2.1 = sm + lenP L (at1 :: m) ∧ g.2.2.2.2.1 = encW wy sz m ∧ g.2.2.2.2.2.1 = sz + m.length
theorem lk_main (L : Nat → Nat) : ∀ (k r u at1 sm wy sz : Nat), ((lkI L k (r, u, at1, sm, wy, sz, 1, 0)).2.2.2.2.2.2.1 = 1 ↔ okS u r k false = true ∧ vldP L (at1 :: mids r k)) ∧ ((lkI L k (r, u, at1, sm, wy, sz, 1, 0)).2.2.2.2.2.2.1 = 1 → lkG L at1 sm wy sz (mids r k) (lkI L k (r, u, at1, sm, wy, sz, 1, 0))) := by
  intro k
  induction k with
  | zero => intro r u at1 sm wy sz; exact ⟨⟨fun _ => ⟨rfl, trivial⟩, fun _ => rfl⟩, fun _ => ⟨rfl, rfl, rfl, rfl⟩⟩
  | succ k ih =>
    intro r u at1 sm wy sz
    have e : lkI L (k + 1) (r, u, at1, sm, wy, sz, 1, 0) = lkI L k (lkS L (r, u, at1, sm, wy, sz, 1, 0)) := rfl
    rw [e]
    unfold okS mids
    by_cases hv : r % 7 < 6
    · rw [if_pos hv, if_pos hv]
      by_cases hc : ¬ u.testBit (r % 7) = true ∧ 0 < L (6 * at1 + r % 7)
      · have e2 : lkS L (r, u, at1, sm, wy, sz, 1, 0) = (r / 7, u ||| 1 * 2 ^ (r % 7), r % 7, sm + L (6 * at1 + r % 7), wy ||| (r % 7) * 2 ^ (4 * sz), sz + 1, 1, 0) := by
          unfold lkS
          rw [if_pos hv]
          dsimp only
          rw [if_pos ⟨rfl, rfl, hc.1, hc.2⟩]
        rw [e2]
        obtain ⟨h1, h2⟩ := ih (r / 7) (u ||| 1 * 2 ^ (r % 7)) (r % 7) (sm + L (6 * at1 + r % 7)) (wy ||| (r % 7) * 2 ^ (4 * sz)) (sz + 1)
        have hb : u.testBit (r % 7) = false := by simpa using hc.1
        refine ⟨?_, fun hk => ?_⟩
        · rw [h1, vldP_cons, hb, Nat.mul_comm at1 6]
          simp only [Bool.not_false, Bool.true_and]
          exact ⟨fun h => ⟨h.1, hc.2, h.2⟩, fun h => ⟨h.1, h.2.2⟩⟩
        · obtain ⟨g1, g2, g3, g4⟩ := h2 hk
          refine ⟨by rw [List.getLast?_cons_cons]; exact g1, ?_, g3, ?_⟩
          · rw [g2, lenP_cons, Nat.mul_comm at1 6]; omega
          · rw [g4, List.length_cons]; omega
      · have h0 : (lkI L k (lkS L (r, u, at1, sm, wy, sz, 1, 0))).2.2.2.2.2.2.1 = 0 := by
          refine lk_no L k _ ?_
          unfold lkS
          rw [if_pos hv]
          dsimp only
          rw [if_neg (fun hh => hc ⟨hh.2.2.1, hh.2.2.2⟩)]
        rw [h0]
        refine ⟨⟨fun h => by omega, fun h => ?_⟩, fun h => by omega⟩
        exfalso
        obtain ⟨g1, g2⟩ := h
        rw [vldP_cons, Nat.mul_comm at1 6] at g2
        simp only [Bool.not_false, Bool.true_and, Bool.and_eq_true, Bool.not_eq_true'] at g1
        exact hc ⟨by rw [g1.1]; decide, g2.1⟩
    · have e2 : lkS L (r, u, at1, sm, wy, sz, 1, 0) = (r / 7, u, at1, sm, wy, sz, 1, 1) := by unfold lkS; rw [if_neg hv]
      rw [e2, if_neg hv, if_neg hv]
      obtain ⟨h1, h2⟩ := lk_end L k (r / 7) u at1 sm wy sz
      refine ⟨⟨fun h => ⟨h1.mp h, trivial⟩, fun h => h1.mpr h.1⟩, fun hk => ?_⟩
      obtain ⟨r', e3⟩ := h2 hk
      rw [e3]
      exact ⟨rfl, rfl, rfl, rfl⟩
/-- a number whose digits are a list -/
def encP (y : Nat) (p : List Nat) : Prop := y < 2 ^ (4 * p.length) ∧ ∀ i (h : i < p.length), dgY y i = p[i]
theorem p4s (n : Nat) : 2 ^ (4 * (n + 1)) = 16 * 2 ^ (4 * n) := by
  rw [show 4 * (n + 1) = 4 + 4 * n by omega, Nat.pow_add]
theorem dg_lo {y v n i : Nat} (hi : i < n) : dgY (2 ^ (4 * n) * v + y) i = dgY y i := by
  unfold dgY
  have e : 2 ^ (4 * n) * v = 2 ^ (4 * i) * (16 * (2 ^ (4 * (n - i - 1)) * v)) := by
    rw [show 4 * n = 4 * i + 4 * (n - i - 1 + 1) by omega, Nat.pow_add, p4s, Nat.mul_assoc, Nat.mul_assoc]
  rw [e, Nat.mul_add_div (Nat.pow_pos (by decide)), Nat.mul_add_mod]
theorem dg_hi {y v n : Nat} (hy : y < 2 ^ (4 * n)) (hv : v < 16) : dgY (2 ^ (4 * n) * v + y) n = v := by
  unfold dgY
  rw [Nat.mul_add_div (Nat.pow_pos (by decide)), Nat.div_eq_of_lt hy, Nat.add_zero, Nat.mod_eq_of_lt hv]
theorem encP_snoc {y : Nat} {p : List Nat} (h : encP y p) {v : Nat} (hv : v < 16) : encP (y ||| v * 2 ^ (4 * p.length)) (p ++ [v]) := by
  have e : y ||| v * 2 ^ (4 * p.length) = 2 ^ (4 * p.length) * v + y := by
    rw [Nat.or_comm, Nat.mul_comm, Nat.two_pow_add_eq_or_of_lt h.1]
  rw [e]
  refine ⟨?_, fun i hi => ?_⟩
  · rw [List.length_append, List.length_singleton, p4s]
    have h1 := h.1
    have h2 : 2 ^ (4 * p.length) * v ≤ 2 ^ (4 * p.length) * 15 := Nat.mul_le_mul_left _ (by omega)
    omega
  · rw [List.length_append, List.length_singleton] at hi
    rcases Nat.lt_or_ge i p.length with h1 | h1
    · rw [dg_lo h1, h.2 i h1, List.getElem_append_left h1]
    · obtain rfl : i = p.length := by omega
      rw [dg_hi h.1 hv]
      simp
theorem encW_P : ∀ (m : List Nat) (wy : Nat) (p : List Nat), encP wy p → (∀ v ∈ m, v < 16) → encP (encW wy p.length m) (p ++ m) := by
  intro m
  induction m with
  | nil => intro wy p h _; rw [List.append_nil]; exact h
  | cons v m ih =>
    intro wy p h hm
    have h1 := ih _ _ (encP_snoc h (hm v (by simp))) (fun u hu => hm u (List.mem_cons_of_mem _ hu))
    rw [List.length_append, List.length_singleton, List.append_assoc] at h1
    exact h1
theorem encP_left {y : Nat} {p q : List Nat} (h : encP y (p ++ q)) : ∀ i (hi : i < p.length), dgY y i = p[i] := by
  intro i hi
  rw [h.2 i (by rw [List.length_append]; omega), List.getElem_append_left hi]
theorem encP_24 {y : Nat} {p : List Nat} (h : encP y p) (hp : p.length ≤ 6) : y < 16777216 := by
  have h1 : 2 ^ (4 * p.length) ≤ 2 ^ 24 := Nat.pow_le_pow_right (by decide) (by omega)
  have := h.1
  omega
theorem code_facts {s t c : Nat} (hc : c < 2401) (h : okC s t c = true) : (mids c 4).Nodup ∧ (mids c 4).length ≤ 4 ∧ ∀ v ∈ mids c 4, v < 6 ∧ v ≠ s ∧ v ≠ t := by
  obtain ⟨_, h2, h3, h4⟩ := okS_spec 4 c _ (by omega) h
  refine ⟨h2, h3, fun v hv => ⟨(h4 v hv).1, fun e => (h4 v hv).2 ((st_bit s t v).mpr (Or.inl e)), fun e => (h4 v hv).2 ((st_bit s t v).mpr (Or.inr e))⟩⟩
theorem code_way {L : Nat → Nat} {s t c : Nat} (hs : s < 6) (ht : t < 6) (hst : s ≠ t) (hc : c < 2401) (h : okC s t c = true) (hv : vldP L (codeP s t c)) : way L s t (codeP s t c) := by
  obtain ⟨h2, h3, h4⟩ := code_facts hc h
  refine ⟨rfl, ?_, ?_, ?_, hv⟩
  · unfold codeP
    rw [List.getLast?_cons, List.getLast?_append]
    simp
  · unfold codeP
    rw [List.nodup_cons]
    refine ⟨fun hm => ?_, List.nodup_append.mpr ⟨h2, by simp, fun a ha b hb e => ?_⟩⟩
    · rcases List.mem_append.mp hm with h5 | h5
      · exact (h4 s h5).2.1 rfl
      · simp at h5; exact hst h5
    · simp at hb
      exact (h4 a ha).2.2 (e.trans hb)
  · intro u hu
    refine ⟨?_, by simp⟩
    unfold codeP at hu
    rcases List.mem_cons.mp hu with rfl | hu
    · exact hs
    · rcases List.mem_append.mp hu with h5 | h5
      · exact (h4 u h5).1
      · simp at h5; omega
theorem lk_pure {L : Nat → Nat} {s t c : Nat} (hs : s < 6) (ht : t < 6) (hc : c < 2401) :
    (lkOk L t (lk0 L s t c) ↔ okC s t c = true ∧ vldP L (codeP s t c)) ∧ (lkOk L t (lk0 L s t c) → lkY t (lk0 L s t c) < 16777216 ∧ (lk0 L s t c).2.2.2.1 + L (6 * (lk0 L s t c).2.2.1 + t) = lenP L (codeP s t c) ∧ ∀ i (h : i < (codeP s t c).length), dgY (lkY t (lk0 L s t c)) i = (codeP s t c)[i]) := by
  have hm := lk_main L 4 c (1 * 2 ^ s ||| 1 * 2 ^ t) s 0 s 1
  have e0 : lkI L 4 (c, 1 * 2 ^ s ||| 1 * 2 ^ t, s, 0, s, 1, 1, 0) = lk0 L s t c := rfl
  have e1 : okS (1 * 2 ^ s ||| 1 * 2 ^ t) c 4 false = okC s t c := rfl
  have ec : codeP s t c = (s :: mids c 4) ++ [t] := rfl
  rw [e0, e1] at hm
  generalize lk0 L s t c = g at hm ⊢
  obtain ⟨h1, h2⟩ := hm
  have hiff : lkOk L t g ↔ okC s t c = true ∧ vldP L (codeP s t c) := by
    constructor
    · rintro ⟨h3, h4⟩
      have h5 := h1.mp h3
      obtain ⟨g1, _⟩ := h2 h3
      refine ⟨h5.1, ?_⟩
      rw [ec]
      exact (vldP_app L _ _ t [] g1).mpr ⟨h5.2, by rw [Nat.mul_comm]; exact h4, trivial⟩
    · rintro ⟨h3, h4⟩
      rw [ec] at h4
      have h5 := h1.mpr ⟨h3, vldP_left L _ _ h4⟩
      obtain ⟨g1, _⟩ := h2 h5
      have h6 := (vldP_app L _ _ t [] g1).mp h4
      exact ⟨h5, by rw [Nat.mul_comm]; exact h6.2.1⟩
  refine ⟨hiff, fun hok => ?_⟩
  have hcode := (hiff.mp hok).1
  obtain ⟨f1, f2, f3⟩ := code_facts hc hcode
  obtain ⟨g1, g2, g3, g4⟩ := h2 hok.1
  have hp0 : encP s [s] := ⟨by show s < 2 ^ 4; omega, fun i hi => by
    simp at hi
    subst hi
    show s / 2 ^ 0 % 16 = s
    omega⟩
  have hp1 : encP g.2.2.2.2.1 (s :: mids c 4) := by
    rw [g3]
    exact encW_P (mids c 4) s [s] hp0 (fun v hv => by have := (f3 v hv).1; omega)
  have hlen : (s :: mids c 4).length = g.2.2.2.2.2.1 := by rw [g4, List.length_cons]; omega
  have hp2 := encP_snoc hp1 (v := t) (by omega)
  rw [hlen, ← ec] at hp2
  have hlen2 : (codeP s t c).length = g.2.2.2.2.2.1 + 1 := by rw [ec, List.length_append, List.length_singleton, hlen]
  have hl6 : g.2.2.2.2.2.1 ≤ 5 := by omega
  refine ⟨?_, ?_, ?_⟩
  · unfold lkY
    split
    · have hp3 := encP_snoc hp2 (v := 15) (by omega)
      rw [hlen2, Nat.mul_add, Nat.mul_one] at hp3
      exact encP_24 hp3 (by rw [List.length_append, List.length_singleton]; omega)
    · exact encP_24 hp2 (by omega)
  · rw [ec, lenP_app L _ _ t [] g1, g2, Nat.mul_comm 6]
    show _ = _ + _ + 0
    omega
  · unfold lkY
    split
    · have hp3 := encP_snoc hp2 (v := 15) (by omega)
      rw [hlen2, Nat.mul_add, Nat.mul_one] at hp3
      exact encP_left hp3
    · exact hp2.2
/-- the ways among the first n codes -/
def lkB (L : Nat → Nat) (s t c : Nat) : Bool := decide ((lk0 L s t c).2.2.2.2.2.2.1 = 1) && decide (0 < L (6 * (lk0 L s t c).2.2.1 + t))
theorem lkB_iff {L : Nat → Nat} {s t c : Nat} : lkB L s t c = true ↔ lkOk L t (lk0 L s t c) := by
  unfold lkB lkOk
  rw [Bool.and_eq_true, decide_eq_true_eq, decide_eq_true_eq]
def Cn (L : Nat → Nat) (s t n : Nat) : List (List Nat) := ((List.range n).filter (lkB L s t)).map (codeP s t)
theorem Cn_yes {L : Nat → Nat} {s t n : Nat} (h : lkOk L t (lk0 L s t n)) : Cn L s t (n + 1) = Cn L s t n ++ [codeP s t n] := by
  unfold Cn
  rw [List.range_succ, List.filter_append, List.map_append]
  simp [lkB_iff.mpr h]
theorem Cn_no {L : Nat → Nat} {s t n : Nat} (h : ¬ lkOk L t (lk0 L s t n)) : Cn L s t (n + 1) = Cn L s t n := by
  unfold Cn
  rw [List.range_succ, List.filter_append, List.map_append]
  have : lkB L s t n = false := by
    cases hb : lkB L s t n with
    | false => rfl
    | true => exact absurd (lkB_iff.mp hb) h
  simp [this]
theorem Cn_way {L : Nat → Nat} {s t n : Nat} (hs : s < 6) (ht : t < 6) (hst : s ≠ t) (hn : n ≤ 2401) : ∀ p ∈ Cn L s t n, way L s t p := by
  intro p hp
  obtain ⟨c, hc, rfl⟩ := List.mem_map.mp hp
  obtain ⟨h1, h2⟩ := List.mem_filter.mp hc
  have hcn : c < 2401 := by have := List.mem_range.mp h1; omega
  have h3 := (lk_pure hs ht hcn).1.mp (lkB_iff.mp h2)
  exact code_way hs ht hst hcn h3.1 h3.2
theorem Cn_nodup {L : Nat → Nat} {s t n : Nat} (hs : s < 6) (ht : t < 6) (hn : n ≤ 2401) : (Cn L s t n).Nodup := by
  unfold Cn
  rw [List.nodup_iff_pairwise_ne, List.pairwise_map]
  refine List.Pairwise.imp_of_mem ?_ (List.nodup_iff_pairwise_ne.mp (List.Pairwise.filter _ List.nodup_range))
  intro a b ha hb hne e
  obtain ⟨a1, a2⟩ := List.mem_filter.mp ha
  obtain ⟨b1, b2⟩ := List.mem_filter.mp hb
  have ha1 := List.mem_range.mp a1
  have hb1 := List.mem_range.mp b1
  exact hne (codeP_inj (by omega) (by omega) ((lk_pure hs ht (by omega)).1.mp (lkB_iff.mp a2)).1 ((lk_pure hs ht (by omega)).1.mp (lkB_iff.mp b2)).1 e)
theorem Cn_65 {L : Nat → Nat} {s t n : Nat} (hs : s < 6) (ht : t < 6) (hst : s ≠ t) (hn : n ≤ 2401) : (Cn L s t n).length ≤ 65 := ways_65 hs ht hst (Cn_nodup hs ht hn) (Cn_way hs ht hst hn)
theorem Cn_all {L : Nat → Nat} {s t : Nat} (hs : s < 6) (ht : t < 6) (hst : s ≠ t) (p : List Nat) : p ∈ Cn L s t 2401 ↔ way L s t p := by
  refine ⟨Cn_way hs ht hst (Nat.le_refl _) p, fun h => ?_⟩
  obtain ⟨c, h1, h2, h3⟩ := way_code hst h
  refine List.mem_map.mpr ⟨c, List.mem_filter.mpr ⟨List.mem_range.mpr h1, lkB_iff.mpr ((lk_pure hs ht h1).1.mpr ⟨h2, ?_⟩)⟩, h3⟩
  rw [h3]
  exact h.2.2.2.2
/-- the arrays hold the list Cs -/
def MFc (L : Nat → Nat) (Cs : List (List Nat)) (cnt : Nat) (Y Z : Nat → Nat) : Prop := cnt = Cs.length ∧ cnt ≤ 65 ∧ ∀ k (h : k < Cs.length), Y k < 16777216 ∧ Z k = lenP L Cs[k] ∧ ∀ i (h2 : i < Cs[k].length), dgY (Y k) i = Cs[k][i]
theorem ls_room {L : Nat → Nat} {s t n cnt : Nat} {Y Z : Nat → Nat} (hs : s < 6) (ht : t < 6) (hst : s ≠ t) (hn : n < 2401) (h : MFc L (Cn L s t n) cnt Y Z) : lkOk L t (lk0 L s t n) → cnt < 65 := by
  intro hok
  have h1 := Cn_65 (L := L) hs ht hst (show n + 1 ≤ 2401 by omega)
  rw [Cn_yes hok, List.length_append, List.length_singleton, ← h.1] at h1
  omega
theorem ls_step {L : Nat → Nat} {s t n cnt : Nat} {Y Z : Nat → Nat} {u : MS} (hs : s < 6) (ht : t < 6) (hst : s ≠ t) (hn : n < 2401) (h : MFc L (Cn L s t n) cnt Y Z) (hu : lookA L t cnt Y Z (lk0 L s t n) u) : MFc L (Cn L s t (n + 1)) u.1 u.2.1 u.2.2 := by
  rcases hu with ⟨hok, rfl⟩ | ⟨hno, rfl⟩
  · have hroom := ls_room hs ht hst hn h hok
    obtain ⟨h1, h2, h3⟩ := h
    have hp := (lk_pure hs ht hn).2 hok
    rw [Cn_yes hok]
    refine ⟨by rw [List.length_append, List.length_singleton, ← h1], by dsimp only; omega, fun k hk => ?_⟩
    rw [List.length_append, List.length_singleton] at hk
    dsimp only
    rcases Nat.lt_or_ge k (Cn L s t n).length with hk1 | hk1
    · rw [updN_other (by omega), updN_other (by omega), List.getElem_append_left hk1]
      exact h3 k hk1
    · obtain rfl : k = (Cn L s t n).length := by omega
      rw [h1, updN_same, updN_same]
      simp only [List.getElem_append_right (Nat.le_refl _), Nat.sub_self, List.getElem_cons_zero]
      exact hp
  · rw [Cn_no hno]
    exact h
def MFin (L : Nat → Nat) (s t cnt : Nat) (Y Z : Nat → Nat) (Cs : List (List Nat)) : Prop := MFc L Cs cnt Y Z ∧ Cs.Nodup ∧ ∀ p, p ∈ Cs ↔ way L s t p
theorem ls_end {L : Nat → Nat} {s t cnt : Nat} {Y Z : Nat → Nat} (hs : s < 6) (ht : t < 6) (hst : s ≠ t) (h : MFc L (Cn L s t 2401) cnt Y Z) : ∃ Cs, MFin L s t cnt Y Z Cs := ⟨_, h, Cn_nodup hs ht (Nat.le_refl _), Cn_all hs ht hst⟩
def listA (L : Nat → Nat) (s t : Int32) (u : MS) : Prop := (¬ isPr s t ∧ u.1 = 0) ∨ ∃ (s' t' : Nat) (Cs : List (List Nat)), s = nI s' ∧ t = nI t' ∧ s' < 6 ∧ t' < 6 ∧ s' ≠ t' ∧ MFin L s' t' u.1 u.2.1 u.2.2 Cs
end
section
/-! the model's ranks and answers, in plain lists -/
theorem dg_lt (y i : Nat) : dgY y i < 16 := Nat.mod_lt _ (by decide)
def gM (Y Z : Nat → Nat) (w x : Nat) : Bool := cmpF (Z w) (Z x) (dgY (Y w)) (dgY (Y x))
def rkM (Y Z : Nat → Nat) (w : Nat) : Nat → Nat
  | 0 => 0
  | x + 1 => rkM Y Z w x + (if x ≠ w ∧ gM Y Z x w = true then 1 else 0)
theorem rkM_le (Y Z : Nat → Nat) (w : Nat) : ∀ n, rkM Y Z w n ≤ n := by
  intro n
  induction n with
  | zero => exact Nat.le_refl _
  | succ n ih =>
    unfold rkM
    split <;> omega
def MB (cnt : Nat) (Y Z : Nat → Nat) : Prop := cnt ≤ 65 ∧ ∀ k, k < cnt → Y k < 16777216 ∧ Z k ≤ 1000
theorem MFin_way {L : Nat → Nat} {s t cnt : Nat} {Y Z : Nat → Nat} {Cs : List (List Nat)} (h : MFin L s t cnt Y Z Cs) {k : Nat} (hk : k < Cs.length) : way L s t Cs[k] := (h.2.2 _).mp (List.getElem_mem hk)
theorem way_120 {L : Nat → Nat} (hL : ∀ i, L i ≤ 20) {s t : Nat} {p : List Nat} (h : way L s t p) : lenP L p ≤ 120 := by
  have h1 := way_len6 h
  have h2 := lenP_le hL p
  omega
theorem MFin_bd {L : Nat → Nat} (hL : ∀ i, L i ≤ 20) {s t cnt : Nat} {Y Z : Nat → Nat} {Cs : List (List Nat)} (h : MFin L s t cnt Y Z Cs) : MB cnt Y Z := by
  refine ⟨h.1.2.1, fun k hk => ?_⟩
  have hk2 : k < Cs.length := by rw [← h.1.1]; exact hk
  obtain ⟨h1, h2, _⟩ := h.1.2.2 k hk2
  have h3 := way_120 hL (MFin_way h hk2)
  exact ⟨h1, by omega⟩
theorem listA_bd {L : Nat → Nat} (hL : ∀ i, L i ≤ 20) {s t : Int32} {u : MS} (h : listA L s t u) : MB u.1 u.2.1 u.2.2 := by
  rcases h with ⟨_, h⟩ | ⟨s', t', Cs, _, _, _, _, _, h⟩
  · exact ⟨by omega, fun k hk => by omega⟩
  · exact MFin_bd hL h
def pltB (L : Nat → Nat) (p q : List Nat) : Bool := decide (lenP L p < lenP L q) || (decide (lenP L p = lenP L q) && lexb p q)
theorem pltB_iff {L : Nat → Nat} {p q : List Nat} : pltB L p q = true ↔ plt L p q := by
  unfold pltB plt
  rw [Bool.or_eq_true, Bool.and_eq_true, decide_eq_true_eq, decide_eq_true_eq]
theorem pltB_no {L : Nat → Nat} {p q : List Nat} (h : ¬ plt L p q) : pltB L p q = false := by
  cases hb : pltB L p q with
  | false => rfl
  | true => exact absurd (pltB_iff.mp hb) h
/-- in a list in order, the place of a member is the number of those before it -/
theorem cnt_idx {L : Nat → Nat} : ∀ (Rs : List (List Nat)), Rs.Pairwise (plt L) → ∀ j (h : j < Rs.length), Rs.countP (fun p => pltB L p Rs[j]) = j := by
  intro Rs
  induction Rs with
  | nil => intro _ j h; simp at h
  | cons a Rs ih =>
    intro hp j h
    obtain ⟨h1, h2⟩ := List.pairwise_cons.mp hp
    cases j with
    | zero =>
      rw [List.countP_eq_zero]
      intro p hp hb
      have hb := pltB_iff.mp hb
      rcases List.mem_cons.mp hp with rfl | hp
      · exact plt_irrefl hb
      · exact plt_asymm hb (h1 p hp)
    | succ j =>
      have hj : j < Rs.length := by simpa using h
      have := ih h2 j hj
      simp only [List.getElem_cons_succ]
      rw [List.countP_cons, this, if_pos (pltB_iff.mpr (h1 _ (List.getElem_mem hj)))]
theorem gM_plt {L : Nat → Nat} {s t cnt : Nat} {Y Z : Nat → Nat} {Cs : List (List Nat)} (h : MFin L s t cnt Y Z Cs) {x w : Nat} (hx : x < Cs.length) (hw : w < Cs.length) (hne : x ≠ w) : gM Y Z x w = true ↔ plt L Cs[x] Cs[w] := by
  unfold gM
  obtain ⟨_, h1, h2⟩ := h.1.2.2 x hx
  obtain ⟨_, g1, g2⟩ := h.1.2.2 w hw
  rw [h1, g1]
  exact cmp_plt (MFin_way h hx) (MFin_way h hw) (fun e => hne ((List.getElem_inj h.2.1).mp e)) h2 g2
theorem rk_cnt {L : Nat → Nat} {s t cnt : Nat} {Y Z : Nat → Nat} {Cs : List (List Nat)} (h : MFin L s t cnt Y Z Cs) {w : Nat} (hw : w < Cs.length) : ∀ n, n ≤ Cs.length → rkM Y Z w n = (Cs.take n).countP (fun p => pltB L p Cs[w]) := by
  intro n
  induction n with
  | zero => intro _; rfl
  | succ n ih =>
    intro hn
    rw [rkM, ih (by omega), List.take_succ_eq_append_getElem (show n < Cs.length by omega), List.countP_append, List.countP_singleton]
    congr 1
    by_cases e : n = w
    · subst e
      rw [if_neg (fun hh => hh.1 rfl), if_neg (by rw [pltB_no plt_irrefl]; decide)]
    · have hg := gM_plt h (show n < Cs.length by omega) hw e
      by_cases hq : gM Y Z n w = true
      · rw [if_pos ⟨e, hq⟩, if_pos (pltB_iff.mpr (hg.mp hq))]
      · rw [if_neg (fun hh => hq hh.2), if_neg (fun hh => hq (hg.mpr (pltB_iff.mp hh)))]
theorem CR_perm {L : Nat → Nat} {s t cnt : Nat} {Y Z : Nat → Nat} {Cs Rs : List (List Nat)} (h : MFin L s t cnt Y Z Cs) (hR : RSp L s t Rs) : Cs.Perm Rs := (List.perm_ext_iff_of_nodup h.2.1 (RSp_nodup hR)).mpr (fun p => (h.2.2 p).trans (hR.1 p).symm)
theorem CR_len {L : Nat → Nat} {s t cnt : Nat} {Y Z : Nat → Nat} {Cs Rs : List (List Nat)} (h : MFin L s t cnt Y Z Cs) (hR : RSp L s t Rs) : Rs.length = cnt := by
  rw [h.1.1]
  exact (CR_perm h hR).length_eq.symm
theorem rk_ix {L : Nat → Nat} {s t cnt : Nat} {Y Z : Nat → Nat} {Cs Rs : List (List Nat)} (h : MFin L s t cnt Y Z Cs) (hR : RSp L s t Rs) {w : Nat} (hw : w < Cs.length) : ∃ hj : rkM Y Z w cnt < Rs.length, Rs[rkM Y Z w cnt] = Cs[w] := by
  have hm : Cs[w] ∈ Rs := (hR.1 _).mpr (MFin_way h hw)
  obtain ⟨j, hj, e⟩ := List.mem_iff_getElem.mp hm
  have h1 := rk_cnt h hw Cs.length (Nat.le_refl _)
  rw [List.take_length, (CR_perm h hR).countP_eq, ← e, cnt_idx Rs hR.2 j hj, ← h.1.1] at h1
  subst h1
  exact ⟨hj, e⟩
theorem rk_sur {L : Nat → Nat} {s t cnt : Nat} {Y Z : Nat → Nat} {Cs Rs : List (List Nat)} (h : MFin L s t cnt Y Z Cs) (hR : RSp L s t Rs) {j : Nat} (hj : j < Rs.length) : ∃ (w : Nat) (hw : w < Cs.length), Cs[w] = Rs[j] ∧ rkM Y Z w cnt = j := by
  have hm : Rs[j] ∈ Cs := (h.2.2 _).mpr ((hR.1 _).mp (List.getElem_mem hj))
  obtain ⟨w, hw, e⟩ := List.mem_iff_getElem.mp hm
  obtain ⟨hj2, e2⟩ := rk_ix h hR hw
  exact ⟨w, hw, e, (List.getElem_inj (RSp_nodup hR)).mp (e2.trans e)⟩
def fndA (L : Nat → Nat) (s t k r : Int32) (u : MS) : Prop := (¬ isPr s t ∧ r = eN 0) ∨ ∃ (s' t' : Nat) (Cs : List (List Nat)), s = nI s' ∧ t = nI t' ∧ s' < 6 ∧ t' < 6 ∧ s' ≠ t' ∧ MFin L s' t' u.1 u.2.1 u.2.2 Cs ∧ ((r = eN 0 ∧ ∀ Rs, RSp L s' t' Rs → kth Rs k = none) ∨ ∃ (w : Nat) (hw : w < Cs.length), r = nI w ∧ ∀ Rs, RSp L s' t' Rs → kth Rs k = some Cs[w])
theorem fnd_yes {L : Nat → Nat} {s t cnt : Nat} {Y Z : Nat → Nat} {Cs : List (List Nat)} (h : MFin L s t cnt Y Z Cs) {w : Nat} (hw : w < Cs.length) {k : Int32} (e : nI (rkM Y Z w cnt) = k) : ∀ Rs, RSp L s t Rs → kth Rs k = some Cs[w] := by
  intro Rs hR
  obtain ⟨hj, e2⟩ := rk_ix h hR hw
  have h1 := rkM_le Y Z w cnt
  have h2 := h.1.2.1
  rw [← e, kth_n _ (by omega), List.getElem?_eq_getElem hj, e2]
theorem fnd_no {L : Nat → Nat} {s t cnt : Nat} {Y Z : Nat → Nat} {Cs : List (List Nat)} (h : MFin L s t cnt Y Z Cs) {k : Int32} (hno : ∀ w, w < cnt → ¬ nI (rkM Y Z w cnt) = k) : ∀ Rs, RSp L s t Rs → kth Rs k = none := by
  intro Rs hR
  by_cases h0 : k < 0
  · exact kth_neg Rs h0
  · obtain ⟨j, hj, rfl⟩ := nI_of h0
    rw [kth_n _ hj]
    rcases Nat.lt_or_ge j Rs.length with h1 | h1
    · obtain ⟨w, hw, _, e⟩ := rk_sur h hR h1
      exact absurd (by rw [e]) (hno w (by rw [h.1.1]; exact hw))
    · exact List.getElem?_eq_none h1
/-- within: how many are no longer than n -/
def wcM (Z : Nat → Nat) (n : Int32) : Nat → Nat
  | 0 => 0
  | w + 1 => wcM Z n w + (if nI (Z w) ≤ n then 1 else 0)
theorem wcM_le (Z : Nat → Nat) (n : Int32) : ∀ k, wcM Z n k ≤ k := by
  intro k
  induction k with
  | zero => exact Nat.le_refl _
  | succ k ih =>
    unfold wcM
    split <;> omega
theorem wc_cnt {L : Nat → Nat} {s t cnt : Nat} {Y Z : Nat → Nat} {Cs : List (List Nat)} (h : MFin L s t cnt Y Z Cs) (n : Int32) : ∀ k, k ≤ Cs.length → wcM Z n k = (Cs.take k).countP (fun p => decide (nI (lenP L p) ≤ n)) := by
  intro k
  induction k with
  | zero => intro _; rfl
  | succ k ih =>
    intro hk
    have hk1 : k < Cs.length := by omega
    rw [wcM, ih (by omega), List.take_succ_eq_append_getElem hk1, List.countP_append, List.countP_singleton, (h.1.2.2 k hk1).2.1]
    congr 1
    by_cases hq : nI (lenP L Cs[k]) ≤ n
    · rw [if_pos hq, if_pos (by rw [decide_eq_true_eq]; exact hq)]
    · rw [if_neg hq, if_neg (by rw [decide_eq_true_eq]; exact hq)]
theorem tw_count {α : Type} (f : α → Bool) : ∀ l : List α, l.Pairwise (fun a b => f b = true → f a = true) → (l.takeWhile f).length = l.countP f := by
  intro l
  induction l with
  | nil => intro _; rfl
  | cons a l ih =>
    intro hp
    obtain ⟨h1, h2⟩ := List.pairwise_cons.mp hp
    by_cases ha : f a = true
    · rw [List.takeWhile_cons, if_pos ha, List.length_cons, ih h2, List.countP_cons, if_pos ha]
    · rw [List.takeWhile_cons, if_neg ha]
      symm
      show List.countP f (a :: l) = 0
      rw [List.countP_eq_zero]
      intro b hb hfb
      rcases List.mem_cons.mp hb with rfl | hb
      · exact ha hfb
      · exact ha (h1 b hb hfb)
theorem wit_M {L : Nat → Nat} (hL : ∀ i, L i ≤ 20) {s t cnt : Nat} {Y Z : Nat → Nat} {Cs : List (List Nat)} (h : MFin L s t cnt Y Z Cs) (n : Int32) : ∀ Rs, RSp L s t Rs → nI (wcM Z n cnt) = witA L Rs n := by
  intro Rs hR
  have h1 := wc_cnt h n Cs.length (Nat.le_refl _)
  rw [List.take_length, (CR_perm h hR).countP_eq, ← h.1.1] at h1
  rw [witA, tw_count, h1]
  refine List.Pairwise.imp_of_mem ?_ hR.2
  intro a b ha hb hab
  have ha1 := way_120 hL ((hR.1 a).mp ha)
  have hb1 := way_120 hL ((hR.1 b).mp hb)
  have hle : lenP L a ≤ lenP L b := by
    rcases hab with h2 | h2
    · omega
    · omega
  rw [decide_eq_true_eq, decide_eq_true_eq, fa_le, fa_le, nI_toInt (by omega), nI_toInt (by omega)]
  intro h3
  omega
/-- a number whose digits are the places of a way to t -/
def wayD (y : Nat) (p : List Nat) (t : Nat) : Prop := (∀ i (h : i < p.length), dgY y i = p[i]) ∧ p.getLast? = some t ∧ p.Nodup ∧ p.length ≤ 6
theorem MFin_wayD {L : Nat → Nat} {s t cnt : Nat} {Y Z : Nat → Nat} {Cs : List (List Nat)} (h : MFin L s t cnt Y Z Cs) {w : Nat} (hw : w < Cs.length) : wayD (Y w) Cs[w] t := by
  have h1 := MFin_way h hw
  exact ⟨(h.1.2.2 w hw).2.2, h1.2.1, h1.2.2.1, way_len6 h1⟩
theorem wd_last {y t : Nat} {p : List Nat} (h : wayD y p t) {n : Nat} (hn : n < p.length) : dgY y n = t ↔ n + 1 = p.length := by
  obtain ⟨h1, h2, h3, h4⟩ := h
  rw [h1 n hn]
  rw [List.getLast?_eq_getElem?, List.getElem?_eq_getElem (show p.length - 1 < p.length by omega)] at h2
  have h2 := Option.some.inj h2
  constructor
  · intro e
    have := (List.getElem_inj h3).mp (e.trans h2.symm)
    omega
  · intro e
    rw [← h2]
    congr 1
    omega
theorem wd_pos {y t : Nat} {p : List Nat} (h : wayD y p t) : 0 < p.length := by
  cases p with
  | nil => have := h.2.1; simp at this
  | cons a p => simp
/-- through -/
def thI (p : List Nat) (v i f : Nat) : Prop := f ≤ 1 ∧ (f = 1 ↔ ∃ j, ∃ h : j < p.length, j < i ∧ p[j] = v)
theorem thI_0 (p : List Nat) (v : Nat) : thI p v 0 0 := ⟨by decide, ⟨fun h => by omega, fun ⟨j, _, h, _⟩ => by omega⟩⟩
theorem thI_old {p : List Nat} {v i f : Nat} (h : thI p v i f) (hf : ¬ f = 0) : thI p v (i + 1) 1 := by
  refine ⟨Nat.le_refl _, ⟨fun _ => ?_, fun _ => rfl⟩⟩
  obtain ⟨j, h1, h2, h3⟩ := h.2.mp (by have := h.1; omega)
  exact ⟨j, h1, by omega, h3⟩
theorem thI_yes {p : List Nat} {v i : Nat} (hi : i < p.length) (e : p[i] = v) : thI p v (i + 1) 1 := ⟨Nat.le_refl _, ⟨fun _ => ⟨i, hi, by omega, e⟩, fun _ => rfl⟩⟩
theorem thI_no {p : List Nat} {v i f : Nat} (h : thI p v i f) (hf : f = 0) (hi : i < p.length) (e : ¬ p[i] = v) : thI p v (i + 1) 0 := by
  refine ⟨by decide, ⟨fun h => by omega, fun ⟨j, h1, h2, h3⟩ => ?_⟩⟩
  exfalso
  rcases Nat.lt_or_ge j i with h4 | h4
  · have := h.2.mpr ⟨j, h1, h4, h3⟩
    omega
  · obtain rfl : j = i := by omega
    exact e h3
theorem thI_e {p : List Nat} {v f : Nat} (h : thI p v p.length f) : (f = 1 ∧ v ∈ p) ∨ (f = 0 ∧ ¬ v ∈ p) := by
  by_cases hf : f = 1
  · refine Or.inl ⟨hf, ?_⟩
    obtain ⟨j, h1, _, h3⟩ := h.2.mp hf
    rw [← h3]
    exact List.getElem_mem h1
  · refine Or.inr ⟨by have := h.1; omega, fun hm => hf ?_⟩
    obtain ⟨j, hj, e⟩ := List.mem_iff_getElem.mp hm
    exact h.2.mpr ⟨j, hj, hj, e⟩
/-- musts -/
def muV (s t : Nat) (Cs : List (List Nat)) (v x : Nat) : Prop := x < 64 ∧ ∀ u, u < 6 → (x.testBit u = true ↔ u < v ∧ u ≠ s ∧ u ≠ t ∧ ∀ p ∈ Cs, u ∈ p)
theorem muV_0 (s t : Nat) (Cs : List (List Nat)) : muV s t Cs 0 0 := ⟨by decide, fun u _ => ⟨fun h => by simp at h, fun h => by have := h.1; omega⟩⟩
theorem muV_no {s t : Nat} {Cs : List (List Nat)} {v x : Nat} (h : muV s t Cs v x) (hn : ¬ (v ≠ s ∧ v ≠ t ∧ ∀ p ∈ Cs, v ∈ p)) : muV s t Cs (v + 1) x := by
  refine ⟨h.1, fun u hu => (h.2 u hu).trans ⟨fun g => ⟨by have := g.1; omega, g.2⟩, fun g => ⟨?_, g.2⟩⟩⟩
  rcases Nat.lt_or_ge u v with h1 | h1
  · exact h1
  · obtain rfl : u = v := by have := g.1; omega
    exact absurd g.2 hn
theorem muV_yes {s t : Nat} {Cs : List (List Nat)} {v x : Nat} (hv : v < 6) (h : muV s t Cs v x) (hy : v ≠ s ∧ v ≠ t ∧ ∀ p ∈ Cs, v ∈ p) : muV s t Cs (v + 1) (x ||| 1 * 2 ^ v) := by
  refine ⟨or_lt64 h.1 (by rw [Nat.one_mul]; exact Nat.pow_lt_pow_right (a := 2) (m := v) (n := 6) (by decide) hv), fun u hu => ?_⟩
  rw [Nat.one_mul, fb_bit_set, Bool.or_eq_true, decide_eq_true_eq, h.2 u hu]
  constructor
  · rintro (g | rfl)
    · exact ⟨by have := g.1; omega, g.2⟩
    · exact ⟨by omega, hy⟩
  · intro g
    rcases Nat.lt_or_ge u v with h1 | h1
    · exact Or.inl ⟨h1, g.2⟩
    · exact Or.inr (by have := g.1; omega)
theorem muV_e {L : Nat → Nat} {s t cnt : Nat} {Y Z : Nat → Nat} {Cs : List (List Nat)} (h : MFin L s t cnt Y Z Cs) {x : Nat} (hx : muV s t Cs 6 x) (hc : 0 < cnt) : ∀ Rs, RSp L s t Rs → musF s t Rs (nI x) := by
  intro Rs hR
  have hl := CR_len h hR
  refine ⟨x, rfl, hx.1, fun v hv => (hx.2 v hv).trans ⟨fun g => ⟨fun e => ?_, g.2.1, g.2.2.1, fun p hp => g.2.2.2 p ((h.2.2 p).mpr ((hR.1 p).mp hp))⟩, fun g => ⟨hv, g.2.1, g.2.2.1, fun p hp => g.2.2.2 p ((hR.1 p).mpr ((h.2.2 p).mp hp))⟩⟩⟩
  rw [e] at hl
  simp at hl
  omega
theorem mus_0 {L : Nat → Nat} {s t cnt : Nat} {Y Z : Nat → Nat} {Cs : List (List Nat)} (h : MFin L s t cnt Y Z Cs) (hc : cnt = 0) : ∀ Rs, RSp L s t Rs → musF s t Rs (nI 0) := by
  intro Rs hR
  have e : Rs = [] := List.length_eq_zero_iff.mp ((CR_len h hR).trans hc)
  rw [e]
  exact mus_nil
def muW (s t : Nat) (Cs : List (List Nat)) (v w a : Nat) : Prop := a ≤ 1 ∧ (a = 1 ↔ v ≠ s ∧ v ≠ t ∧ ∀ j (h : j < Cs.length), j < w → v ∈ Cs[j])
theorem muW_0 {s t v a : Nat} (Cs : List (List Nat)) (h : a = if v ≠ s ∧ v ≠ t then 1 else 0) : muW s t Cs v 0 a := by
  subst h
  by_cases hc : v ≠ s ∧ v ≠ t
  · rw [if_pos hc]
    exact ⟨Nat.le_refl _, ⟨fun _ => ⟨hc.1, hc.2, fun j _ hj => by omega⟩, fun _ => rfl⟩⟩
  · rw [if_neg hc]
    exact ⟨by decide, ⟨fun h => by omega, fun h => absurd ⟨h.1, h.2.1⟩ hc⟩⟩
theorem muW_z {s t v w a : Nat} {Cs : List (List Nat)} (h : muW s t Cs v w a) (ha : a = 0) : muW s t Cs v (w + 1) 0 := by
  refine ⟨by decide, ⟨fun h => by omega, fun g => ?_⟩⟩
  have := h.2.mpr ⟨g.1, g.2.1, fun j hj hjw => g.2.2 j hj (by omega)⟩
  omega
theorem muW_no {s t v w a : Nat} {Cs : List (List Nat)} (_ : muW s t Cs v w a) (hw : w < Cs.length) (hn : ¬ v ∈ Cs[w]) : muW s t Cs v (w + 1) 0 :=
  ⟨by decide, ⟨fun h => by omega, fun g => absurd (g.2.2 w hw (by omega)) hn⟩⟩
theorem muW_yes {s t v w a : Nat} {Cs : List (List Nat)} (h : muW s t Cs v w a) (ha : ¬ a = 0) (hw : w < Cs.length) (hy : v ∈ Cs[w]) : muW s t Cs v (w + 1) 1 := by
  have h1 := h.2.mp (by have := h.1; omega)
  refine ⟨Nat.le_refl _, ⟨fun _ => ⟨h1.1, h1.2.1, fun j hj hjw => ?_⟩, fun _ => rfl⟩⟩
  rcases Nat.lt_or_ge j w with h2 | h2
  · exact h1.2.2 j hj h2
  · obtain rfl : j = w := by omega
    exact hy
theorem muW_e {s t v a : Nat} {Cs : List (List Nat)} (h : muW s t Cs v Cs.length a) : a = 1 ↔ v ≠ s ∧ v ≠ t ∧ ∀ p ∈ Cs, v ∈ p := by
  refine h.2.trans ⟨fun g => ⟨g.1, g.2.1, fun p hp => ?_⟩, fun g => ⟨g.1, g.2.1, fun j hj _ => g.2.2 _ (List.getElem_mem hj)⟩⟩
  obtain ⟨j, hj, rfl⟩ := List.mem_iff_getElem.mp hp
  exact g.2.2 j hj hj
/-- firstAvoiding: b = 0, or the least rank of those found so far, and 1 -/
def avI (Cs : List (List Nat)) (rk : Nat → Nat) (v w b : Nat) : Prop := (b = 0 ∧ ∀ j (h : j < Cs.length), j < w → v ∈ Cs[j]) ∨ ∃ j, ∃ h : j < Cs.length, j < w ∧ ¬ v ∈ Cs[j] ∧ b = rk j + 1 ∧ ∀ i (hi : i < Cs.length), i < w → ¬ v ∈ Cs[i] → rk j ≤ rk i
theorem avI_0 (Cs : List (List Nat)) (rk : Nat → Nat) (v : Nat) : avI Cs rk v 0 0 := Or.inl ⟨rfl, fun j _ hj => by omega⟩
theorem avI_in {Cs : List (List Nat)} {rk : Nat → Nat} {v w b : Nat} (h : avI Cs rk v w b) (hw : w < Cs.length) (hv : v ∈ Cs[w]) : avI Cs rk v (w + 1) b := by
  have key : ∀ i (hi : i < Cs.length), i < w + 1 → ¬ v ∈ Cs[i] → i < w := by
    intro i hi hiw hn
    rcases Nat.lt_or_ge i w with h2 | h2
    · exact h2
    · obtain rfl : i = w := by omega
      exact absurd hv hn
  rcases h with ⟨h1, h2⟩ | ⟨j, h1, h2, h3, h4, h5⟩
  · refine Or.inl ⟨h1, fun j hj hjw => ?_⟩
    rcases Nat.lt_or_ge j w with h4 | h4
    · exact h2 j hj h4
    · obtain rfl : j = w := by omega
      exact hv
  · exact Or.inr ⟨j, h1, by omega, h3, h4, fun i hi hiw hn => h5 i hi (key i hi hiw hn) hn⟩
theorem avI_first {Cs : List (List Nat)} {rk : Nat → Nat} {v w b : Nat} (h : avI Cs rk v w b) (hb : b = 0) (hw : w < Cs.length) (hv : ¬ v ∈ Cs[w]) : avI Cs rk v (w + 1) (rk w + 1) := by
  rcases h with ⟨h1, h2⟩ | ⟨j, h1, h2, h3, h4, h5⟩
  · refine Or.inr ⟨w, hw, by omega, hv, rfl, fun i hi hiw hn => ?_⟩
    rcases Nat.lt_or_ge i w with h4 | h4
    · exact absurd (h2 i hi h4) hn
    · obtain rfl : i = w := by omega
      exact Nat.le_refl _
  · omega
theorem avI_less {Cs : List (List Nat)} {rk : Nat → Nat} {v w y : Nat} (h : avI Cs rk v w (y + 1)) (hr : rk w < y) (hw : w < Cs.length) (hv : ¬ v ∈ Cs[w]) : avI Cs rk v (w + 1) (rk w + 1) := by
  rcases h with ⟨h1, h2⟩ | ⟨j, h1, h2, h3, h4, h5⟩
  · omega
  · refine Or.inr ⟨w, hw, by omega, hv, rfl, fun i hi hiw hn => ?_⟩
    rcases Nat.lt_or_ge i w with h6 | h6
    · have := h5 i hi h6 hn
      omega
    · obtain rfl : i = w := by omega
      exact Nat.le_refl _
theorem avI_more {Cs : List (List Nat)} {rk : Nat → Nat} {v w y : Nat} (h : avI Cs rk v w (y + 1)) (hr : y ≤ rk w) (hw : w < Cs.length) : avI Cs rk v (w + 1) (y + 1) := by
  rcases h with ⟨h1, h2⟩ | ⟨j, h1, h2, h3, h4, h5⟩
  · omega
  · refine Or.inr ⟨j, h1, by omega, h3, h4, fun i hi hiw hn => ?_⟩
    rcases Nat.lt_or_ge i w with h6 | h6
    · exact h5 i hi h6 hn
    · obtain rfl : i = w := by omega
      omega
theorem avI_e {L : Nat → Nat} {s t cnt : Nat} {Y Z : Nat → Nat} {Cs : List (List Nat)} (h : MFin L s t cnt Y Z Cs) {v b : Nat} (hb : avI Cs (fun w => rkM Y Z w cnt) v Cs.length b) : ∀ Rs, RSp L s t Rs → eN b = avoA Rs v := by
  intro Rs hR
  rcases hb with ⟨h1, h2⟩ | ⟨j, h1, h2, h3, h4, h5⟩
  · rw [avoA, findIdx_none _ Rs, h1]
    intro k hk
    obtain ⟨w, hw, e, _⟩ := rk_sur h hR hk
    rw [decide_eq_false_iff_not, Classical.not_not, ← e]
    exact h2 w hw hw
  · obtain ⟨hj, e⟩ := rk_ix h hR h1
    rw [avoA, findIdx_some _ Rs (rkM Y Z j cnt) hj, h4]
    · rfl
    · intro k hk hkj
      obtain ⟨w, hw, e2, e3⟩ := rk_sur h hR hk
      rw [decide_eq_false_iff_not, Classical.not_not, ← e2]
      apply Classical.byContradiction
      intro hn
      have := h5 w hw hw hn
      dsimp only at this
      omega
    · rw [decide_eq_true_eq, e]
      exact h3
/-- there is a list of all ways in order -/
theorem ins_ex {L : Nat → Nat} {s t : Nat} {a : List Nat} (ha : way L s t a) : ∀ Rs : List (List Nat), Rs.Pairwise (plt L) → (∀ p ∈ Rs, way L s t p) → a ∉ Rs → ∃ Rs' : List (List Nat), Rs'.Perm (a :: Rs) ∧ Rs'.Pairwise (plt L) := by
  intro Rs
  induction Rs with
  | nil => intro _ _ _; exact ⟨[a], List.Perm.refl _, List.pairwise_singleton _ _⟩
  | cons b Rs ih =>
    intro hp hw hn
    obtain ⟨h1, h2⟩ := List.pairwise_cons.mp hp
    have hab : a ≠ b := fun e => hn (by rw [e]; simp)
    rcases plt_total ha (hw b (by simp)) hab with h3 | h3
    · refine ⟨a :: b :: Rs, List.Perm.refl _, List.pairwise_cons.mpr ⟨fun p hp => ?_, hp⟩⟩
      rcases List.mem_cons.mp hp with rfl | hp
      · exact h3
      · exact plt_trans h3 (h1 p hp)
    · obtain ⟨Rs', g1, g2⟩ := ih h2 (fun p hp => hw p (List.mem_cons_of_mem _ hp)) (fun hm => hn (List.mem_cons_of_mem _ hm))
      refine ⟨b :: Rs', (List.Perm.cons b g1).trans (List.Perm.swap a b Rs), List.pairwise_cons.mpr ⟨fun p hp => ?_, g2⟩⟩
      rcases List.mem_cons.mp (g1.mem_iff.mp hp) with rfl | hp
      · exact h3
      · exact h1 p hp
theorem sort_ex {L : Nat → Nat} {s t : Nat} : ∀ Cs : List (List Nat), Cs.Nodup → (∀ p ∈ Cs, way L s t p) → ∃ Rs : List (List Nat), Rs.Perm Cs ∧ Rs.Pairwise (plt L) := by
  intro Cs
  induction Cs with
  | nil => intro _ _; exact ⟨[], List.Perm.refl _, List.Pairwise.nil⟩
  | cons a Cs ih =>
    intro hn hw
    obtain ⟨h1, h2⟩ := List.nodup_cons.mp hn
    obtain ⟨Rs, g1, g2⟩ := ih h2 (fun p hp => hw p (List.mem_cons_of_mem _ hp))
    obtain ⟨Rs', k1, k2⟩ := ins_ex (hw a (by simp)) Rs g2 (fun p hp => hw p (List.mem_cons_of_mem _ (g1.mem_iff.mp hp))) (fun hm => h1 (g1.mem_iff.mp hm))
    exact ⟨Rs', k1.trans (List.Perm.cons a g1), k2⟩
theorem RSp_ex (L : Nat → Nat) {s t : Nat} (hs : s < 6) (ht : t < 6) (hst : s ≠ t) : ∃ Rs, RSp L s t Rs := by
  obtain ⟨Rs, h1, h2⟩ := sort_ex (L := L) (s := s) (t := t) (Cn L s t 2401) (Cn_nodup hs ht (Nat.le_refl _)) (Cn_way hs ht hst (Nat.le_refl _))
  exact ⟨Rs, fun p => h1.mem_iff.trans (Cn_all hs ht hst p), h2⟩
theorem ML_none {L : Nat → Nat} {s t d : Nat} {Rs : List (List Nat)} (hR : RSp L s t Rs) (h0 : Rs[0]? = none) (h : ML L s t d) : d = 1048576 := by
  rcases h with h | ⟨_, p, h1, _⟩
  · exact h.1
  · have hm := (hR.1 p).mpr h1
    cases Rs with
    | nil => simp at hm
    | cons a Rs => simp at h0
theorem ML_some {L : Nat → Nat} {s t d : Nat} {Rs : List (List Nat)} {p0 : List Nat} (hR : RSp L s t Rs) (h0 : Rs[0]? = some p0) (h : ML L s t d) : d = lenP L p0 := by
  have hw0 := (hR.1 p0).mp (List.mem_of_getElem? h0)
  rcases h with h | ⟨_, p, h1, h2, h3⟩
  · exact absurd hw0 (h.2 p0)
  · have hm := (hR.1 p).mpr h1
    have h4 := h3 p0 hw0
    cases Rs with
    | nil => simp at hm
    | cons a Rs =>
      simp at h0
      subst h0
      rcases List.mem_cons.mp hm with rfl | hm
      · exact h2.symm
      · have h5 := (List.pairwise_cons.mp hR.2).1 p hm
        rcases h5 with h6 | h6
        · omega
        · omega
def detM (L : Nat → Nat) (s t a b r : Int32) : Prop := ((¬ isPr s t ∨ ¬ isPr a b ∨ ∃ x y : Nat, a = nI x ∧ b = nI y ∧ x < 6 ∧ y < 6 ∧ L (x * 6 + y) = 0) ∧ r = nI 0) ∨ ∃ s' t' x y : Nat, s = nI s' ∧ t = nI t' ∧ s' < 6 ∧ t' < 6 ∧ s' ≠ t' ∧ a = nI x ∧ b = nI y ∧ x < 6 ∧ y < 6 ∧ x ≠ y ∧ 0 < L (x * 6 + y) ∧ ∀ d1 d2, ML L s' t' d1 → ML (updN L (x * 6 + y) 0) s' t' d2 → r = detR d1 d2
def avoM (L : Nat → Nat) (s t v r : Int32) : Prop := ((¬ isPl v ∨ v = s ∨ v = t) ∧ r = eN 0) ∨ ∃ v' : Nat, v = nI v' ∧ v' < 6 ∧ ¬ v = s ∧ ¬ v = t ∧ AnsA L s t (fun r => r = eN 0) (fun _ _ Rs r => r = avoA Rs v') r
end
section
set_option maxRecDepth 100000
set_option maxHeartbeats 4000000
theorem cM_list (h : Nat → Nat) (dI : ClassId) (L : Nat → Nat) (cnt : Nat) (Y Z : Nat → Nat) (s t : Int32) (hL : ∀ i, L i ≤ 20) : MV yX1_list cX1_list 4 1 (MT dI) [.ref (h 0), .int s, .int t] (MW h dI L cnt Y Z) (fun u : MS => MW h dI L u.1 u.2.1 u.2.2) (listA L s t) := by
  refine g_enterV (lv0 := [(0, .ref (h 0)), (1, .int s), (2, .int t)]) (by decide) (Nat.le_of_ble_eq_true rfl) rfl (fun Γ hc hR => ?_)
  have loop : ∀ x1 x2 : Nat, x1 < 6 → x2 < 6 → x1 ≠ x2 → s = nI x1 → t = nI x2 → ∀ (n : Nat) (u : MS), n ≤ 2401 → MFc L (Cn L x1 x2 n) u.1 u.2.1 u.2.2 → G Γ (MW h dI L u.1 u.2.1 u.2.2) 7 [(0, .ref (h 0)), (1, .int (nI x1)), (2, .int (nI x2)), (3, .int (nI n))] [] := by
    intro x1 x2 hx1 hx2 hx3 es et
    refine up_loop 2401 _ _ ?_
    intro n u hn hI ih
    obtain ⟨cnt1, Y1, Z1⟩ := u
    dsimp only at hI ⊢
    have h65 := hI.2.1
    refine g_iload_n hc dX1_list_7 rfl 3 rfl ?_
    refine g_sipush (v := nI 2401) hc dX1_list_8 (by decide) ?_
    refine n_icmp_ge (tgt := 36) hc dX1_list_11 (by decide) (by omega) (by omega) (fun c11 => ?_) (fun c11 => ?_)
    · skip
      have hn2 : n = 2401 := by omega
      subst hn2
      obtain ⟨Cs, hCs⟩ := ls_end hx1 hx2 hx3 hI
      exact hR (cnt1, Y1, Z1) _ _ (Or.inr ⟨x1, x2, Cs, es, et, hx1, hx2, hx3, hCs⟩) dX1_list_36
    · skip
      refine g_aload_n hc dX1_list_14 rfl 0 rfl ?_
      refine g_iload_n hc dX1_list_15 rfl 1 rfl ?_
      refine g_iload_n hc dX1_list_16 rfl 2 rfl ?_
      refine m_callI (n := 2) (As := [.int (nI x1), .int (nI x2)]) (rest := []) hc (cM_pair h dI L cnt1 Y1 Z1 (nI x1) (nI x2)) (lw_V q194 q196 qs8 q19 q197) (by decide +kernel) (by decide) (by decide) rfl rfl (by simp [Value.category]) dX1_list_17 (fun r17 u17 k17 => ?_)
      rcases k17 with ⟨rfl, k17⟩ | ⟨rfl, k17⟩
      · skip
        refine n_if_eq (tgt := 36) hc dX1_list_20 (by decide) (by decide) (fun h => absurd h (by decide)) (fun _ => ?_)
        refine g_aload_n hc dX1_list_23 rfl 0 rfl ?_
        refine g_iload_n hc dX1_list_24 rfl 1 rfl ?_
        refine g_iload_n hc dX1_list_25 rfl 2 rfl ?_
        refine g_iload_n hc dX1_list_26 rfl 3 rfl ?_
        refine m_callV (n := 3) (As := [.int (nI x1), .int (nI x2), .int (nI n)]) (rest := []) hc (cM_look h dI L cnt1 Y1 Z1 x1 x2 n hL hx1 hx2 c11 h65 (ls_room hx1 hx2 hx3 c11 hI)) (lw_V q218 q220 qs10 q19 q221) (by decide +kernel) (by decide) (by decide) rfl rfl (by simp [Value.category]) dX1_list_27 (fun u27 k27 => ?_)
        refine g_world (ws' := MW h dI L u27.1 u27.2.1 u27.2.2) rfl ?_
        refine n_iinc (lv' := [(0, .ref (h 0)), (1, .int (nI x1)), (2, .int (nI x2)), (3, .int (nI (n + 1)))]) (q := 3) hc dX1_list_30 rfl (by decide) [1, 2, 3, 0] rfl ?_
        refine g_goto (tgt := 7) hc dX1_list_33 (by decide) ?_
        exact ih c11 u27 (ls_step hx1 hx2 hx3 c11 hI k27)
      · exact absurd ⟨x1, x2, rfl, rfl, hx1, hx2, hx3⟩ k17
  refine g_aload_n hc dX1_list_0 rfl 0 rfl ?_
  refine g_iconst (v := nI 0) hc dX1_list_1 (by decide) ?_
  refine m_put (ws' := MW h dI L 0 Y Z) (ty := .int) hc 1 (by decide) q178 0 rfl rfl (by decide +kernel) rfl rfl (Nat.le_of_ble_eq_true rfl) dX1_list_2 rfl rfl ?_
  refine g_iconst (v := nI 0) hc dX1_list_5 (by decide) ?_
  refine g_istore_n (lv' := [(0, .ref (h 0)), (1, .int s), (2, .int t), (3, .int (nI 0))]) hc dX1_list_6 rfl (by decide) [1, 2, 3, 0] rfl ?_
  by_cases hp : isPr s t
  · obtain ⟨x1, x2, rfl, rfl, hx1, hx2, hx3⟩ := hp
    exact loop x1 x2 hx1 hx2 hx3 rfl rfl 0 (0, Y, Z) (Nat.zero_le _) ⟨rfl, Nat.zero_le 65, fun k hk => absurd hk (Nat.not_lt_zero k)⟩
  · skip
    refine g_iload_n hc dX1_list_7 rfl 3 rfl ?_
    refine g_sipush (v := nI 2401) hc dX1_list_8 (by decide) ?_
    refine n_icmp_ge (tgt := 36) hc dX1_list_11 (by decide) (by omega) (by omega) (fun c11 => ?_) (fun c11 => ?_)
    · skip
      exact absurd c11 (by decide)
    · skip
      refine g_aload_n hc dX1_list_14 rfl 0 rfl ?_
      refine g_iload_n hc dX1_list_15 rfl 1 rfl ?_
      refine g_iload_n hc dX1_list_16 rfl 2 rfl ?_
      refine m_callI (n := 2) (As := [.int s, .int t]) (rest := []) hc (cM_pair h dI L 0 Y Z s t) (lw_V q194 q196 qs8 q19 q197) (by decide +kernel) (by decide) (by decide) rfl rfl (by simp [Value.category]) dX1_list_17 (fun r17 u17 k17 => ?_)
      rcases k17 with ⟨rfl, k17⟩ | ⟨rfl, k17⟩
      · exact absurd k17 hp
      · skip
        refine n_if_eq (tgt := 36) hc dX1_list_20 (by decide) (by decide) (fun _ => ?_) (fun h => absurd h (by decide))
        exact hR (0, Y, Z) _ _ (Or.inl ⟨hp, rfl⟩) dX1_list_36
theorem cM_before (h : Nat → Nat) (dI : ClassId) (L : Nat → Nat) (cnt : Nat) (Y Z : Nat → Nat) (w x : Nat) (hB : MB cnt Y Z) (hw : w < cnt) (hx : x < cnt) : MI yX1_before cX1_before 4 .boolean 1 (MT dI) [.ref (h 0), .int (nI w), .int (nI x)] (MW h dI L cnt Y Z) (fun _ : Unit => MW h dI L cnt Y Z) (bPost (gM Y Z w x = true)) := by
  refine g_enterI (lv0 := [(0, .ref (h 0)), (1, .int (nI w)), (2, .int (nI x))]) (by decide) (Nat.le_of_ble_eq_true rfl) rfl (fun r u h => bPost_nar h) (fun Γ hc hR => ?_)
  have h65 := hB.1
  obtain ⟨hYw, hZw⟩ := hB.2 w hw
  obtain ⟨hYx, hZx⟩ := hB.2 x hx
  have loop : ∀ (i : Nat) (_ : Unit), i ≤ 6 → gM Y Z w x = lxF (dgY (Y w)) (dgY (Y x)) i (6 - i) → G Γ (MW h dI L cnt Y Z) 38 [(0, .ref (h 0)), (1, .int (nI w)), (2, .int (nI x)), (3, .int (nI i))] [] := by
    refine up_loop 6 _ _ ?_
    intro i _ hi6 e ih
    refine g_iload_n hc dX1_before_38 rfl 3 rfl ?_
    refine g_bipush (v := nI 6) hc dX1_before_39 (by decide) ?_
    refine n_icmp_ge (tgt := 86) hc dX1_before_41 (by decide) (by omega) (by omega) (fun c41 => ?_) (fun c41 => ?_)
    · skip
      refine g_iconst (v := nI 0) hc dX1_before_86 (by decide) ?_
      exact hR _ () _ _ (Or.inr ⟨rfl, by rw [e, show 6 - i = 0 by omega, lxF]; decide⟩) dX1_before_87
    · skip
      refine g_aload_n hc dX1_before_44 rfl 0 rfl ?_
      refine g_iload_n hc dX1_before_45 rfl 1 rfl ?_
      refine g_iload_n hc dX1_before_46 rfl 3 rfl ?_
      refine m_callI (n := 2) (As := [.int (nI w), .int (nI i)]) (rest := []) hc (cM_digit h dI L cnt Y Z w i (by omega) c41 hYw) (lw_V q238 q240 qs14 q19 q241) (by decide +kernel) (by decide) (by decide) rfl rfl (by simp [Value.category]) dX1_before_47 (fun r47 u47 k47 => ?_)
      subst k47
      have hd47 := dg_lt (Y w) i
      refine g_aload_n hc dX1_before_50 rfl 0 rfl ?_
      refine g_iload_n hc dX1_before_51 rfl 2 rfl ?_
      refine g_iload_n hc dX1_before_52 rfl 3 rfl ?_
      refine m_callI (n := 2) (As := [.int (nI x), .int (nI i)]) (rest := [.int (nI (dgY (Y w) i))]) hc (cM_digit h dI L cnt Y Z x i (by omega) c41 hYx) (lw_V q238 q240 qs14 q19 q241) (by decide +kernel) (by decide) (by decide) rfl rfl (by simp [Value.category]) dX1_before_53 (fun r53 u53 k53 => ?_)
      subst k53
      have hd53 := dg_lt (Y x) i
      refine n_icmp_eq (tgt := 80) hc dX1_before_56 (by decide) (by omega) (by omega) (fun c56 => ?_) (fun c56 => ?_)
      · skip
        refine n_iinc (lv' := [(0, .ref (h 0)), (1, .int (nI w)), (2, .int (nI x)), (3, .int (nI (i + 1)))]) (q := 3) hc dX1_before_80 rfl (by decide) [1, 2, 3, 0] rfl ?_
        refine g_goto (tgt := 38) hc dX1_before_83 (by decide) ?_
        exact ih c41 () (by rw [e, lxF_eq c41 c56])
      · skip
        refine g_aload_n hc dX1_before_59 rfl 0 rfl ?_
        refine g_iload_n hc dX1_before_60 rfl 1 rfl ?_
        refine g_iload_n hc dX1_before_61 rfl 3 rfl ?_
        refine m_callI (n := 2) (As := [.int (nI w), .int (nI i)]) (rest := []) hc (cM_digit h dI L cnt Y Z w i (by omega) c41 hYw) (lw_V q238 q240 qs14 q19 q241) (by decide +kernel) (by decide) (by decide) rfl rfl (by simp [Value.category]) dX1_before_62 (fun r62 u62 k62 => ?_)
        subst k62
        have hd62 := dg_lt (Y w) i
        refine g_aload_n hc dX1_before_65 rfl 0 rfl ?_
        refine g_iload_n hc dX1_before_66 rfl 2 rfl ?_
        refine g_iload_n hc dX1_before_67 rfl 3 rfl ?_
        refine m_callI (n := 2) (As := [.int (nI x), .int (nI i)]) (rest := [.int (nI (dgY (Y w) i))]) hc (cM_digit h dI L cnt Y Z x i (by omega) c41 hYx) (lw_V q238 q240 qs14 q19 q241) (by decide +kernel) (by decide) (by decide) rfl rfl (by simp [Value.category]) dX1_before_68 (fun r68 u68 k68 => ?_)
        subst k68
        have hd68 := dg_lt (Y x) i
        refine n_icmp_ge (tgt := 78) hc dX1_before_71 (by decide) (by omega) (by omega) (fun c71 => ?_) (fun c71 => ?_)
        · skip
          refine g_iconst (v := nI 0) hc dX1_before_78 (by decide) ?_
          exact hR _ () _ _ (Or.inr ⟨rfl, by rw [e, lxF_ne c41 c56, decide_eq_true_eq]; omega⟩) dX1_before_79
        · skip
          refine g_iconst (v := nI 1) hc dX1_before_74 (by decide) ?_
          refine g_goto (tgt := 79) hc dX1_before_75 (by decide) ?_
          exact hR _ () _ _ (Or.inl ⟨rfl, by rw [e, lxF_ne c41 c56, decide_eq_true_eq]; exact c71⟩) dX1_before_79
  refine g_aload_n hc dX1_before_0 rfl 0 rfl ?_
  refine m_get hc 3 (by decide) q180 0 rfl rfl dX1_before_1 rfl ?_
  refine g_iload_n hc dX1_before_4 rfl 1 rfl ?_
  refine n_iald hc 3 0 rfl rfl (by omega) (by decide) dX1_before_5 ?_
  refine g_aload_n hc dX1_before_6 rfl 0 rfl ?_
  refine m_get hc 3 (by decide) q180 0 rfl rfl dX1_before_7 rfl ?_
  refine g_iload_n hc dX1_before_10 rfl 2 rfl ?_
  refine n_iald hc 3 0 rfl rfl (by omega) (by decide) dX1_before_11 ?_
  refine n_icmp_eq (tgt := 36) hc dX1_before_12 (by decide) (by omega) (by omega) (fun c12 => ?_) (fun c12 => ?_)
  · skip
    refine g_iconst (v := nI 0) hc dX1_before_36 (by decide) ?_
    refine g_istore_n (lv' := [(0, .ref (h 0)), (1, .int (nI w)), (2, .int (nI x)), (3, .int (nI 0))]) hc dX1_before_37 rfl (by decide) [1, 2, 3, 0] rfl ?_
    exact loop 0 () (by decide) (by rw [gM, cmpF, if_pos c12])
  · skip
    refine g_aload_n hc dX1_before_15 rfl 0 rfl ?_
    refine m_get hc 3 (by decide) q180 0 rfl rfl dX1_before_16 rfl ?_
    refine g_iload_n hc dX1_before_19 rfl 1 rfl ?_
    refine n_iald hc 3 0 rfl rfl (by omega) (by decide) dX1_before_20 ?_
    refine g_aload_n hc dX1_before_21 rfl 0 rfl ?_
    refine m_get hc 3 (by decide) q180 0 rfl rfl dX1_before_22 rfl ?_
    refine g_iload_n hc dX1_before_25 rfl 2 rfl ?_
    refine n_iald hc 3 0 rfl rfl (by omega) (by decide) dX1_before_26 ?_
    refine n_icmp_ge (tgt := 34) hc dX1_before_27 (by decide) (by omega) (by omega) (fun c27 => ?_) (fun c27 => ?_)
    · skip
      refine g_iconst (v := nI 0) hc dX1_before_34 (by decide) ?_
      exact hR _ () _ _ (Or.inr ⟨rfl, by rw [gM, cmpF, if_neg c12, decide_eq_true_eq]; omega⟩) dX1_before_35
    · skip
      refine g_iconst (v := nI 1) hc dX1_before_30 (by decide) ?_
      refine g_goto (tgt := 35) hc dX1_before_31 (by decide) ?_
      exact hR _ () _ _ (Or.inl ⟨rfl, by rw [gM, cmpF, if_neg c12, decide_eq_true_eq]; exact c27⟩) dX1_before_35
theorem cM_rank (h : Nat → Nat) (dI : ClassId) (L : Nat → Nat) (cnt : Nat) (Y Z : Nat → Nat) (w : Nat) (hB : MB cnt Y Z) (hw : w < cnt) : MI yX1_rank cX1_rank 4 .int 2 (MT dI) [.ref (h 0), .int (nI w)] (MW h dI L cnt Y Z) (fun _ : Unit => MW h dI L cnt Y Z) (fun r _ => r = nI (rkM Y Z w cnt)) := by
  refine g_enterI (lv0 := [(0, .ref (h 0)), (1, .int (nI w))]) (by decide) (Nat.le_of_ble_eq_true rfl) rfl (fun r u h => rfl) (fun Γ hc hR => ?_)
  have h65 := hB.1
  have loop : ∀ (x acc : Nat), x ≤ cnt → acc = rkM Y Z w x → G Γ (MW h dI L cnt Y Z) 4 [(0, .ref (h 0)), (1, .int (nI w)), (2, .int (nI acc)), (3, .int (nI x))] [] := by
    refine up_loop cnt _ _ ?_
    intro x acc hx e ih
    have hle := rkM_le Y Z w x
    have j33 : ∀ z : Nat, z = rkM Y Z w (x + 1) → x < cnt → G Γ (MW h dI L cnt Y Z) 33 [(0, .ref (h 0)), (1, .int (nI w)), (2, .int (nI acc)), (3, .int (nI x))] [.int (nI z)] := by
      intro z hz hx2
      refine g_istore_n (lv' := [(0, .ref (h 0)), (1, .int (nI w)), (2, .int (nI z)), (3, .int (nI x))]) hc dX1_rank_33 rfl (by decide) [1, 2, 0, 3] rfl ?_
      refine n_iinc (lv' := [(0, .ref (h 0)), (1, .int (nI w)), (2, .int (nI z)), (3, .int (nI (x + 1)))]) (q := 3) hc dX1_rank_34 rfl (by decide) [1, 2, 3, 0] rfl ?_
      refine g_goto (tgt := 4) hc dX1_rank_37 (by decide) ?_
      exact ih hx2 _ hz
    refine g_iload_n hc dX1_rank_4 rfl 3 rfl ?_
    refine g_aload_n hc dX1_rank_5 rfl 0 rfl ?_
    refine m_get hc 1 (by decide) q178 0 rfl rfl dX1_rank_6 rfl ?_
    refine n_icmp_ge (tgt := 40) hc dX1_rank_9 (by decide) (by omega) (by omega) (fun c9 => ?_) (fun c9 => ?_)
    · skip
      refine g_iload_n hc dX1_rank_40 rfl 2 rfl ?_
      exact hR _ () _ _ (by rw [e, show x = cnt by omega]) dX1_rank_41
    · skip
      refine g_iload_n hc dX1_rank_12 rfl 3 rfl ?_
      refine g_iload_n hc dX1_rank_13 rfl 1 rfl ?_
      refine n_icmp_eq (tgt := 32) hc dX1_rank_14 (by decide) (by omega) (by omega) (fun c14 => ?_) (fun c14 => ?_)
      · skip
        refine g_iload_n hc dX1_rank_32 rfl 2 rfl ?_
        exact j33 _ (by rw [rkM, if_neg (fun hh => hh.1 c14), e]; rfl) c9
      · skip
        refine g_aload_n hc dX1_rank_17 rfl 0 rfl ?_
        refine g_iload_n hc dX1_rank_18 rfl 3 rfl ?_
        refine g_iload_n hc dX1_rank_19 rfl 1 rfl ?_
        refine m_callI (n := 2) (As := [.int (nI x), .int (nI w)]) (rest := []) hc (cM_before h dI L cnt Y Z x w hB c9 hw) (lw_V q234 q236 qs13 q19 q237) (by decide +kernel) (by decide) (by decide) rfl rfl (by simp [Value.category]) dX1_rank_20 (fun r20 u20 k20 => ?_)
        rcases k20 with ⟨rfl, k20⟩ | ⟨rfl, k20⟩
        · skip
          refine n_if_eq (tgt := 32) hc dX1_rank_23 (by decide) (by decide) (fun h => absurd h (by decide)) (fun _ => ?_)
          refine g_iload_n hc dX1_rank_26 rfl 2 rfl ?_
          refine g_iconst (v := nI 1) hc dX1_rank_27 (by decide) ?_
          refine n_iadd hc dX1_rank_28 ?_
          refine g_goto (tgt := 33) hc dX1_rank_29 (by decide) ?_
          exact j33 _ (by rw [rkM, if_pos ⟨c14, k20⟩, e]) c9
        · skip
          refine n_if_eq (tgt := 32) hc dX1_rank_23 (by decide) (by decide) (fun _ => ?_) (fun h => absurd h (by decide))
          refine g_iload_n hc dX1_rank_32 rfl 2 rfl ?_
          exact j33 _ (by rw [rkM, if_neg (fun hh => k20 hh.2), e]; rfl) c9
  refine g_iconst (v := nI 0) hc dX1_rank_0 (by decide) ?_
  refine g_istore_n (lv' := [(0, .ref (h 0)), (1, .int (nI w)), (2, .int (nI 0))]) hc dX1_rank_1 rfl (by decide) [1, 2, 0] rfl ?_
  refine g_iconst (v := nI 0) hc dX1_rank_2 (by decide) ?_
  refine g_istore_n (lv' := [(0, .ref (h 0)), (1, .int (nI w)), (2, .int (nI 0)), (3, .int (nI 0))]) hc dX1_rank_3 rfl (by decide) [1, 2, 3, 0] rfl ?_
  exact loop 0 0 (Nat.zero_le _) rfl
theorem cM_sizeOf (h : Nat → Nat) (dI : ClassId) (L : Nat → Nat) (cnt : Nat) (Y Z : Nat → Nat) (w t : Nat) (p : List Nat) (hw : w < 65) (hY : Y w < 16777216) (ht : t < 6) (hp : wayD (Y w) p t) : MI yX1_sizeOf cX1_sizeOf 4 .int 1 (MT dI) [.ref (h 0), .int (nI w), .int (nI t)] (MW h dI L cnt Y Z) (fun _ : Unit => MW h dI L cnt Y Z) (fun r _ => r = nI p.length) := by
  refine g_enterI (lv0 := [(0, .ref (h 0)), (1, .int (nI w)), (2, .int (nI t))]) (by decide) (Nat.le_of_ble_eq_true rfl) rfl (fun r u h => rfl) (fun Γ hc hR => ?_)
  have h6 := hp.2.2.2
  have loop : ∀ (n : Nat) (_ : Unit), n ≤ 5 → n < p.length → G Γ (MW h dI L cnt Y Z) 2 [(0, .ref (h 0)), (1, .int (nI w)), (2, .int (nI t)), (3, .int (nI n))] [] := by
    refine up_loop 5 _ _ ?_
    intro n _ hn5 hn ih
    have hl := wd_last hp hn
    refine g_iload_n hc dX1_sizeOf_2 rfl 3 rfl ?_
    refine g_iconst (v := nI 5) hc dX1_sizeOf_3 (by decide) ?_
    refine n_icmp_ge (tgt := 23) hc dX1_sizeOf_4 (by decide) (by omega) (by omega) (fun c4 => ?_) (fun c4 => ?_)
    · skip
      refine g_iload_n hc dX1_sizeOf_23 rfl 3 rfl ?_
      refine g_iconst (v := nI 1) hc dX1_sizeOf_24 (by decide) ?_
      refine n_iadd hc dX1_sizeOf_25 ?_
      exact hR _ () _ _ (by rw [show n + 1 = p.length by omega]) dX1_sizeOf_26
    · skip
      refine g_aload_n hc dX1_sizeOf_7 rfl 0 rfl ?_
      refine g_iload_n hc dX1_sizeOf_8 rfl 1 rfl ?_
      refine g_iload_n hc dX1_sizeOf_9 rfl 3 rfl ?_
      refine m_callI (n := 2) (As := [.int (nI w), .int (nI n)]) (rest := []) hc (cM_digit h dI L cnt Y Z w n hw (by omega) hY) (lw_V q238 q240 qs14 q19 q241) (by decide +kernel) (by decide) (by decide) rfl rfl (by simp [Value.category]) dX1_sizeOf_10 (fun r10 u10 k10 => ?_)
      subst k10
      have hd10 := dg_lt (Y w) n
      refine g_iload_n hc dX1_sizeOf_13 rfl 2 rfl ?_
      refine n_icmp_eq (tgt := 23) hc dX1_sizeOf_14 (by decide) (by omega) (by omega) (fun c14 => ?_) (fun c14 => ?_)
      · skip
        refine g_iload_n hc dX1_sizeOf_23 rfl 3 rfl ?_
        refine g_iconst (v := nI 1) hc dX1_sizeOf_24 (by decide) ?_
        refine n_iadd hc dX1_sizeOf_25 ?_
        exact hR _ () _ _ (by rw [hl.mp c14]) dX1_sizeOf_26
      · skip
        refine n_iinc (lv' := [(0, .ref (h 0)), (1, .int (nI w)), (2, .int (nI t)), (3, .int (nI (n + 1)))]) (q := 3) hc dX1_sizeOf_17 rfl (by decide) [1, 2, 3, 0] rfl ?_
        refine g_goto (tgt := 2) hc dX1_sizeOf_20 (by decide) ?_
        exact ih c4 () (by have : ¬ n + 1 = p.length := fun hh => c14 (hl.mpr hh); omega)
  refine g_iconst (v := nI 0) hc dX1_sizeOf_0 (by decide) ?_
  refine g_istore_n (lv' := [(0, .ref (h 0)), (1, .int (nI w)), (2, .int (nI t)), (3, .int (nI 0))]) hc dX1_sizeOf_1 rfl (by decide) [1, 2, 3, 0] rfl ?_
  exact loop 0 () (by decide) (wd_pos hp)
theorem cM_through (h : Nat → Nat) (dI : ClassId) (L : Nat → Nat) (cnt : Nat) (Y Z : Nat → Nat) (w v t : Nat) (p : List Nat) (hw : w < 65) (hY : Y w < 16777216) (hv : v < 6) (ht : t < 6) (hp : wayD (Y w) p t) : MI yX1_through cX1_through 7 .boolean 2 (MT dI) [.ref (h 0), .int (nI w), .int (nI v), .int (nI t)] (MW h dI L cnt Y Z) (fun _ : Unit => MW h dI L cnt Y Z) (bPost (v ∈ p)) := by
  refine g_enterI (lv0 := [(0, .ref (h 0)), (1, .int (nI w)), (2, .int (nI v)), (3, .int (nI t))]) (by decide) (Nat.le_of_ble_eq_true rfl) rfl (fun r u h => bPost_nar h) (fun Γ hc hR => ?_)
  have h6 := hp.2.2.2
  have loop : ∀ (i f : Nat), i ≤ p.length → thI p v i f → G Γ (MW h dI L cnt Y Z) 14 [(0, .ref (h 0)), (1, .int (nI w)), (2, .int (nI v)), (3, .int (nI t)), (4, .int (nI p.length)), (5, .int (nI f)), (6, .int (nI i))] [] := by
    refine up_loop p.length _ _ ?_
    intro i f hi hI ih
    have hf1 := hI.1
    have j42 : ∀ z : Nat, thI p v (i + 1) z → i < p.length → G Γ (MW h dI L cnt Y Z) 42 [(0, .ref (h 0)), (1, .int (nI w)), (2, .int (nI v)), (3, .int (nI t)), (4, .int (nI p.length)), (5, .int (nI f)), (6, .int (nI i))] [.int (nI z)] := by
      intro z hz hi2
      refine g_istore (lv' := [(0, .ref (h 0)), (1, .int (nI w)), (2, .int (nI v)), (3, .int (nI t)), (4, .int (nI p.length)), (5, .int (nI z)), (6, .int (nI i))]) hc dX1_through_42 (by decide) [1, 2, 3, 4, 5, 0, 6] rfl ?_
      refine n_iinc (lv' := [(0, .ref (h 0)), (1, .int (nI w)), (2, .int (nI v)), (3, .int (nI t)), (4, .int (nI p.length)), (5, .int (nI z)), (6, .int (nI (i + 1)))]) (q := 6) hc dX1_through_44 rfl (by decide) [1, 2, 3, 4, 5, 6, 0] rfl ?_
      refine g_goto (tgt := 14) hc dX1_through_47 (by decide) ?_
      exact ih hi2 _ hz
    refine g_iload hc dX1_through_14 6 rfl ?_
    refine g_iload hc dX1_through_16 4 rfl ?_
    refine n_icmp_ge (tgt := 50) hc dX1_through_18 (by decide) (by omega) (by omega) (fun c18 => ?_) (fun c18 => ?_)
    · skip
      refine g_iload hc dX1_through_50 5 rfl ?_
      have hil : i = p.length := by omega
      subst hil
      rcases thI_e hI with ⟨rfl, hm⟩ | ⟨rfl, hm⟩
      · exact hR _ () _ _ (Or.inl ⟨rfl, hm⟩) dX1_through_52
      · exact hR _ () _ _ (Or.inr ⟨rfl, hm⟩) dX1_through_52
    · skip
      refine g_iload hc dX1_through_21 5 rfl ?_
      refine n_if_ne (tgt := 37) hc dX1_through_23 (by decide) (by omega) (fun c23 => ?_) (fun c23 => ?_)
      · skip
        refine g_iconst (v := nI 1) hc dX1_through_37 (by decide) ?_
        refine g_goto (tgt := 42) hc dX1_through_38 (by decide) ?_
        exact j42 1 (thI_old hI c23) c18
      · skip
        refine g_aload_n hc dX1_through_26 rfl 0 rfl ?_
        refine g_iload_n hc dX1_through_27 rfl 1 rfl ?_
        refine g_iload hc dX1_through_28 6 rfl ?_
        refine m_callI (n := 2) (As := [.int (nI w), .int (nI i)]) (rest := []) hc (cM_digit h dI L cnt Y Z w i hw (by omega) hY) (lw_V q238 q240 qs14 q19 q241) (by decide +kernel) (by decide) (by decide) rfl rfl (by simp [Value.category]) dX1_through_30 (fun r30 u30 k30 => ?_)
        subst k30
        have hd30 := dg_lt (Y w) i
        refine g_iload_n hc dX1_through_33 rfl 2 rfl ?_
        refine n_icmp_ne (tgt := 41) hc dX1_through_34 (by decide) (by omega) (by omega) (fun c34 => ?_) (fun c34 => ?_)
        · skip
          refine g_iconst (v := nI 0) hc dX1_through_41 (by decide) ?_
          exact j42 0 (thI_no hI c23 c18 (by rw [← hp.1 i c18]; exact c34)) c18
        · skip
          refine g_iconst (v := nI 1) hc dX1_through_37 (by decide) ?_
          refine g_goto (tgt := 42) hc dX1_through_38 (by decide) ?_
          exact j42 1 (thI_yes c18 (by rw [← hp.1 i c18]; exact c34)) c18
  refine g_aload_n hc dX1_through_0 rfl 0 rfl ?_
  refine g_iload_n hc dX1_through_1 rfl 1 rfl ?_
  refine g_iload_n hc dX1_through_2 rfl 3 rfl ?_
  refine m_callI (n := 2) (As := [.int (nI w), .int (nI t)]) (rest := []) hc (cM_sizeOf h dI L cnt Y Z w t p hw hY ht hp) (lw_V q246 q248 qs15 q19 q249) (by decide +kernel) (by decide) (by decide) rfl rfl (by simp [Value.category]) dX1_through_3 (fun r3 u3 k3 => ?_)
  subst k3
  refine g_istore (lv' := [(0, .ref (h 0)), (1, .int (nI w)), (2, .int (nI v)), (3, .int (nI t)), (4, .int (nI p.length))]) hc dX1_through_6 (by decide) [1, 2, 3, 4, 0] rfl ?_
  refine g_iconst (v := nI 0) hc dX1_through_8 (by decide) ?_
  refine g_istore (lv' := [(0, .ref (h 0)), (1, .int (nI w)), (2, .int (nI v)), (3, .int (nI t)), (4, .int (nI p.length)), (5, .int (nI 0))]) hc dX1_through_9 (by decide) [1, 2, 3, 4, 5, 0] rfl ?_
  refine g_iconst (v := nI 0) hc dX1_through_11 (by decide) ?_
  refine g_istore (lv' := [(0, .ref (h 0)), (1, .int (nI w)), (2, .int (nI v)), (3, .int (nI t)), (4, .int (nI p.length)), (5, .int (nI 0)), (6, .int (nI 0))]) hc dX1_through_12 (by decide) [1, 2, 3, 4, 5, 6, 0] rfl ?_
  exact loop 0 0 (Nat.zero_le _) (thI_0 p v)
theorem cM_find (h : Nat → Nat) (dI : ClassId) (L : Nat → Nat) (cnt : Nat) (Y Z : Nat → Nat) (s t k : Int32) (hL : ∀ i, L i ≤ 20) : MI yX1_find cX1_find 5 .int 3 (MT dI) [.ref (h 0), .int s, .int t, .int k] (MW h dI L cnt Y Z) (fun u : MS => MW h dI L u.1 u.2.1 u.2.2) (fun r u => fndA L s t k r u) := by
  refine g_enterI (lv0 := [(0, .ref (h 0)), (1, .int s), (2, .int t), (3, .int k)]) (by decide) (Nat.le_of_ble_eq_true rfl) rfl (fun r u h => rfl) (fun Γ hc hR => ?_)
  refine g_aload_n hc dX1_find_0 rfl 0 rfl ?_
  refine g_iload_n hc dX1_find_1 rfl 1 rfl ?_
  refine g_iload_n hc dX1_find_2 rfl 2 rfl ?_
  refine m_callV (n := 2) (As := [.int s, .int t]) (rest := []) hc (cM_list h dI L cnt Y Z s t hL) (lw_V q214 q216 qs9 q19 q217) (by decide +kernel) (by decide) (by decide) rfl rfl (by simp [Value.category]) dX1_find_3 (fun u3 k3 => ?_)
  have hB := listA_bd hL k3
  obtain ⟨cnt1, Y1, Z1⟩ := u3
  have hB : MB cnt1 Y1 Z1 := hB
  have h65 := hB.1
  refine g_world (ws' := MW h dI L cnt1 Y1 Z1) rfl ?_
  refine g_iconst (v := nI 0) hc dX1_find_6 (by decide) ?_
  refine g_istore (lv' := [(0, .ref (h 0)), (1, .int s), (2, .int t), (3, .int k), (4, .int (nI 0))]) hc dX1_find_7 (by decide) [1, 2, 3, 4, 0] rfl ?_
  have loop : ∀ (w : Nat) (_ : Unit), w ≤ cnt1 → (∀ j, j < w → ¬ nI (rkM Y1 Z1 j cnt1) = k) → G Γ (MW h dI L cnt1 Y1 Z1) 9 [(0, .ref (h 0)), (1, .int s), (2, .int t), (3, .int k), (4, .int (nI w))] [] := by
    refine up_loop cnt1 _ _ ?_
    intro w _ hw hI ih
    refine g_iload hc dX1_find_9 4 rfl ?_
    refine g_aload_n hc dX1_find_11 rfl 0 rfl ?_
    refine m_get hc 1 (by decide) q178 0 rfl rfl dX1_find_12 rfl ?_
    refine n_icmp_ge (tgt := 37) hc dX1_find_15 (by decide) (by omega) (by omega) (fun c15 => ?_) (fun c15 => ?_)
    · skip
      refine g_iconst (v := eN 0) hc dX1_find_37 (by decide) ?_
      refine hR _ (cnt1, Y1, Z1) _ _ ?_ dX1_find_38
      rcases k3 with ⟨hn, e0⟩ | ⟨s1, t1, Cs, e1, e2, hs1, ht1, hst1, hCs⟩
      · exact Or.inl ⟨hn, rfl⟩
      · exact Or.inr ⟨s1, t1, Cs, e1, e2, hs1, ht1, hst1, hCs, Or.inl ⟨rfl, fnd_no hCs (fun j hj => hI j (by dsimp only at hj ⊢; omega))⟩⟩
    · skip
      refine g_aload_n hc dX1_find_18 rfl 0 rfl ?_
      refine g_iload hc dX1_find_19 4 rfl ?_
      refine m_callI (n := 1) (As := [.int (nI w)]) (rest := []) hc (cM_rank h dI L cnt1 Y1 Z1 w hB c15) (lw_V q230 q232 qs12 q19 q233) (by decide +kernel) (by decide) (by decide) rfl rfl (by simp [Value.category]) dX1_find_21 (fun r21 u21 k21 => ?_)
      subst k21
      refine g_iload_n hc dX1_find_24 rfl 3 rfl ?_
      refine g_icmp_ne (tgt := 31) hc dX1_find_25 (by decide) (fun c25 => ?_) (fun c25 => ?_)
      · skip
        refine n_iinc (lv' := [(0, .ref (h 0)), (1, .int s), (2, .int t), (3, .int k), (4, .int (nI (w + 1)))]) (q := 4) hc dX1_find_31 rfl (by decide) [1, 2, 3, 4, 0] rfl ?_
        refine g_goto (tgt := 9) hc dX1_find_34 (by decide) ?_
        exact ih c15 () (lt_s hI c25)
      · skip
        refine g_iload hc dX1_find_28 4 rfl ?_
        refine hR _ (cnt1, Y1, Z1) _ _ ?_ dX1_find_30
        rcases k3 with ⟨hn, e0⟩ | ⟨s1, t1, Cs, e1, e2, hs1, ht1, hst1, hCs⟩
        · exact absurd c15 (by dsimp only at e0; omega)
        · have hwl : w < Cs.length := by rw [← hCs.1.1]; exact c15
          exact Or.inr ⟨s1, t1, Cs, e1, e2, hs1, ht1, hst1, hCs, Or.inr ⟨w, hwl, rfl, fnd_yes hCs hwl c25⟩⟩
  exact loop 0 () (Nat.zero_le _) (fun j hj => absurd hj (by omega))
end
section
set_option maxRecDepth 100000
set_option maxHeartbeats 4000000
theorem cM_ways (h : Nat → Nat) (dI : ClassId) (L : Nat → Nat) (cnt : Nat) (Y Z : Nat → Nat) (s t : Int32) (hL : ∀ i, L i ≤ 20) : MI yX1_ways cX1_ways 3 .int 2 (MT dI) [.ref (h 0), .int s, .int t] (MW h dI L cnt Y Z) (fun u : MS => MW h dI L u.1 u.2.1 u.2.2) (fun r _ => AnsA L s t (fun r => r = nI 0) (fun _ _ Rs r => r = nI Rs.length) r) := by
  refine g_enterI (lv0 := [(0, .ref (h 0)), (1, .int s), (2, .int t)]) (by decide) (Nat.le_of_ble_eq_true rfl) rfl (fun r u h => rfl) (fun Γ hc hR => ?_)
  refine g_aload_n hc dX1_ways_0 rfl 0 rfl ?_
  refine g_iload_n hc dX1_ways_1 rfl 1 rfl ?_
  refine g_iload_n hc dX1_ways_2 rfl 2 rfl ?_
  refine m_callV (n := 2) (As := [.int s, .int t]) (rest := []) hc (cM_list h dI L cnt Y Z s t hL) (lw_V q214 q216 qs9 q19 q217) (by decide +kernel) (by decide) (by decide) rfl rfl (by simp [Value.category]) dX1_ways_3 (fun u3 k3 => ?_)
  have hB := listA_bd hL k3
  obtain ⟨cnt1, Y1, Z1⟩ := u3
  have hB : MB cnt1 Y1 Z1 := hB
  have h65 := hB.1
  refine g_world (ws' := MW h dI L cnt1 Y1 Z1) rfl ?_
  refine g_aload_n hc dX1_ways_6 rfl 0 rfl ?_
  refine m_get hc 1 (by decide) q178 0 rfl rfl dX1_ways_7 rfl ?_
  refine hR _ (cnt1, Y1, Z1) _ _ ?_ dX1_ways_10
  rcases k3 with ⟨hn1, e0⟩ | ⟨s1, t1, Cs, e1, e2, hs1, ht1, hst1, hCs⟩
  · exact Or.inl ⟨hn1, by dsimp only at e0 ⊢; rw [e0]⟩
  · exact Or.inr ⟨s1, t1, e1, e2, hs1, ht1, hst1, fun Rs hR => by dsimp only; rw [CR_len hCs hR]⟩
theorem cM_length (h : Nat → Nat) (dI : ClassId) (L : Nat → Nat) (cnt : Nat) (Y Z : Nat → Nat) (s t k : Int32) (hL : ∀ i, L i ≤ 20) : MI yX1_length cX1_length 5 .int 4 (MT dI) [.ref (h 0), .int s, .int t, .int k] (MW h dI L cnt Y Z) (fun u : MS => MW h dI L u.1 u.2.1 u.2.2) (fun r _ => AnsA L s t (fun r => r = eN 0) (fun _ _ Rs r => r = lenA L Rs k) r) := by
  refine g_enterI (lv0 := [(0, .ref (h 0)), (1, .int s), (2, .int t), (3, .int k)]) (by decide) (Nat.le_of_ble_eq_true rfl) rfl (fun r u h => rfl) (fun Γ hc hR => ?_)
  refine g_aload_n hc dX1_length_0 rfl 0 rfl ?_
  refine g_iload_n hc dX1_length_1 rfl 1 rfl ?_
  refine g_iload_n hc dX1_length_2 rfl 2 rfl ?_
  refine g_iload_n hc dX1_length_3 rfl 3 rfl ?_
  refine m_callI (n := 3) (As := [.int s, .int t, .int k]) (rest := []) hc (cM_find h dI L cnt Y Z s t k hL) (lw_V q226 q228 qs11 q19 q229) (by decide +kernel) (by decide) (by decide) rfl rfl (by simp [Value.category]) dX1_length_4 (fun r4 u4 k4 => ?_)
  obtain ⟨cnt1, Y1, Z1⟩ := u4
  refine g_world (ws' := MW h dI L cnt1 Y1 Z1) rfl ?_
  rcases k4 with ⟨hn1, rfl⟩ | ⟨s1, t1, Cs, rfl, rfl, hs1, ht1, hst1, hCs, hc2⟩
  · skip
    refine g_istore (lv' := [(0, .ref (h 0)), (1, .int s), (2, .int t), (3, .int k), (4, .int (eN 0))]) hc dX1_length_7 (by decide) [1, 2, 3, 4, 0] rfl ?_
    refine g_iload hc dX1_length_9 4 rfl ?_
    refine e_if_ge (tgt := 18) hc dX1_length_11 (by decide) (by decide) (fun y h => by cases h) (fun _ => ?_)
    refine g_iconst (v := eN 0) hc dX1_length_14 (by decide) ?_
    refine g_goto (tgt := 25) hc dX1_length_15 (by decide) ?_
    exact hR _ (cnt1, Y1, Z1) _ _ (Or.inl ⟨hn1, rfl⟩) dX1_length_25
  · dsimp only at hCs
    have hB := MFin_bd hL hCs
    have h65 := hB.1
    rcases hc2 with ⟨rfl, hk1⟩ | ⟨w, hw, rfl, hk1⟩
    · skip
      refine g_istore (lv' := [(0, .ref (h 0)), (1, .int (nI s1)), (2, .int (nI t1)), (3, .int k), (4, .int (eN 0))]) hc dX1_length_7 (by decide) [1, 2, 3, 4, 0] rfl ?_
      refine g_iload hc dX1_length_9 4 rfl ?_
      refine e_if_ge (tgt := 18) hc dX1_length_11 (by decide) (by decide) (fun y h => by cases h) (fun _ => ?_)
      refine g_iconst (v := eN 0) hc dX1_length_14 (by decide) ?_
      refine g_goto (tgt := 25) hc dX1_length_15 (by decide) ?_
      exact hR _ (cnt1, Y1, Z1) _ _ (Or.inr ⟨s1, t1, rfl, rfl, hs1, ht1, hst1, fun Rs hRs => by dsimp only; rw [lenA, hk1 Rs hRs]⟩) dX1_length_25
    · have hwc : w < cnt1 := by rw [hCs.1.1]; exact hw
      obtain ⟨hYw, hZw⟩ := hB.2 w hwc
      have hD := MFin_wayD hCs hw
      have h6 := hD.2.2.2
      obtain ⟨_, g1, g2⟩ := hCs.1.2.2 w hw
      refine g_istore (lv' := [(0, .ref (h 0)), (1, .int (nI s1)), (2, .int (nI t1)), (3, .int k), (4, .int (nI w))]) hc dX1_length_7 (by decide) [1, 2, 3, 4, 0] rfl ?_
      refine g_iload hc dX1_length_9 4 rfl ?_
      refine n_if_ge (tgt := 18) hc dX1_length_11 (by decide) (by omega) ?_
      refine g_aload_n hc dX1_length_18 rfl 0 rfl ?_
      refine m_get hc 3 (by decide) q180 0 rfl rfl dX1_length_19 rfl ?_
      refine g_iload hc dX1_length_22 4 rfl ?_
      refine n_iald hc 3 0 rfl rfl (by omega) (by decide) dX1_length_24 ?_
      exact hR _ (cnt1, Y1, Z1) _ _ (Or.inr ⟨s1, t1, rfl, rfl, hs1, ht1, hst1, fun Rs hRs => by dsimp only; rw [lenA, hk1 Rs hRs, g1]⟩) dX1_length_25
theorem cM_size (h : Nat → Nat) (dI : ClassId) (L : Nat → Nat) (cnt : Nat) (Y Z : Nat → Nat) (s t k : Int32) (hL : ∀ i, L i ≤ 20) : MI yX1_size cX1_size 5 .int 4 (MT dI) [.ref (h 0), .int s, .int t, .int k] (MW h dI L cnt Y Z) (fun u : MS => MW h dI L u.1 u.2.1 u.2.2) (fun r _ => AnsA L s t (fun r => r = eN 0) (fun _ _ Rs r => r = sizA Rs k) r) := by
  refine g_enterI (lv0 := [(0, .ref (h 0)), (1, .int s), (2, .int t), (3, .int k)]) (by decide) (Nat.le_of_ble_eq_true rfl) rfl (fun r u h => rfl) (fun Γ hc hR => ?_)
  refine g_aload_n hc dX1_size_0 rfl 0 rfl ?_
  refine g_iload_n hc dX1_size_1 rfl 1 rfl ?_
  refine g_iload_n hc dX1_size_2 rfl 2 rfl ?_
  refine g_iload_n hc dX1_size_3 rfl 3 rfl ?_
  refine m_callI (n := 3) (As := [.int s, .int t, .int k]) (rest := []) hc (cM_find h dI L cnt Y Z s t k hL) (lw_V q226 q228 qs11 q19 q229) (by decide +kernel) (by decide) (by decide) rfl rfl (by simp [Value.category]) dX1_size_4 (fun r4 u4 k4 => ?_)
  obtain ⟨cnt1, Y1, Z1⟩ := u4
  refine g_world (ws' := MW h dI L cnt1 Y1 Z1) rfl ?_
  rcases k4 with ⟨hn1, rfl⟩ | ⟨s1, t1, Cs, rfl, rfl, hs1, ht1, hst1, hCs, hc2⟩
  · skip
    refine g_istore (lv' := [(0, .ref (h 0)), (1, .int s), (2, .int t), (3, .int k), (4, .int (eN 0))]) hc dX1_size_7 (by decide) [1, 2, 3, 4, 0] rfl ?_
    refine g_iload hc dX1_size_9 4 rfl ?_
    refine e_if_ge (tgt := 18) hc dX1_size_11 (by decide) (by decide) (fun y h => by cases h) (fun _ => ?_)
    refine g_iconst (v := eN 0) hc dX1_size_14 (by decide) ?_
    refine g_goto (tgt := 25) hc dX1_size_15 (by decide) ?_
    exact hR _ (cnt1, Y1, Z1) _ _ (Or.inl ⟨hn1, rfl⟩) dX1_size_25
  · dsimp only at hCs
    have hB := MFin_bd hL hCs
    have h65 := hB.1
    rcases hc2 with ⟨rfl, hk1⟩ | ⟨w, hw, rfl, hk1⟩
    · skip
      refine g_istore (lv' := [(0, .ref (h 0)), (1, .int (nI s1)), (2, .int (nI t1)), (3, .int k), (4, .int (eN 0))]) hc dX1_size_7 (by decide) [1, 2, 3, 4, 0] rfl ?_
      refine g_iload hc dX1_size_9 4 rfl ?_
      refine e_if_ge (tgt := 18) hc dX1_size_11 (by decide) (by decide) (fun y h => by cases h) (fun _ => ?_)
      refine g_iconst (v := eN 0) hc dX1_size_14 (by decide) ?_
      refine g_goto (tgt := 25) hc dX1_size_15 (by decide) ?_
      exact hR _ (cnt1, Y1, Z1) _ _ (Or.inr ⟨s1, t1, rfl, rfl, hs1, ht1, hst1, fun Rs hRs => by dsimp only; rw [sizA, hk1 Rs hRs]⟩) dX1_size_25
    · have hwc : w < cnt1 := by rw [hCs.1.1]; exact hw
      obtain ⟨hYw, hZw⟩ := hB.2 w hwc
      have hD := MFin_wayD hCs hw
      have h6 := hD.2.2.2
      obtain ⟨_, g1, g2⟩ := hCs.1.2.2 w hw
      refine g_istore (lv' := [(0, .ref (h 0)), (1, .int (nI s1)), (2, .int (nI t1)), (3, .int k), (4, .int (nI w))]) hc dX1_size_7 (by decide) [1, 2, 3, 4, 0] rfl ?_
      refine g_iload hc dX1_size_9 4 rfl ?_
      refine n_if_ge (tgt := 18) hc dX1_size_11 (by decide) (by omega) ?_
      refine g_aload_n hc dX1_size_18 rfl 0 rfl ?_
      refine g_iload hc dX1_size_19 4 rfl ?_
      refine g_iload_n hc dX1_size_21 rfl 2 rfl ?_
      refine m_callI (n := 2) (As := [.int (nI w), .int (nI t1)]) (rest := []) hc (cM_sizeOf h dI L cnt1 Y1 Z1 w t1 Cs[w] (by omega) hYw ht1 hD) (lw_V q246 q248 qs15 q19 q249) (by decide +kernel) (by decide) (by decide) rfl rfl (by simp [Value.category]) dX1_size_22 (fun r22 u22 k22 => ?_)
      subst k22
      exact hR _ (cnt1, Y1, Z1) _ _ (Or.inr ⟨s1, t1, rfl, rfl, hs1, ht1, hst1, fun Rs hRs => by dsimp only; rw [sizA, hk1 Rs hRs]⟩) dX1_size_25
theorem cM_place (h : Nat → Nat) (dI : ClassId) (L : Nat → Nat) (cnt : Nat) (Y Z : Nat → Nat) (s t k i : Int32) (hL : ∀ i, L i ≤ 20) : MI yX1_place cX1_place 6 .int 4 (MT dI) [.ref (h 0), .int s, .int t, .int k, .int i] (MW h dI L cnt Y Z) (fun u : MS => MW h dI L u.1 u.2.1 u.2.2) (fun r _ => AnsA L s t (fun r => r = eN 0) (fun _ _ Rs r => r = plcA Rs k i) r) := by
  refine g_enterI (lv0 := [(0, .ref (h 0)), (1, .int s), (2, .int t), (3, .int k), (4, .int i)]) (by decide) (Nat.le_of_ble_eq_true rfl) rfl (fun r u h => rfl) (fun Γ hc hR => ?_)
  refine g_aload_n hc dX1_place_0 rfl 0 rfl ?_
  refine g_iload_n hc dX1_place_1 rfl 1 rfl ?_
  refine g_iload_n hc dX1_place_2 rfl 2 rfl ?_
  refine g_iload_n hc dX1_place_3 rfl 3 rfl ?_
  refine m_callI (n := 3) (As := [.int s, .int t, .int k]) (rest := []) hc (cM_find h dI L cnt Y Z s t k hL) (lw_V q226 q228 qs11 q19 q229) (by decide +kernel) (by decide) (by decide) rfl rfl (by simp [Value.category]) dX1_place_4 (fun r4 u4 k4 => ?_)
  obtain ⟨cnt1, Y1, Z1⟩ := u4
  refine g_world (ws' := MW h dI L cnt1 Y1 Z1) rfl ?_
  rcases k4 with ⟨hn1, rfl⟩ | ⟨s1, t1, Cs, rfl, rfl, hs1, ht1, hst1, hCs, hc2⟩
  · skip
    refine g_istore (lv' := [(0, .ref (h 0)), (1, .int s), (2, .int t), (3, .int k), (4, .int i), (5, .int (eN 0))]) hc dX1_place_7 (by decide) [1, 2, 3, 4, 5, 0] rfl ?_
    refine g_iload hc dX1_place_9 5 rfl ?_
    refine e_if_lt (tgt := 31) hc dX1_place_11 (by decide) (by decide) (fun _ => ?_) (fun y h => by cases h)
    refine g_iconst (v := eN 0) hc dX1_place_31 (by decide) ?_
    refine g_goto (tgt := 43) hc dX1_place_32 (by decide) ?_
    exact hR _ (cnt1, Y1, Z1) _ _ (Or.inl ⟨hn1, rfl⟩) dX1_place_43
  · dsimp only at hCs
    have hB := MFin_bd hL hCs
    have h65 := hB.1
    rcases hc2 with ⟨rfl, hk1⟩ | ⟨w, hw, rfl, hk1⟩
    · skip
      refine g_istore (lv' := [(0, .ref (h 0)), (1, .int (nI s1)), (2, .int (nI t1)), (3, .int k), (4, .int i), (5, .int (eN 0))]) hc dX1_place_7 (by decide) [1, 2, 3, 4, 5, 0] rfl ?_
      refine g_iload hc dX1_place_9 5 rfl ?_
      refine e_if_lt (tgt := 31) hc dX1_place_11 (by decide) (by decide) (fun _ => ?_) (fun y h => by cases h)
      refine g_iconst (v := eN 0) hc dX1_place_31 (by decide) ?_
      refine g_goto (tgt := 43) hc dX1_place_32 (by decide) ?_
      exact hR _ (cnt1, Y1, Z1) _ _ (Or.inr ⟨s1, t1, rfl, rfl, hs1, ht1, hst1, fun Rs hRs => by dsimp only; rw [plcA, hk1 Rs hRs]⟩) dX1_place_43
    · have hwc : w < cnt1 := by rw [hCs.1.1]; exact hw
      obtain ⟨hYw, hZw⟩ := hB.2 w hwc
      have hD := MFin_wayD hCs hw
      have h6 := hD.2.2.2
      obtain ⟨_, g1, g2⟩ := hCs.1.2.2 w hw
      refine g_istore (lv' := [(0, .ref (h 0)), (1, .int (nI s1)), (2, .int (nI t1)), (3, .int k), (4, .int i), (5, .int (nI w))]) hc dX1_place_7 (by decide) [1, 2, 3, 4, 5, 0] rfl ?_
      refine g_iload hc dX1_place_9 5 rfl ?_
      refine n_if_lt (tgt := 31) hc dX1_place_11 (by decide) (by omega) ?_
      refine g_iload hc dX1_place_14 4 rfl ?_
      refine g_if_lt (tgt := 31) hc dX1_place_16 (by decide) (fun c16 => ?_) (fun c16 => ?_)
      · skip
        refine g_iconst (v := eN 0) hc dX1_place_31 (by decide) ?_
        refine g_goto (tgt := 43) hc dX1_place_32 (by decide) ?_
        exact hR _ (cnt1, Y1, Z1) _ _ (Or.inr ⟨s1, t1, rfl, rfl, hs1, ht1, hst1, fun Rs hRs => by dsimp only; rw [plcA, hk1 Rs hRs]; dsimp only; rw [plc_out rfl h6 (Or.inl c16)]⟩) dX1_place_43
      · skip
        refine g_iload hc dX1_place_19 4 rfl ?_
        refine g_aload_n hc dX1_place_21 rfl 0 rfl ?_
        refine g_iload hc dX1_place_22 5 rfl ?_
        refine g_iload_n hc dX1_place_24 rfl 2 rfl ?_
        refine m_callI (n := 2) (As := [.int (nI w), .int (nI t1)]) (rest := [.int i]) hc (cM_sizeOf h dI L cnt1 Y1 Z1 w t1 Cs[w] (by omega) hYw ht1 hD) (lw_V q246 q248 qs15 q19 q249) (by decide +kernel) (by decide) (by decide) rfl rfl (by simp [Value.category]) dX1_place_25 (fun r25 u25 k25 => ?_)
        subst k25
        refine g_icmp_lt (tgt := 35) hc dX1_place_28 (by decide) (fun c28 => ?_) (fun c28 => ?_)
        · skip
          obtain ⟨m, hm, rfl⟩ := ix_lt c16 c28 (by omega)
          refine g_aload_n hc dX1_place_35 rfl 0 rfl ?_
          refine g_iload hc dX1_place_36 5 rfl ?_
          refine g_iload hc dX1_place_38 4 rfl ?_
          refine m_callI (n := 2) (As := [.int (nI w), .int (nI m)]) (rest := []) hc (cM_digit h dI L cnt1 Y1 Z1 w m (by omega) (by omega) hYw) (lw_V q238 q240 qs14 q19 q241) (by decide +kernel) (by decide) (by decide) rfl rfl (by simp [Value.category]) dX1_place_40 (fun r40 u40 k40 => ?_)
          subst k40
          exact hR _ (cnt1, Y1, Z1) _ _ (Or.inr ⟨s1, t1, rfl, rfl, hs1, ht1, hst1, fun Rs hRs => by dsimp only; rw [plcA, hk1 Rs hRs]; dsimp only; rw [kth_n _ (by omega), List.getElem?_eq_getElem hm]; dsimp only; rw [g2 m hm]⟩) dX1_place_43
        · skip
          refine g_iconst (v := eN 0) hc dX1_place_31 (by decide) ?_
          refine g_goto (tgt := 43) hc dX1_place_32 (by decide) ?_
          exact hR _ (cnt1, Y1, Z1) _ _ (Or.inr ⟨s1, t1, rfl, rfl, hs1, ht1, hst1, fun Rs hRs => by dsimp only; rw [plcA, hk1 Rs hRs]; dsimp only; rw [plc_out rfl h6 (Or.inr (nlt_le c28))]⟩) dX1_place_43
theorem cM_within (h : Nat → Nat) (dI : ClassId) (L : Nat → Nat) (cnt : Nat) (Y Z : Nat → Nat) (s t n : Int32) (hL : ∀ i, L i ≤ 20) : MI yX1_within cX1_within 6 .int 2 (MT dI) [.ref (h 0), .int s, .int t, .int n] (MW h dI L cnt Y Z) (fun u : MS => MW h dI L u.1 u.2.1 u.2.2) (fun r _ => AnsA L s t (fun r => r = nI 0) (fun _ _ Rs r => r = witA L Rs n) r) := by
  refine g_enterI (lv0 := [(0, .ref (h 0)), (1, .int s), (2, .int t), (3, .int n)]) (by decide) (Nat.le_of_ble_eq_true rfl) rfl (fun r u h => rfl) (fun Γ hc hR => ?_)
  refine g_aload_n hc dX1_within_0 rfl 0 rfl ?_
  refine g_iload_n hc dX1_within_1 rfl 1 rfl ?_
  refine g_iload_n hc dX1_within_2 rfl 2 rfl ?_
  refine m_callV (n := 2) (As := [.int s, .int t]) (rest := []) hc (cM_list h dI L cnt Y Z s t hL) (lw_V q214 q216 qs9 q19 q217) (by decide +kernel) (by decide) (by decide) rfl rfl (by simp [Value.category]) dX1_within_3 (fun u3 k3 => ?_)
  have hB := listA_bd hL k3
  obtain ⟨cnt1, Y1, Z1⟩ := u3
  have hB : MB cnt1 Y1 Z1 := hB
  have h65 := hB.1
  refine g_world (ws' := MW h dI L cnt1 Y1 Z1) rfl ?_
  refine g_iconst (v := nI 0) hc dX1_within_6 (by decide) ?_
  refine g_istore (lv' := [(0, .ref (h 0)), (1, .int s), (2, .int t), (3, .int n), (4, .int (nI 0))]) hc dX1_within_7 (by decide) [1, 2, 3, 4, 0] rfl ?_
  refine g_iconst (v := nI 0) hc dX1_within_9 (by decide) ?_
  refine g_istore (lv' := [(0, .ref (h 0)), (1, .int s), (2, .int t), (3, .int n), (4, .int (nI 0)), (5, .int (nI 0))]) hc dX1_within_10 (by decide) [1, 2, 3, 4, 5, 0] rfl ?_
  have loop : ∀ (w acc : Nat), w ≤ cnt1 → acc = wcM Z1 n w → G Γ (MW h dI L cnt1 Y1 Z1) 12 [(0, .ref (h 0)), (1, .int s), (2, .int t), (3, .int n), (4, .int (nI acc)), (5, .int (nI w))] [] := by
    refine up_loop cnt1 _ _ ?_
    intro w acc hw e ih
    have hle := wcM_le Z1 n w
    have j41 : ∀ z : Nat, z = wcM Z1 n (w + 1) → w < cnt1 → G Γ (MW h dI L cnt1 Y1 Z1) 41 [(0, .ref (h 0)), (1, .int s), (2, .int t), (3, .int n), (4, .int (nI acc)), (5, .int (nI w))] [.int (nI z)] := by
      intro z hz hw2
      refine g_istore (lv' := [(0, .ref (h 0)), (1, .int s), (2, .int t), (3, .int n), (4, .int (nI z)), (5, .int (nI w))]) hc dX1_within_41 (by decide) [1, 2, 3, 4, 0, 5] rfl ?_
      refine n_iinc (lv' := [(0, .ref (h 0)), (1, .int s), (2, .int t), (3, .int n), (4, .int (nI z)), (5, .int (nI (w + 1)))]) (q := 5) hc dX1_within_43 rfl (by decide) [1, 2, 3, 4, 5, 0] rfl ?_
      refine g_goto (tgt := 12) hc dX1_within_46 (by decide) ?_
      exact ih hw2 _ hz
    refine g_iload hc dX1_within_12 5 rfl ?_
    refine g_aload_n hc dX1_within_14 rfl 0 rfl ?_
    refine m_get hc 1 (by decide) q178 0 rfl rfl dX1_within_15 rfl ?_
    refine n_icmp_ge (tgt := 49) hc dX1_within_18 (by decide) (by omega) (by omega) (fun c18 => ?_) (fun c18 => ?_)
    · skip
      refine g_iload hc dX1_within_49 4 rfl ?_
      have hwe : w = cnt1 := by omega
      refine hR _ (cnt1, Y1, Z1) _ _ ?_ dX1_within_51
      rcases k3 with ⟨hn1, e0⟩ | ⟨s1, t1, Cs, e1, e2, hs1, ht1, hst1, hCs⟩
      · exact Or.inl ⟨hn1, by dsimp only at e0 ⊢; rw [e, hwe, e0]; rfl⟩
      · exact Or.inr ⟨s1, t1, e1, e2, hs1, ht1, hst1, fun Rs hR => by dsimp only; rw [e, hwe]; exact wit_M hL hCs n Rs hR⟩
    · skip
      refine g_aload_n hc dX1_within_21 rfl 0 rfl ?_
      refine m_get hc 3 (by decide) q180 0 rfl rfl dX1_within_22 rfl ?_
      refine g_iload hc dX1_within_25 5 rfl ?_
      refine n_iald hc 3 0 rfl rfl (by omega) (by decide) dX1_within_27 ?_
      refine g_iload_n hc dX1_within_28 rfl 3 rfl ?_
      refine g_icmp_gt (tgt := 39) hc dX1_within_29 (by decide) (fun c29 => ?_) (fun c29 => ?_)
      · skip
        refine g_iload hc dX1_within_39 4 rfl ?_
        exact j41 _ (by rw [wcM, if_neg (fa_of_lt c29).2.1, e]; rfl) c18
      · skip
        refine g_iload hc dX1_within_32 4 rfl ?_
        refine g_iconst (v := nI 1) hc dX1_within_34 (by decide) ?_
        refine n_iadd hc dX1_within_35 ?_
        refine g_goto (tgt := 41) hc dX1_within_36 (by decide) ?_
        exact j41 _ (by rw [wcM, if_pos (fa_of_nlt c29), e]) c18
  exact loop 0 0 (Nat.zero_le _) rfl
theorem cM_shortest (h : Nat → Nat) (dI : ClassId) (L : Nat → Nat) (cnt : Nat) (Y Z : Nat → Nat) (s t : Int32) (hL : ∀ i, L i ≤ 20) : MI yX1_shortest cX1_shortest 4 .int 5 (MT dI) [.ref (h 0), .int s, .int t] (MW h dI L cnt Y Z) (fun u : MS => MW h dI L u.1 u.2.1 u.2.2) (fun r _ => AnsA L s t (fun r => r = nI 0) (fun _ _ Rs r => r = shoA L Rs) r) := by
  refine g_enterI (lv0 := [(0, .ref (h 0)), (1, .int s), (2, .int t)]) (by decide) (Nat.le_of_ble_eq_true rfl) rfl (fun r u h => rfl) (fun Γ hc hR => ?_)
  refine g_aload_n hc dX1_shortest_0 rfl 0 rfl ?_
  refine g_iload_n hc dX1_shortest_1 rfl 1 rfl ?_
  refine g_iload_n hc dX1_shortest_2 rfl 2 rfl ?_
  refine g_iconst (v := nI 0) hc dX1_shortest_3 (by decide) ?_
  refine m_callI (n := 3) (As := [.int s, .int t, .int (nI 0)]) (rest := []) hc (cM_length h dI L cnt Y Z s t (nI 0) hL) (lw_V q262 q223 q224 q19 q225) (by decide +kernel) (by decide) (by decide) rfl rfl (by simp [Value.category]) dX1_shortest_4 (fun r4 u4 k4 => ?_)
  obtain ⟨cnt1, Y1, Z1⟩ := u4
  refine g_world (ws' := MW h dI L cnt1 Y1 Z1) rfl ?_
  rcases k4 with ⟨hn1, rfl⟩ | ⟨s1, t1, e1, e2, hs1, ht1, hst1, hq⟩
  · skip
    refine g_istore_n (lv' := [(0, .ref (h 0)), (1, .int s), (2, .int t), (3, .int (eN 0))]) hc dX1_shortest_7 rfl (by decide) [1, 2, 3, 0] rfl ?_
    refine g_iload_n hc dX1_shortest_8 rfl 3 rfl ?_
    refine e_if_ge (tgt := 16) hc dX1_shortest_9 (by decide) (by decide) (fun y h => by cases h) (fun _ => ?_)
    refine g_iconst (v := nI 0) hc dX1_shortest_12 (by decide) ?_
    refine g_goto (tgt := 23) hc dX1_shortest_13 (by decide) ?_
    exact hR _ (cnt1, Y1, Z1) _ _ (Or.inl ⟨hn1, rfl⟩) dX1_shortest_23
  · obtain ⟨Rs, hRs⟩ := RSp_ex (L) hs1 ht1 hst1
    have e3 := hq Rs hRs
    dsimp only at e3
    rw [lenA, kth_n Rs (by decide)] at e3
    cases h0 : Rs[0]? with
    | none =>
      rw [h0] at e3
      dsimp only at e3
      subst e3
      refine g_istore_n (lv' := [(0, .ref (h 0)), (1, .int s), (2, .int t), (3, .int (eN 0))]) hc dX1_shortest_7 rfl (by decide) [1, 2, 3, 0] rfl ?_
      refine g_iload_n hc dX1_shortest_8 rfl 3 rfl ?_
      refine e_if_ge (tgt := 16) hc dX1_shortest_9 (by decide) (by decide) (fun y h => by cases h) (fun _ => ?_)
      refine g_iconst (v := nI 0) hc dX1_shortest_12 (by decide) ?_
      refine g_goto (tgt := 23) hc dX1_shortest_13 (by decide) ?_
      exact hR _ (cnt1, Y1, Z1) _ _ (Or.inr ⟨s1, t1, e1, e2, hs1, ht1, hst1, fun Rs2 hRs2 => by dsimp only; rw [shoA, RSp_uniq hRs2 hRs, h0]⟩) dX1_shortest_23
    | some p0 =>
      rw [h0] at e3
      dsimp only at e3
      subst e3
      have hl0 := way_120 (hL) ((hRs.1 p0).mp (List.mem_of_getElem? h0))
      refine g_istore_n (lv' := [(0, .ref (h 0)), (1, .int s), (2, .int t), (3, .int (nI (lenP L p0)))]) hc dX1_shortest_7 rfl (by decide) [1, 2, 3, 0] rfl ?_
      refine g_iload_n hc dX1_shortest_8 rfl 3 rfl ?_
      refine n_if_ge (tgt := 16) hc dX1_shortest_9 (by decide) (by omega) ?_
      refine g_aload_n hc dX1_shortest_16 rfl 0 rfl ?_
      refine g_iload_n hc dX1_shortest_17 rfl 1 rfl ?_
      refine g_iload_n hc dX1_shortest_18 rfl 2 rfl ?_
      refine g_iload_n hc dX1_shortest_19 rfl 3 rfl ?_
      refine m_callI (n := 3) (As := [.int s, .int t, .int (nI (lenP L p0))]) (rest := []) hc (cM_within h dI L cnt1 Y1 Z1 s t (nI (lenP L p0)) hL) (lw_V q263 q255 q256 q19 q257) (by decide +kernel) (by decide) (by decide) rfl rfl (by simp [Value.category]) dX1_shortest_20 (fun r20 u20 k20 => ?_)
      refine hR _ u20 _ _ (Or.inr ⟨s1, t1, e1, e2, hs1, ht1, hst1, fun Rs2 hRs2 => ?_⟩) dX1_shortest_23
      rcases k20 with ⟨hn2, _⟩ | ⟨y1, y2, f1, f2, hy1, hy2, hy3, f3⟩
      · exact absurd ⟨s1, t1, e1, e2, hs1, ht1, hst1⟩ hn2
      · have q1 := (nI_eq (show s1 < 2 ^ 31 by omega) (show y1 < 2 ^ 31 by omega)).mp (e1.symm.trans f1)
        have q2 := (nI_eq (show t1 < 2 ^ 31 by omega) (show y2 < 2 ^ 31 by omega)).mp (e2.symm.trans f2)
        subst q1; subst q2
        have f4 := f3 Rs2 hRs2
        dsimp only at f4 ⊢
        rw [f4, shoA, RSp_uniq hRs2 hRs, h0]
end
section
set_option maxRecDepth 100000
set_option maxHeartbeats 4000000
theorem avI_bd {Cs : List (List Nat)} {Y Z : Nat → Nat} {cnt v w b : Nat} (h : avI Cs (fun w => rkM Y Z w cnt) v w b) : b ≤ cnt + 1 := by
  rcases h with ⟨h1, _⟩ | ⟨j, _, _, _, h4, _⟩
  · omega
  · have := rkM_le Y Z j cnt
    dsimp only at h4
    omega
theorem cM_musts (h : Nat → Nat) (dI : ClassId) (L : Nat → Nat) (cnt : Nat) (Y Z : Nat → Nat) (s t : Int32) (hL : ∀ i, L i ≤ 20) : MI yX1_musts cX1_musts 7 .int 3 (MT dI) [.ref (h 0), .int s, .int t] (MW h dI L cnt Y Z) (fun u : MS => MW h dI L u.1 u.2.1 u.2.2) (fun r _ => AnsA L s t (fun r => r = nI 0) musF r) := by
  refine g_enterI (lv0 := [(0, .ref (h 0)), (1, .int s), (2, .int t)]) (by decide) (Nat.le_of_ble_eq_true rfl) rfl (fun r u h => rfl) (fun Γ hc hR => ?_)
  refine g_aload_n hc dX1_musts_0 rfl 0 rfl ?_
  refine g_iload_n hc dX1_musts_1 rfl 1 rfl ?_
  refine g_iload_n hc dX1_musts_2 rfl 2 rfl ?_
  refine m_callV (n := 2) (As := [.int s, .int t]) (rest := []) hc (cM_list h dI L cnt Y Z s t hL) (lw_V q214 q216 qs9 q19 q217) (by decide +kernel) (by decide) (by decide) rfl rfl (by simp [Value.category]) dX1_musts_3 (fun u3 k3 => ?_)
  have hB := listA_bd hL k3
  obtain ⟨cnt1, Y1, Z1⟩ := u3
  have hB : MB cnt1 Y1 Z1 := hB
  have h65 := hB.1
  refine g_world (ws' := MW h dI L cnt1 Y1 Z1) rfl ?_
  refine g_iconst (v := nI 0) hc dX1_musts_6 (by decide) ?_
  refine g_istore_n (lv' := [(0, .ref (h 0)), (1, .int s), (2, .int t), (3, .int (nI 0))]) hc dX1_musts_7 rfl (by decide) [1, 2, 3, 0] rfl ?_
  refine g_iconst (v := nI 0) hc dX1_musts_8 (by decide) ?_
  refine g_istore (lv' := [(0, .ref (h 0)), (1, .int s), (2, .int t), (3, .int (nI 0)), (4, .int (nI 0))]) hc dX1_musts_9 (by decide) [1, 2, 3, 4, 0] rfl ?_
  rcases k3 with ⟨hn1, e0⟩ | ⟨s1, t1, Cs, rfl, rfl, hs1, ht1, hst1, hCs⟩
  · dsimp only at e0
    subst e0
    refine g_iload hc dX1_musts_11 4 rfl ?_
    refine g_bipush (v := nI 6) hc dX1_musts_13 (by decide) ?_
    refine n_icmp_ge (tgt := 108) hc dX1_musts_15 (by decide) (by omega) (by omega) (fun c15 => ?_) (fun c15 => ?_)
    · skip
      refine g_iload_n hc dX1_musts_108 rfl 3 rfl ?_
      exact absurd c15 (by decide)
    · skip
      refine g_aload_n hc dX1_musts_18 rfl 0 rfl ?_
      refine m_get hc 1 (by decide) q178 0 rfl rfl dX1_musts_19 rfl ?_
      refine n_if_le (tgt := 108) hc dX1_musts_22 (by decide) (by decide) (fun _ => ?_) (fun h => absurd h (by decide))
      refine g_iload_n hc dX1_musts_108 rfl 3 rfl ?_
      exact hR _ (0, Y1, Z1) _ _ (Or.inl ⟨hn1, rfl⟩) dX1_musts_109
  · dsimp only at hCs
    have outer : ∀ (v x : Nat), v ≤ 6 → (muV s1 t1 Cs v x ∧ ((v = 0 ∧ x = 0) ∨ 0 < cnt1)) → G Γ (MW h dI L cnt1 Y1 Z1) 11 [(0, .ref (h 0)), (1, .int (nI s1)), (2, .int (nI t1)), (3, .int (nI x)), (4, .int (nI v))] [] := by
      refine up_loop 6 _ _ ?_
      intro v x hv6 hI ih
      obtain ⟨hI, hI2⟩ := hI
      have hx64 := hI.1
      have inner : v < 6 → 0 < cnt1 → ∀ (w a : Nat), w ≤ cnt1 → muW s1 t1 Cs v w a → G Γ (MW h dI L cnt1 Y1 Z1) 47 [(0, .ref (h 0)), (1, .int (nI s1)), (2, .int (nI t1)), (3, .int (nI x)), (4, .int (nI v)), (5, .int (nI a)), (6, .int (nI w))] [] := by
        intro hv hc0
        refine up_loop cnt1 _ _ ?_
        intro w a hw hJ ih2
        have ha1 := hJ.1
        have j78 : ∀ z : Nat, muW s1 t1 Cs v (w + 1) z → w < cnt1 → G Γ (MW h dI L cnt1 Y1 Z1) 78 [(0, .ref (h 0)), (1, .int (nI s1)), (2, .int (nI t1)), (3, .int (nI x)), (4, .int (nI v)), (5, .int (nI a)), (6, .int (nI w))] [.int (nI z)] := by
          intro z hz hw2
          refine g_istore (lv' := [(0, .ref (h 0)), (1, .int (nI s1)), (2, .int (nI t1)), (3, .int (nI x)), (4, .int (nI v)), (5, .int (nI z)), (6, .int (nI w))]) hc dX1_musts_78 (by decide) [1, 2, 3, 4, 5, 0, 6] rfl ?_
          refine n_iinc (lv' := [(0, .ref (h 0)), (1, .int (nI s1)), (2, .int (nI t1)), (3, .int (nI x)), (4, .int (nI v)), (5, .int (nI z)), (6, .int (nI (w + 1)))]) (q := 6) hc dX1_musts_80 rfl (by decide) [1, 2, 3, 4, 5, 6, 0] rfl ?_
          refine g_goto (tgt := 47) hc dX1_musts_83 (by decide) ?_
          exact ih2 hw2 _ hz
        refine g_iload hc dX1_musts_47 6 rfl ?_
        refine g_aload_n hc dX1_musts_49 rfl 0 rfl ?_
        refine m_get hc 1 (by decide) q178 0 rfl rfl dX1_musts_50 rfl ?_
        refine n_icmp_ge (tgt := 86) hc dX1_musts_53 (by decide) (by omega) (by omega) (fun c53 => ?_) (fun c53 => ?_)
        · skip
          have hwl : w = Cs.length := by have := hCs.1.1; omega
          have hJe : muW s1 t1 Cs v Cs.length a := by rw [← hwl]; exact hJ
          refine g_iload hc dX1_musts_86 5 rfl ?_
          refine n_if_eq (tgt := 100) hc dX1_musts_88 (by decide) (by omega) (fun c88 => ?_) (fun c88 => ?_)
          · skip
            refine g_iload_n hc dX1_musts_100 rfl 3 rfl ?_
            refine g_istore_n (lv' := [(0, .ref (h 0)), (1, .int (nI s1)), (2, .int (nI t1)), (3, .int (nI x)), (4, .int (nI v)), (5, .int (nI a)), (6, .int (nI w))]) hc dX1_musts_101 rfl (by decide) [1, 2, 3, 0, 4, 5, 6] rfl ?_
            refine n_iinc (lv' := [(0, .ref (h 0)), (1, .int (nI s1)), (2, .int (nI t1)), (3, .int (nI x)), (4, .int (nI (v + 1))), (5, .int (nI a)), (6, .int (nI w))]) (q := 4) hc dX1_musts_102 rfl (by decide) [1, 2, 3, 4, 0, 5, 6] rfl ?_
            refine g_goto (tgt := 11) hc dX1_musts_105 (by decide) ?_
            refine g_lv (lv' := [(0, .ref (h 0)), (1, .int (nI s1)), (2, .int (nI t1)), (3, .int (nI x)), (4, .int (nI (v + 1)))]) [0, 1, 2, 3, 4] rfl ?_
            exact ih hv _ ⟨muV_no hI (fun hh => by have := (muW_e hJe).mpr hh; omega), Or.inr hc0⟩
          · skip
            refine g_iload_n hc dX1_musts_91 rfl 3 rfl ?_
            refine g_iconst (v := nI 1) hc dX1_musts_92 (by decide) ?_
            refine g_iload hc dX1_musts_93 4 rfl ?_
            refine n_ishl hc dX1_musts_95 (by omega) (shl_ok (by omega)) ?_
            refine n_ior hc dX1_musts_96 ?_
            refine g_goto (tgt := 101) hc dX1_musts_97 (by decide) ?_
            refine g_istore_n (lv' := [(0, .ref (h 0)), (1, .int (nI s1)), (2, .int (nI t1)), (3, .int (nI (x ||| (1 * 2 ^ v)))), (4, .int (nI v)), (5, .int (nI a)), (6, .int (nI w))]) hc dX1_musts_101 rfl (by decide) [1, 2, 3, 0, 4, 5, 6] rfl ?_
            refine n_iinc (lv' := [(0, .ref (h 0)), (1, .int (nI s1)), (2, .int (nI t1)), (3, .int (nI (x ||| (1 * 2 ^ v)))), (4, .int (nI (v + 1))), (5, .int (nI a)), (6, .int (nI w))]) (q := 4) hc dX1_musts_102 rfl (by decide) [1, 2, 3, 4, 0, 5, 6] rfl ?_
            refine g_goto (tgt := 11) hc dX1_musts_105 (by decide) ?_
            refine g_lv (lv' := [(0, .ref (h 0)), (1, .int (nI s1)), (2, .int (nI t1)), (3, .int (nI (x ||| (1 * 2 ^ v)))), (4, .int (nI (v + 1)))]) [0, 1, 2, 3, 4] rfl ?_
            exact ih hv _ ⟨muV_yes hv hI ((muW_e hJe).mp (by omega)), Or.inr hc0⟩
        · skip
          refine g_iload hc dX1_musts_56 5 rfl ?_
          refine n_if_eq (tgt := 77) hc dX1_musts_58 (by decide) (by omega) (fun c58 => ?_) (fun c58 => ?_)
          · skip
            refine g_iconst (v := nI 0) hc dX1_musts_77 (by decide) ?_
            exact j78 0 (muW_z hJ c58) c53
          · skip
            have hwl : w < Cs.length := by rw [← hCs.1.1]; exact c53
            obtain ⟨hYw, _⟩ := hB.2 w c53
            refine g_aload_n hc dX1_musts_61 rfl 0 rfl ?_
            refine g_iload hc dX1_musts_62 6 rfl ?_
            refine g_iload hc dX1_musts_64 4 rfl ?_
            refine g_iload_n hc dX1_musts_66 rfl 2 rfl ?_
            refine m_callI (n := 3) (As := [.int (nI w), .int (nI v), .int (nI t1)]) (rest := []) hc (cM_through h dI L cnt1 Y1 Z1 w v t1 Cs[w] (by omega) hYw hv ht1 (MFin_wayD hCs hwl)) (lw_V q268 q270 qs16 q19 q271) (by decide +kernel) (by decide) (by decide) rfl rfl (by simp [Value.category]) dX1_musts_67 (fun r67 u67 k67 => ?_)
            rcases k67 with ⟨rfl, k67⟩ | ⟨rfl, k67⟩
            · skip
              refine n_if_eq (tgt := 77) hc dX1_musts_70 (by decide) (by decide) (fun h => absurd h (by decide)) (fun _ => ?_)
              refine g_iconst (v := nI 1) hc dX1_musts_73 (by decide) ?_
              refine g_goto (tgt := 78) hc dX1_musts_74 (by decide) ?_
              exact j78 1 (muW_yes hJ c58 hwl k67) c53
            · skip
              refine n_if_eq (tgt := 77) hc dX1_musts_70 (by decide) (by decide) (fun _ => ?_) (fun h => absurd h (by decide))
              refine g_iconst (v := nI 0) hc dX1_musts_77 (by decide) ?_
              exact j78 0 (muW_no hJ hwl k67) c53
      refine g_iload hc dX1_musts_11 4 rfl ?_
      refine g_bipush (v := nI 6) hc dX1_musts_13 (by decide) ?_
      refine n_icmp_ge (tgt := 108) hc dX1_musts_15 (by decide) (by omega) (by omega) (fun c15 => ?_) (fun c15 => ?_)
      · skip
        refine g_iload_n hc dX1_musts_108 rfl 3 rfl ?_
        have hv2 : v = 6 := by omega
        subst hv2
        exact hR _ (cnt1, Y1, Z1) _ _ (Or.inr ⟨s1, t1, rfl, rfl, hs1, ht1, hst1, muV_e hCs hI (by omega)⟩) dX1_musts_109
      · skip
        refine g_aload_n hc dX1_musts_18 rfl 0 rfl ?_
        refine m_get hc 1 (by decide) q178 0 rfl rfl dX1_musts_19 rfl ?_
        refine n_if_le (tgt := 108) hc dX1_musts_22 (by decide) (by omega) (fun c22 => ?_) (fun c22 => ?_)
        · skip
          refine g_iload_n hc dX1_musts_108 rfl 3 rfl ?_
          obtain rfl : x = 0 := by omega
          exact hR _ (cnt1, Y1, Z1) _ _ (Or.inr ⟨s1, t1, rfl, rfl, hs1, ht1, hst1, mus_0 hCs c22⟩) dX1_musts_109
        · skip
          refine g_iload hc dX1_musts_25 4 rfl ?_
          refine g_iload_n hc dX1_musts_27 rfl 1 rfl ?_
          refine n_icmp_eq (tgt := 41) hc dX1_musts_28 (by decide) (by omega) (by omega) (fun c28 => ?_) (fun c28 => ?_)
          · skip
            refine g_iconst (v := nI 0) hc dX1_musts_41 (by decide) ?_
            refine g_istore (lv' := [(0, .ref (h 0)), (1, .int (nI s1)), (2, .int (nI t1)), (3, .int (nI x)), (4, .int (nI v)), (5, .int (nI 0))]) hc dX1_musts_42 (by decide) [1, 2, 3, 4, 5, 0] rfl ?_
            refine g_iconst (v := nI 0) hc dX1_musts_44 (by decide) ?_
            refine g_istore (lv' := [(0, .ref (h 0)), (1, .int (nI s1)), (2, .int (nI t1)), (3, .int (nI x)), (4, .int (nI v)), (5, .int (nI 0)), (6, .int (nI 0))]) hc dX1_musts_45 (by decide) [1, 2, 3, 4, 5, 6, 0] rfl ?_
            exact inner c15 c22 0 0 (Nat.zero_le _) (muW_0 Cs (by rw [if_neg (fun hh => hh.1 c28)]))
          · skip
            refine g_iload hc dX1_musts_31 4 rfl ?_
            refine g_iload_n hc dX1_musts_33 rfl 2 rfl ?_
            refine n_icmp_eq (tgt := 41) hc dX1_musts_34 (by decide) (by omega) (by omega) (fun c34 => ?_) (fun c34 => ?_)
            · skip
              refine g_iconst (v := nI 0) hc dX1_musts_41 (by decide) ?_
              refine g_istore (lv' := [(0, .ref (h 0)), (1, .int (nI s1)), (2, .int (nI t1)), (3, .int (nI x)), (4, .int (nI v)), (5, .int (nI 0))]) hc dX1_musts_42 (by decide) [1, 2, 3, 4, 5, 0] rfl ?_
              refine g_iconst (v := nI 0) hc dX1_musts_44 (by decide) ?_
              refine g_istore (lv' := [(0, .ref (h 0)), (1, .int (nI s1)), (2, .int (nI t1)), (3, .int (nI x)), (4, .int (nI v)), (5, .int (nI 0)), (6, .int (nI 0))]) hc dX1_musts_45 (by decide) [1, 2, 3, 4, 5, 6, 0] rfl ?_
              exact inner c15 c22 0 0 (Nat.zero_le _) (muW_0 Cs (by rw [if_neg (fun hh => hh.2 c34)]))
            · skip
              refine g_iconst (v := nI 1) hc dX1_musts_37 (by decide) ?_
              refine g_goto (tgt := 42) hc dX1_musts_38 (by decide) ?_
              refine g_istore (lv' := [(0, .ref (h 0)), (1, .int (nI s1)), (2, .int (nI t1)), (3, .int (nI x)), (4, .int (nI v)), (5, .int (nI 1))]) hc dX1_musts_42 (by decide) [1, 2, 3, 4, 5, 0] rfl ?_
              refine g_iconst (v := nI 0) hc dX1_musts_44 (by decide) ?_
              refine g_istore (lv' := [(0, .ref (h 0)), (1, .int (nI s1)), (2, .int (nI t1)), (3, .int (nI x)), (4, .int (nI v)), (5, .int (nI 1)), (6, .int (nI 0))]) hc dX1_musts_45 (by decide) [1, 2, 3, 4, 5, 6, 0] rfl ?_
              exact inner c15 c22 0 1 (Nat.zero_le _) (muW_0 Cs (by rw [if_pos ⟨c28, c34⟩]))
    exact outer 0 0 (by decide) ⟨muV_0 s1 t1 Cs, Or.inl ⟨rfl, rfl⟩⟩
theorem cM_firstAvoiding (h : Nat → Nat) (dI : ClassId) (L : Nat → Nat) (cnt : Nat) (Y Z : Nat → Nat) (s t v : Int32) (hL : ∀ i, L i ≤ 20) : MI yX1_firstAvoiding cX1_firstAvoiding 7 .int 3 (MT dI) [.ref (h 0), .int s, .int t, .int v] (MW h dI L cnt Y Z) (fun u : MS => MW h dI L u.1 u.2.1 u.2.2) (fun r _ => avoM L s t v r) := by
  refine g_enterI (lv0 := [(0, .ref (h 0)), (1, .int s), (2, .int t), (3, .int v)]) (by decide) (Nat.le_of_ble_eq_true rfl) rfl (fun r u h => rfl) (fun Γ hc hR => ?_)
  refine g_iload_n hc dX1_firstAvoiding_0 rfl 3 rfl ?_
  refine g_iload_n hc dX1_firstAvoiding_1 rfl 1 rfl ?_
  refine g_icmp_eq (tgt := 19) hc dX1_firstAvoiding_2 (by decide) (fun c2 => ?_) (fun c2 => ?_)
  · skip
    refine g_iconst (v := eN 0) hc dX1_firstAvoiding_19 (by decide) ?_
    exact hR _ (cnt, Y, Z) _ _ (Or.inl ⟨Or.inr (Or.inl c2), rfl⟩) dX1_firstAvoiding_20
  · skip
    refine g_iload_n hc dX1_firstAvoiding_5 rfl 3 rfl ?_
    refine g_iload_n hc dX1_firstAvoiding_6 rfl 2 rfl ?_
    refine g_icmp_eq (tgt := 19) hc dX1_firstAvoiding_7 (by decide) (fun c7 => ?_) (fun c7 => ?_)
    · skip
      refine g_iconst (v := eN 0) hc dX1_firstAvoiding_19 (by decide) ?_
      exact hR _ (cnt, Y, Z) _ _ (Or.inl ⟨Or.inr (Or.inr c7), rfl⟩) dX1_firstAvoiding_20
    · skip
      refine g_iload_n hc dX1_firstAvoiding_10 rfl 3 rfl ?_
      refine g_if_lt (tgt := 19) hc dX1_firstAvoiding_11 (by decide) (fun c11 => ?_) (fun c11 => ?_)
      · skip
        refine g_iconst (v := eN 0) hc dX1_firstAvoiding_19 (by decide) ?_
        exact hR _ (cnt, Y, Z) _ _ (Or.inl ⟨Or.inl (not_isPl1 c11), rfl⟩) dX1_firstAvoiding_20
      · skip
        refine g_iload_n hc dX1_firstAvoiding_14 rfl 3 rfl ?_
        refine g_iconst (v := nI 5) hc dX1_firstAvoiding_15 (by decide) ?_
        refine g_icmp_le (tgt := 21) hc dX1_firstAvoiding_16 (by decide) (fun c16 => ?_) (fun c16 => ?_)
        · skip
          obtain ⟨v1, rfl, hv1⟩ := isPl_of5 c11 (fun hh => (fa_of_lt hh).2.1 c16)
          refine g_aload_n hc dX1_firstAvoiding_21 rfl 0 rfl ?_
          refine g_iload_n hc dX1_firstAvoiding_22 rfl 1 rfl ?_
          refine g_iload_n hc dX1_firstAvoiding_23 rfl 2 rfl ?_
          refine m_callV (n := 2) (As := [.int s, .int t]) (rest := []) hc (cM_list h dI L cnt Y Z s t hL) (lw_V q214 q216 qs9 q19 q217) (by decide +kernel) (by decide) (by decide) rfl rfl (by simp [Value.category]) dX1_firstAvoiding_24 (fun u24 k24 => ?_)
          have hB := listA_bd hL k24
          obtain ⟨cnt1, Y1, Z1⟩ := u24
          have hB : MB cnt1 Y1 Z1 := hB
          have h65 := hB.1
          refine g_world (ws' := MW h dI L cnt1 Y1 Z1) rfl ?_
          refine g_iconst (v := eN 0) hc dX1_firstAvoiding_27 (by decide) ?_
          refine g_istore (lv' := [(0, .ref (h 0)), (1, .int s), (2, .int t), (3, .int (nI v1)), (4, .int (eN 0))]) hc dX1_firstAvoiding_28 (by decide) [1, 2, 3, 4, 0] rfl ?_
          refine g_iconst (v := nI 0) hc dX1_firstAvoiding_30 (by decide) ?_
          refine g_istore (lv' := [(0, .ref (h 0)), (1, .int s), (2, .int t), (3, .int (nI v1)), (4, .int (eN 0)), (5, .int (nI 0))]) hc dX1_firstAvoiding_31 (by decide) [1, 2, 3, 4, 5, 0] rfl ?_
          rcases k24 with ⟨hn1, e0⟩ | ⟨s1, t1, Cs, rfl, rfl, hs1, ht1, hst1, hCs⟩
          · dsimp only at e0
            subst e0
            refine g_iload hc dX1_firstAvoiding_33 5 rfl ?_
            refine g_aload_n hc dX1_firstAvoiding_35 rfl 0 rfl ?_
            refine m_get hc 1 (by decide) q178 0 rfl rfl dX1_firstAvoiding_36 rfl ?_
            refine n_icmp_ge (tgt := 88) hc dX1_firstAvoiding_39 (by decide) (by omega) (by omega) (fun c39 => ?_) (fun c39 => ?_)
            · skip
              refine g_iload hc dX1_firstAvoiding_88 4 rfl ?_
              exact hR _ (0, Y1, Z1) _ _ (Or.inr ⟨v1, rfl, hv1, c2, c7, Or.inl ⟨hn1, rfl⟩⟩) dX1_firstAvoiding_90
            · skip
              exact absurd c39 (by decide)
          · dsimp only at hCs
            have loop : ∀ (w b : Nat), w ≤ cnt1 → avI Cs (fun w => rkM Y1 Z1 w cnt1) v1 w b → G Γ (MW h dI L cnt1 Y1 Z1) 33 [(0, .ref (h 0)), (1, .int (nI s1)), (2, .int (nI t1)), (3, .int (nI v1)), (4, .int (eN b)), (5, .int (nI w))] [] := by
              refine up_loop cnt1 _ _ ?_
              intro w b hw hI ih
              have hb66 := avI_bd hI
              have hrk := rkM_le Y1 Z1 w cnt1
              have j80 : ∀ z : Nat, avI Cs (fun w => rkM Y1 Z1 w cnt1) v1 (w + 1) z → w < cnt1 → G Γ (MW h dI L cnt1 Y1 Z1) 80 [(0, .ref (h 0)), (1, .int (nI s1)), (2, .int (nI t1)), (3, .int (nI v1)), (5, .int (nI w))] [.int (eN z)] := by
                intro z hz hw2
                refine g_istore (lv' := [(0, .ref (h 0)), (1, .int (nI s1)), (2, .int (nI t1)), (3, .int (nI v1)), (4, .int (eN z)), (5, .int (nI w))]) hc dX1_firstAvoiding_80 (by decide) [1, 2, 3, 4, 0, 5] rfl ?_
                refine n_iinc (lv' := [(0, .ref (h 0)), (1, .int (nI s1)), (2, .int (nI t1)), (3, .int (nI v1)), (4, .int (eN z)), (5, .int (nI (w + 1)))]) (q := 5) hc dX1_firstAvoiding_82 rfl (by decide) [1, 2, 3, 4, 5, 0] rfl ?_
                refine g_goto (tgt := 33) hc dX1_firstAvoiding_85 (by decide) ?_
                exact ih hw2 _ hz
              refine g_iload hc dX1_firstAvoiding_33 5 rfl ?_
              refine g_aload_n hc dX1_firstAvoiding_35 rfl 0 rfl ?_
              refine m_get hc 1 (by decide) q178 0 rfl rfl dX1_firstAvoiding_36 rfl ?_
              refine n_icmp_ge (tgt := 88) hc dX1_firstAvoiding_39 (by decide) (by omega) (by omega) (fun c39 => ?_) (fun c39 => ?_)
              · skip
                refine g_iload hc dX1_firstAvoiding_88 4 rfl ?_
                have hwl : w = Cs.length := by have := hCs.1.1; omega
                exact hR _ (cnt1, Y1, Z1) _ _ (Or.inr ⟨v1, rfl, hv1, c2, c7, Or.inr ⟨s1, t1, rfl, rfl, hs1, ht1, hst1, fun Rs hRs => avI_e hCs (by rw [← hwl]; exact hI) Rs hRs⟩⟩) dX1_firstAvoiding_90
              · skip
                have hwl : w < Cs.length := by rw [← hCs.1.1]; exact c39
                obtain ⟨hYw, _⟩ := hB.2 w c39
                refine g_aload_n hc dX1_firstAvoiding_42 rfl 0 rfl ?_
                refine g_iload hc dX1_firstAvoiding_43 5 rfl ?_
                refine m_callI (n := 1) (As := [.int (nI w)]) (rest := []) hc (cM_rank h dI L cnt1 Y1 Z1 w hB c39) (lw_V q230 q232 qs12 q19 q233) (by decide +kernel) (by decide) (by decide) rfl rfl (by simp [Value.category]) dX1_firstAvoiding_45 (fun r45 u45 k45 => ?_)
                subst k45
                refine g_istore (lv' := [(0, .ref (h 0)), (1, .int (nI s1)), (2, .int (nI t1)), (3, .int (nI v1)), (4, .int (eN b)), (5, .int (nI w)), (6, .int (nI (rkM Y1 Z1 w cnt1)))]) hc dX1_firstAvoiding_48 (by decide) [1, 2, 3, 4, 5, 6, 0] rfl ?_
                refine g_aload_n hc dX1_firstAvoiding_50 rfl 0 rfl ?_
                refine g_iload hc dX1_firstAvoiding_51 5 rfl ?_
                refine g_iload_n hc dX1_firstAvoiding_53 rfl 3 rfl ?_
                refine g_iload_n hc dX1_firstAvoiding_54 rfl 2 rfl ?_
                refine m_callI (n := 3) (As := [.int (nI w), .int (nI v1), .int (nI t1)]) (rest := []) hc (cM_through h dI L cnt1 Y1 Z1 w v1 t1 Cs[w] (by omega) hYw hv1 ht1 (MFin_wayD hCs hwl)) (lw_V q268 q270 qs16 q19 q271) (by decide +kernel) (by decide) (by decide) rfl rfl (by simp [Value.category]) dX1_firstAvoiding_55 (fun r55 u55 k55 => ?_)
                rcases k55 with ⟨rfl, k55⟩ | ⟨rfl, k55⟩
                · skip
                  refine n_if_ne (tgt := 78) hc dX1_firstAvoiding_58 (by decide) (by decide) (fun _ => ?_) (fun h => absurd h (by decide))
                  refine g_iload hc dX1_firstAvoiding_78 4 rfl ?_
                  refine g_lv (lv' := [(0, .ref (h 0)), (1, .int (nI s1)), (2, .int (nI t1)), (3, .int (nI v1)), (5, .int (nI w))]) [0, 1, 2, 3, 5] rfl ?_
                  exact j80 _ (avI_in hI hwl k55) c39
                · skip
                  refine n_if_ne (tgt := 78) hc dX1_firstAvoiding_58 (by decide) (by decide) (fun h => absurd h (by decide)) (fun _ => ?_)
                  refine g_iload hc dX1_firstAvoiding_61 4 rfl ?_
                  refine e_if_lt (tgt := 73) hc dX1_firstAvoiding_63 (by decide) (by omega) (fun c63 => ?_) (fun y63 c63 => ?_)
                  · skip
                    refine g_iload hc dX1_firstAvoiding_73 6 rfl ?_
                    refine g_goto (tgt := 80) hc dX1_firstAvoiding_75 (by decide) ?_
                    refine g_lv (lv' := [(0, .ref (h 0)), (1, .int (nI s1)), (2, .int (nI t1)), (3, .int (nI v1)), (5, .int (nI w))]) [0, 1, 2, 3, 5] rfl ?_
                    refine g_top (v' := .int (eN (rkM Y1 Z1 w cnt1 + 1))) rfl ?_
                    exact j80 _ (avI_first hI c63 hwl k55) c39
                  · skip
                    subst c63
                    refine g_lv (lv' := [(0, .ref (h 0)), (1, .int (nI s1)), (2, .int (nI t1)), (3, .int (nI v1)), (4, .int (nI y63)), (5, .int (nI w)), (6, .int (nI (rkM Y1 Z1 w cnt1)))]) [0, 1, 2, 3, 4, 5, 6] rfl ?_
                    refine g_iload hc dX1_firstAvoiding_66 6 rfl ?_
                    refine g_iload hc dX1_firstAvoiding_68 4 rfl ?_
                    refine n_icmp_ge (tgt := 78) hc dX1_firstAvoiding_70 (by decide) (by omega) (by omega) (fun c70 => ?_) (fun c70 => ?_)
                    · skip
                      refine g_iload hc dX1_firstAvoiding_78 4 rfl ?_
                      refine g_lv (lv' := [(0, .ref (h 0)), (1, .int (nI s1)), (2, .int (nI t1)), (3, .int (nI v1)), (5, .int (nI w))]) [0, 1, 2, 3, 5] rfl ?_
                      refine g_top (v' := .int (eN (y63 + 1))) rfl ?_
                      exact j80 _ (avI_more hI c70 hwl) c39
                    · skip
                      refine g_iload hc dX1_firstAvoiding_73 6 rfl ?_
                      refine g_goto (tgt := 80) hc dX1_firstAvoiding_75 (by decide) ?_
                      refine g_lv (lv' := [(0, .ref (h 0)), (1, .int (nI s1)), (2, .int (nI t1)), (3, .int (nI v1)), (5, .int (nI w))]) [0, 1, 2, 3, 5] rfl ?_
                      refine g_top (v' := .int (eN (rkM Y1 Z1 w cnt1 + 1))) rfl ?_
                      exact j80 _ (avI_less hI c70 hwl k55) c39
            exact loop 0 0 (Nat.zero_le _) (avI_0 _ _ _)
        · skip
          refine g_iconst (v := eN 0) hc dX1_firstAvoiding_19 (by decide) ?_
          exact hR _ (cnt, Y, Z) _ _ (Or.inl ⟨Or.inl (not_isPl5 (fa_nle c16)), rfl⟩) dX1_firstAvoiding_20
theorem cM_detour (h : Nat → Nat) (dI : ClassId) (L : Nat → Nat) (cnt : Nat) (Y Z : Nat → Nat) (s t a b : Int32) (hL : ∀ i, L i ≤ 20) : MI yX1_detour cX1_detour 8 .int 5 (MT dI) [.ref (h 0), .int s, .int t, .int a, .int b] (MW h dI L cnt Y Z) (fun u : MS => MW h dI L u.1 u.2.1 u.2.2) (fun r _ => detM L s t a b r) := by
  refine g_enterI (lv0 := [(0, .ref (h 0)), (1, .int s), (2, .int t), (3, .int a), (4, .int b)]) (by decide) (Nat.le_of_ble_eq_true rfl) rfl (fun r u h => rfl) (fun Γ hc hR => ?_)
  refine g_aload_n hc dX1_detour_0 rfl 0 rfl ?_
  refine g_iload_n hc dX1_detour_1 rfl 1 rfl ?_
  refine g_iload_n hc dX1_detour_2 rfl 2 rfl ?_
  refine g_iconst (v := nI 0) hc dX1_detour_3 (by decide) ?_
  refine m_callI (n := 3) (As := [.int s, .int t, .int (nI 0)]) (rest := []) hc (cM_length h dI L cnt Y Z s t (nI 0) hL) (lw_V q262 q223 q224 q19 q225) (by decide +kernel) (by decide) (by decide) rfl rfl (by simp [Value.category]) dX1_detour_4 (fun r4 u4 k4 => ?_)
  obtain ⟨cnt1, Y1, Z1⟩ := u4
  refine g_world (ws' := MW h dI L cnt1 Y1 Z1) rfl ?_
  rcases k4 with ⟨hn1, rfl⟩ | ⟨s1, t1, e1, e2, hs1, ht1, hst1, hq⟩
  · skip
    refine g_istore (lv' := [(0, .ref (h 0)), (1, .int s), (2, .int t), (3, .int a), (4, .int b), (5, .int (eN 0))]) hc dX1_detour_7 (by decide) [1, 2, 3, 4, 5, 0] rfl ?_
    refine g_aload_n hc dX1_detour_9 rfl 0 rfl ?_
    refine g_iload_n hc dX1_detour_10 rfl 3 rfl ?_
    refine g_iload hc dX1_detour_11 4 rfl ?_
    refine m_callI (n := 2) (As := [.int a, .int b]) (rest := []) hc (cM_road h dI L cnt1 Y1 Z1 a b hL) (lw_V q280 q203 q204 q19 q205) (by decide +kernel) (by decide) (by decide) rfl rfl (by simp [Value.category]) dX1_detour_13 (fun r13 u13 k13 => ?_)
    rcases roadA_cases k13 with ⟨rfl, q13⟩ | ⟨x1, x2, rfl, rfl, hx1, hx2, hx3, hx4, rfl⟩
    · skip
      refine g_istore (lv' := [(0, .ref (h 0)), (1, .int s), (2, .int t), (3, .int a), (4, .int b), (5, .int (eN 0)), (6, .int (eN 0))]) hc dX1_detour_16 (by decide) [1, 2, 3, 4, 5, 6, 0] rfl ?_
      refine g_iload hc dX1_detour_18 5 rfl ?_
      refine e_if_lt (tgt := 28) hc dX1_detour_20 (by decide) (by decide) (fun _ => ?_) (fun y h => by cases h)
      refine g_iconst (v := nI 0) hc dX1_detour_28 (by decide) ?_
      exact hR _ (cnt1, Y1, Z1) _ _ (Or.inl ⟨Or.inl hn1, rfl⟩) dX1_detour_29
    · have hLx := hL (x1 * 6 + x2)
      refine g_istore (lv' := [(0, .ref (h 0)), (1, .int s), (2, .int t), (3, .int (nI x1)), (4, .int (nI x2)), (5, .int (eN 0)), (6, .int (nI (L (x1 * 6 + x2))))]) hc dX1_detour_16 (by decide) [1, 2, 3, 4, 5, 6, 0] rfl ?_
      refine g_iload hc dX1_detour_18 5 rfl ?_
      refine e_if_lt (tgt := 28) hc dX1_detour_20 (by decide) (by decide) (fun _ => ?_) (fun y h => by cases h)
      refine g_iconst (v := nI 0) hc dX1_detour_28 (by decide) ?_
      exact hR _ (cnt1, Y1, Z1) _ _ (Or.inl ⟨Or.inl hn1, rfl⟩) dX1_detour_29
  · obtain ⟨Rs, hRs⟩ := RSp_ex (L) hs1 ht1 hst1
    have e3 := hq Rs hRs
    dsimp only at e3
    rw [lenA, kth_n Rs (by decide)] at e3
    cases h0 : Rs[0]? with
    | none =>
      rw [h0] at e3
      dsimp only at e3
      subst e3
      refine g_istore (lv' := [(0, .ref (h 0)), (1, .int s), (2, .int t), (3, .int a), (4, .int b), (5, .int (eN 0))]) hc dX1_detour_7 (by decide) [1, 2, 3, 4, 5, 0] rfl ?_
      refine g_aload_n hc dX1_detour_9 rfl 0 rfl ?_
      refine g_iload_n hc dX1_detour_10 rfl 3 rfl ?_
      refine g_iload hc dX1_detour_11 4 rfl ?_
      refine m_callI (n := 2) (As := [.int a, .int b]) (rest := []) hc (cM_road h dI L cnt1 Y1 Z1 a b hL) (lw_V q280 q203 q204 q19 q205) (by decide +kernel) (by decide) (by decide) rfl rfl (by simp [Value.category]) dX1_detour_13 (fun r13 u13 k13 => ?_)
      rcases roadA_cases k13 with ⟨rfl, q13⟩ | ⟨x1, x2, rfl, rfl, hx1, hx2, hx3, hx4, rfl⟩
      · skip
        refine g_istore (lv' := [(0, .ref (h 0)), (1, .int s), (2, .int t), (3, .int a), (4, .int b), (5, .int (eN 0)), (6, .int (eN 0))]) hc dX1_detour_16 (by decide) [1, 2, 3, 4, 5, 6, 0] rfl ?_
        refine g_iload hc dX1_detour_18 5 rfl ?_
        refine e_if_lt (tgt := 28) hc dX1_detour_20 (by decide) (by decide) (fun _ => ?_) (fun y h => by cases h)
        refine g_iconst (v := nI 0) hc dX1_detour_28 (by decide) ?_
        exact hR _ (cnt1, Y1, Z1) _ _ (Or.inl ⟨Or.inr q13, rfl⟩) dX1_detour_29
      · have hLx := hL (x1 * 6 + x2)
        refine g_istore (lv' := [(0, .ref (h 0)), (1, .int s), (2, .int t), (3, .int (nI x1)), (4, .int (nI x2)), (5, .int (eN 0)), (6, .int (nI (L (x1 * 6 + x2))))]) hc dX1_detour_16 (by decide) [1, 2, 3, 4, 5, 6, 0] rfl ?_
        refine g_iload hc dX1_detour_18 5 rfl ?_
        refine e_if_lt (tgt := 28) hc dX1_detour_20 (by decide) (by decide) (fun _ => ?_) (fun y h => by cases h)
        refine g_iconst (v := nI 0) hc dX1_detour_28 (by decide) ?_
        exact hR _ (cnt1, Y1, Z1) _ _ (Or.inr ⟨s1, t1, x1, x2, e1, e2, hs1, ht1, hst1, rfl, rfl, hx1, hx2, hx3, hx4, fun d1 d2 m1 m2 => by rw [ML_none hRs h0 m1, detR, if_pos (Nat.le_refl _)]⟩) dX1_detour_29
    | some p0 =>
      rw [h0] at e3
      dsimp only at e3
      subst e3
      have hl0 := way_120 (hL) ((hRs.1 p0).mp (List.mem_of_getElem? h0))
      refine g_istore (lv' := [(0, .ref (h 0)), (1, .int s), (2, .int t), (3, .int a), (4, .int b), (5, .int (nI (lenP L p0)))]) hc dX1_detour_7 (by decide) [1, 2, 3, 4, 5, 0] rfl ?_
      refine g_aload_n hc dX1_detour_9 rfl 0 rfl ?_
      refine g_iload_n hc dX1_detour_10 rfl 3 rfl ?_
      refine g_iload hc dX1_detour_11 4 rfl ?_
      refine m_callI (n := 2) (As := [.int a, .int b]) (rest := []) hc (cM_road h dI L cnt1 Y1 Z1 a b hL) (lw_V q280 q203 q204 q19 q205) (by decide +kernel) (by decide) (by decide) rfl rfl (by simp [Value.category]) dX1_detour_13 (fun r13 u13 k13 => ?_)
      rcases roadA_cases k13 with ⟨rfl, q13⟩ | ⟨x1, x2, rfl, rfl, hx1, hx2, hx3, hx4, rfl⟩
      · skip
        refine g_istore (lv' := [(0, .ref (h 0)), (1, .int s), (2, .int t), (3, .int a), (4, .int b), (5, .int (nI (lenP L p0))), (6, .int (eN 0))]) hc dX1_detour_16 (by decide) [1, 2, 3, 4, 5, 6, 0] rfl ?_
        refine g_iload hc dX1_detour_18 5 rfl ?_
        refine n_if_lt (tgt := 28) hc dX1_detour_20 (by decide) (by omega) ?_
        refine g_iload hc dX1_detour_23 6 rfl ?_
        refine e_if_ge (tgt := 30) hc dX1_detour_25 (by decide) (by decide) (fun y h => by cases h) (fun _ => ?_)
        refine g_iconst (v := nI 0) hc dX1_detour_28 (by decide) ?_
        exact hR _ (cnt1, Y1, Z1) _ _ (Or.inl ⟨Or.inr q13, rfl⟩) dX1_detour_29
      · have hLx := hL (x1 * 6 + x2)
        refine g_istore (lv' := [(0, .ref (h 0)), (1, .int s), (2, .int t), (3, .int (nI x1)), (4, .int (nI x2)), (5, .int (nI (lenP L p0))), (6, .int (nI (L (x1 * 6 + x2))))]) hc dX1_detour_16 (by decide) [1, 2, 3, 4, 5, 6, 0] rfl ?_
        refine g_iload hc dX1_detour_18 5 rfl ?_
        refine n_if_lt (tgt := 28) hc dX1_detour_20 (by decide) (by omega) ?_
        refine g_iload hc dX1_detour_23 6 rfl ?_
        refine n_if_ge (tgt := 30) hc dX1_detour_25 (by decide) (by omega) ?_
        refine g_aload_n hc dX1_detour_30 rfl 0 rfl ?_
        refine m_get hc 0 (by decide) q177 0 rfl rfl dX1_detour_31 rfl ?_
        refine g_bipush (v := nI 6) hc dX1_detour_34 (by decide) ?_
        refine g_iload_n hc dX1_detour_36 rfl 3 rfl ?_
        refine n_imul hc dX1_detour_37 ?_
        refine g_iload hc dX1_detour_38 4 rfl ?_
        refine n_iadd hc dX1_detour_40 ?_
        refine g_iconst (v := nI 0) hc dX1_detour_41 (by decide) ?_
        refine n_iast (ws' := MW h dI (updN L (6 * x1 + x2) 0) cnt1 Y1 Z1) hc 1 0 rfl rfl (by omega) (by decide) dX1_detour_42 rfl ?_
        refine g_world (ws' := MW h dI (updN L (x1 * 6 + x2) 0) cnt1 Y1 Z1) (by rw [Nat.mul_comm 6 x1]) ?_
        refine g_aload_n hc dX1_detour_43 rfl 0 rfl ?_
        refine g_iload_n hc dX1_detour_44 rfl 1 rfl ?_
        refine g_iload_n hc dX1_detour_45 rfl 2 rfl ?_
        refine g_iconst (v := nI 0) hc dX1_detour_46 (by decide) ?_
        refine m_callI (n := 3) (As := [.int s, .int t, .int (nI 0)]) (rest := []) hc (cM_length h dI (updN L (x1 * 6 + x2) 0) cnt1 Y1 Z1 s t (nI 0) (upd_le hL (by decide))) (lw_V q262 q223 q224 q19 q225) (by decide +kernel) (by decide) (by decide) rfl rfl (by simp [Value.category]) dX1_detour_47 (fun r47 u47 k47 => ?_)
        obtain ⟨cntb1, Yb1, Zb1⟩ := u47
        refine g_world (ws' := MW h dI (updN L (x1 * 6 + x2) 0) cntb1 Yb1 Zb1) rfl ?_
        rcases k47 with ⟨hnb1, rfl⟩ | ⟨sb1, tb1, eb1, eb2, hsb1, htb1, hstb1, hqb⟩
        · skip
          refine g_istore (lv' := [(0, .ref (h 0)), (1, .int s), (2, .int t), (3, .int (nI x1)), (4, .int (nI x2)), (5, .int (nI (lenP L p0))), (6, .int (nI (L (x1 * 6 + x2)))), (7, .int (eN 0))]) hc dX1_detour_50 (by decide) [1, 2, 3, 4, 5, 6, 7, 0] rfl ?_
          refine g_aload_n hc dX1_detour_52 rfl 0 rfl ?_
          refine m_get hc 0 (by decide) q177 0 rfl rfl dX1_detour_53 rfl ?_
          refine g_bipush (v := nI 6) hc dX1_detour_56 (by decide) ?_
          refine g_iload_n hc dX1_detour_58 rfl 3 rfl ?_
          refine n_imul hc dX1_detour_59 ?_
          refine g_iload hc dX1_detour_60 4 rfl ?_
          refine n_iadd hc dX1_detour_62 ?_
          refine g_iload hc dX1_detour_63 6 rfl ?_
          refine n_iast (ws' := MW h dI (updN (updN L (x1 * 6 + x2) 0) (6 * x1 + x2) (L (x1 * 6 + x2))) cntb1 Yb1 Zb1) hc 1 0 rfl rfl (by omega) (by decide) dX1_detour_65 rfl ?_
          refine g_world (ws' := MW h dI L cntb1 Yb1 Zb1) (by rw [Nat.mul_comm 6 x1, upd_back]) ?_
          refine g_iload hc dX1_detour_66 7 rfl ?_
          refine e_if_ge (tgt := 75) hc dX1_detour_68 (by decide) (by decide) (fun y h => by cases h) (fun _ => ?_)
          refine g_iconst (v := eN 0) hc dX1_detour_71 (by decide) ?_
          refine g_goto (tgt := 80) hc dX1_detour_72 (by decide) ?_
          exact absurd (⟨s1, t1, e1, e2, hs1, ht1, hst1⟩ : isPr s t) hnb1
        · obtain ⟨Rsb, hRsb⟩ := RSp_ex (updN L (x1 * 6 + x2) 0) hsb1 htb1 hstb1
          have eb3 := hqb Rsb hRsb
          dsimp only at eb3
          rw [lenA, kth_n Rsb (by decide)] at eb3
          cases hb0 : Rsb[0]? with
          | none =>
            rw [hb0] at eb3
            dsimp only at eb3
            subst eb3
            refine g_istore (lv' := [(0, .ref (h 0)), (1, .int s), (2, .int t), (3, .int (nI x1)), (4, .int (nI x2)), (5, .int (nI (lenP L p0))), (6, .int (nI (L (x1 * 6 + x2)))), (7, .int (eN 0))]) hc dX1_detour_50 (by decide) [1, 2, 3, 4, 5, 6, 7, 0] rfl ?_
            refine g_aload_n hc dX1_detour_52 rfl 0 rfl ?_
            refine m_get hc 0 (by decide) q177 0 rfl rfl dX1_detour_53 rfl ?_
            refine g_bipush (v := nI 6) hc dX1_detour_56 (by decide) ?_
            refine g_iload_n hc dX1_detour_58 rfl 3 rfl ?_
            refine n_imul hc dX1_detour_59 ?_
            refine g_iload hc dX1_detour_60 4 rfl ?_
            refine n_iadd hc dX1_detour_62 ?_
            refine g_iload hc dX1_detour_63 6 rfl ?_
            refine n_iast (ws' := MW h dI (updN (updN L (x1 * 6 + x2) 0) (6 * x1 + x2) (L (x1 * 6 + x2))) cntb1 Yb1 Zb1) hc 1 0 rfl rfl (by omega) (by decide) dX1_detour_65 rfl ?_
            refine g_world (ws' := MW h dI L cntb1 Yb1 Zb1) (by rw [Nat.mul_comm 6 x1, upd_back]) ?_
            refine g_iload hc dX1_detour_66 7 rfl ?_
            refine e_if_ge (tgt := 75) hc dX1_detour_68 (by decide) (by decide) (fun y h => by cases h) (fun _ => ?_)
            refine g_iconst (v := eN 0) hc dX1_detour_71 (by decide) ?_
            refine g_goto (tgt := 80) hc dX1_detour_72 (by decide) ?_
            have q1 := (nI_eq (show s1 < 2 ^ 31 by omega) (show sb1 < 2 ^ 31 by omega)).mp (e1.symm.trans eb1)
            have q2 := (nI_eq (show t1 < 2 ^ 31 by omega) (show tb1 < 2 ^ 31 by omega)).mp (e2.symm.trans eb2)
            subst q1; subst q2
            exact hR _ (cntb1, Yb1, Zb1) _ _ (Or.inr ⟨s1, t1, x1, x2, e1, e2, hs1, ht1, hst1, rfl, rfl, hx1, hx2, hx3, hx4, fun d1 d2 m1 m2 => by rw [ML_some hRs h0 m1, ML_none hRsb hb0 m2, detR, if_neg (by omega), if_neg (by omega)]⟩) dX1_detour_80
          | some pb0 =>
            rw [hb0] at eb3
            dsimp only at eb3
            subst eb3
            have hlb0 := way_120 (upd_le hL (by decide)) ((hRsb.1 pb0).mp (List.mem_of_getElem? hb0))
            refine g_istore (lv' := [(0, .ref (h 0)), (1, .int s), (2, .int t), (3, .int (nI x1)), (4, .int (nI x2)), (5, .int (nI (lenP L p0))), (6, .int (nI (L (x1 * 6 + x2)))), (7, .int (nI (lenP (updN L (x1 * 6 + x2) 0) pb0)))]) hc dX1_detour_50 (by decide) [1, 2, 3, 4, 5, 6, 7, 0] rfl ?_
            refine g_aload_n hc dX1_detour_52 rfl 0 rfl ?_
            refine m_get hc 0 (by decide) q177 0 rfl rfl dX1_detour_53 rfl ?_
            refine g_bipush (v := nI 6) hc dX1_detour_56 (by decide) ?_
            refine g_iload_n hc dX1_detour_58 rfl 3 rfl ?_
            refine n_imul hc dX1_detour_59 ?_
            refine g_iload hc dX1_detour_60 4 rfl ?_
            refine n_iadd hc dX1_detour_62 ?_
            refine g_iload hc dX1_detour_63 6 rfl ?_
            refine n_iast (ws' := MW h dI (updN (updN L (x1 * 6 + x2) 0) (6 * x1 + x2) (L (x1 * 6 + x2))) cntb1 Yb1 Zb1) hc 1 0 rfl rfl (by omega) (by decide) dX1_detour_65 rfl ?_
            refine g_world (ws' := MW h dI L cntb1 Yb1 Zb1) (by rw [Nat.mul_comm 6 x1, upd_back]) ?_
            refine g_iload hc dX1_detour_66 7 rfl ?_
            refine n_if_ge (tgt := 75) hc dX1_detour_68 (by decide) (by omega) ?_
            refine g_iload hc dX1_detour_75 7 rfl ?_
            refine g_iload hc dX1_detour_77 5 rfl ?_
            refine g_isub hc dX1_detour_79 ?_
            have q1 := (nI_eq (show s1 < 2 ^ 31 by omega) (show sb1 < 2 ^ 31 by omega)).mp (e1.symm.trans eb1)
            have q2 := (nI_eq (show t1 < 2 ^ 31 by omega) (show tb1 < 2 ^ 31 by omega)).mp (e2.symm.trans eb2)
            subst q1; subst q2
            exact hR _ (cntb1, Yb1, Zb1) _ _ (Or.inr ⟨s1, t1, x1, x2, e1, e2, hs1, ht1, hst1, rfl, rfl, hx1, hx2, hx3, hx4, fun d1 d2 m1 m2 => by rw [ML_some hRs h0 m1, ML_some hRsb hb0 m2, detR, if_neg (by omega), if_pos (by omega)]⟩) dX1_detour_80
end
section
set_option maxRecDepth 100000
set_option maxHeartbeats 4000000
theorem same_b {D : va_G} {cl : List vw_C} {tys : List (ClassId × FieldType)} {s : State} (hK : va_K D cl tys s) (i j : Nat) {c c' : ClassId} (h1 : tys[i]? = some (c, .byte)) (h2 : tys[j]? = some (c', .byte)) : c = c' := by
  have e1 := va_nm_byte (hK.2 i _ h1).2
  have e2 := va_nm_byte (hK.2 j _ h2).2
  rw [e1] at e2
  exact Option.some.inj e2
theorem same_i {D : va_G} {cl : List vw_C} {tys : List (ClassId × FieldType)} {s : State} (hK : va_K D cl tys s) (i j : Nat) {c c' : ClassId} (h1 : tys[i]? = some (c, .int)) (h2 : tys[j]? = some (c', .int)) : c = c' := by
  have e1 := va_nm_int (hK.2 i _ h1).2
  have e2 := va_nm_int (hK.2 j _ h2).2
  rw [e1] at e2
  exact Option.some.inj e2
abbrev z0 : Nat → Nat := fun _ => 0
abbrev o1 : Nat → Nat := fun _ => 1
abbrev XW0 (h : Nat → Nat) (dB dS dI : ClassId) : va_W := XW h dB dS dI z0 0 0 0 0 0 z0 z0 z0 z0 z0 o1 z0 z0
abbrev MW0 (h : Nat → Nat) (dI : ClassId) : va_W := MW h dI z0 0 z0 z0
abbrev fsX : List Value := [.null, .int (nI 0), .int (nI 0), .int (nI 0), .int (nI 0), .int (nI 0), .null, .null, .null, .null, .null, .null, .null, .null]
abbrev fsM : List Value := [.null, .int (nI 0), .null, .null]
def rmI (c n : Nat) : Room := { frames := 1, cells := c, slots := n, locals := 40 }
def BX0 (D : va_G) (a : Nat) (A : Nat → Prop) (u : (Nat → Nat) × ClassId × ClassId × ClassId) (t : State) : Prop := u.1 0 = a ∧ va_P D vwCl (XW0 u.1 u.2.1 u.2.2.1 u.2.2.2) t.heap ∧ va_K D vwCl (XT u.2.1 u.2.2.1 u.2.2.2) t ∧ va_D A (XW0 u.1 u.2.1 u.2.2.1 u.2.2.2)
def BM0 (D : va_G) (a : Nat) (A : Nat → Prop) (u : (Nat → Nat) × ClassId) (t : State) : Prop := u.1 0 = a ∧ va_P D vwCl (MW0 u.1 u.2) t.heap ∧ va_K D vwCl (MT u.2) t ∧ va_D A (MW0 u.1 u.2)
theorem cX_init (a : Nat) (l : Launch) (D : va_G) (sz : Nat) : Met l yX0_init (ws_ yX0_init cX0_init 1 none) (rmI 9 834) (va_Pc [.ref a] (GB D [] [(a, .inr (0, fsX))] sz)) (va_Qv (fun _ : (Nat → Nat) × ClassId × ClassId × ClassId => True) (BX0 D a (va_A [(a, .inr (0, fsX))] sz)) (va_A [(a, .inr (0, fsX))] sz)) 9 834 (va_A [(a, .inr (0, fsX))] sz) := by
  refine Met.ofW (cc := cX0_init) (maxL := 1) (ret := none) (by decide) rfl ?_
  intro p e s m args below meth c s₁ B hml hv
  obtain ⟨rfl, hsz, hP, hK, hD0⟩ := hv
  have hx := B.exec
  have hb := B.bytes
  have hr := B.returns
  have hts := atoms_spec (ws := ws_ yX0_init cX0_init 1 none) B.pre
  have hts : ∀ w ∈ lw_all, w.before _ s = true := fun w h => hts w (List.mem_cons_of_mem _ h)
  have hown : s.vm.findClass RX0 = some m.cls := findClass_of_methodNamed B.named
  have hlocks := B.notSynchronized
  have hin : meth.name = "<init>" := (name_of_methodNamed B.named B.method).1
  subst hsz
  have hD := hD0.self (sz := s.heap.size)
  generalize hAe : va_A [(a, .inr (0, fsX))] s.heap.size = A0 at hD ⊢
  have hA : ∀ q : Nat, s.heap.size ≤ q → A0 q := fun q h => by rw [← hAe]; exact Or.inr h
  have hS : va_S A0 s.heap s.heap [] := va_S.rf
  have hP : va_P D vwCl [(a, .inr (0, fsX))] s.heap := hP
  have hl := lv_entry ([.ref a]) (n := 1) (Nat.le_of_ble_eq_true rfl)
  rw [lg_entry_eq]
  generalize (lg_sl ([.ref a]) ++ List.replicate (1 - (lg_sl ([.ref a])).length) Slot.unset).toArray = ls at hl ⊢
  have hl : lv_has ls 1 [(0, .ref a)] := hl
  refine lv_aload_n hx hb dX0_init_0 rfl (lv_at hl 0 rfl) ?_
  refine W.objInit hx hb hown (hts _ q25) (hts _ q26) (hts _ q27) rfl (by rw [hml]; exact hl.1) rfl dX0_init_1 (Nat.le_of_ble_eq_true rfl) (Nat.le_of_ble_eq_true rfl) ?_
  refine W.eq (g2 := F0 m 4 ls []) rfl ?_
  refine lv_aload_n hx hb dX0_init_4 rfl (lv_at hl 0 rfl) ?_
  refine lv_bipush (v := 36) hx hb dX0_init_5 (by decide) ?_
  refine va_newa (atype := .byte) (a0 := (36, .inl (aN z0))) (N' := 36) (ty := .byte) hx hb (hts _ q71) rfl hK hP hD hS hA (fun cA => rfl) (by decide) (by decide) (Nat.le_of_ble_eq_true rfl) (Nat.le_of_ble_eq_true rfl) (Nat.le_of_ble_eq_true rfl) dX0_init_7 (fun q1 cA1 H hK hP hD hS => ?_)
  refine W.widen (k := 1) (n := 36) (Nat.le_of_ble_eq_true rfl) (Nat.le_of_ble_eq_true rfl) ?_
  have hK : va_K D vwCl [(cA1, .byte)] s := hK
  have hP : va_P D vwCl [(a, .inr (0, [.null, .int (nI 0), .int (nI 0), .int (nI 0), .int (nI 0), .int (nI 0), .null, .null, .null, .null, .null, .null, .null, .null])), (q1, .inl (cA1, 36, .inl (aN z0)))] H := hP
  have hD : va_D A0 [(a, .inr (0, [.null, .int (nI 0), .int (nI 0), .int (nI 0), .int (nI 0), .int (nI 0), .null, .null, .null, .null, .null, .null, .null, .null])), (q1, .inl (cA1, 36, .inl (aN z0)))] := hD
  refine va_putF (D := D) (ci := 0) (v := .ref q1) (ty := .array .byte) (C := RX0) (T := TX0) (N := 14) hx hb hts in_X0 tyX0 tyX0_ok nmX0 hown hK hP hD hS 0 rfl rfl 0 (by decide) (hts _ q28) (fun _ h9 => h9) rfl hin rfl (by decide +kernel) rfl rfl (Nat.le_of_ble_eq_true rfl) dX0_init_9 (fun H locs1 hP hD hS => ?_)
  have hP : va_P D vwCl [(a, .inr (0, [.ref q1, .int (nI 0), .int (nI 0), .int (nI 0), .int (nI 0), .int (nI 0), .null, .null, .null, .null, .null, .null, .null, .null])), (q1, .inl (cA1, 36, .inl (aN z0)))] H := hP
  have hD : va_D A0 [(a, .inr (0, [.ref q1, .int (nI 0), .int (nI 0), .int (nI 0), .int (nI 0), .int (nI 0), .null, .null, .null, .null, .null, .null, .null, .null])), (q1, .inl (cA1, 36, .inl (aN z0)))] := hD
  refine lv_aload_n hx hb dX0_init_12 rfl (lv_at hl 0 rfl) ?_
  refine lv_sipush (v := 396) hx hb dX0_init_13 (by decide) ?_
  refine va_newa (atype := .byte) (a0 := (396, .inl (aN z0))) (N' := 396) (ty := .byte) hx hb (hts _ q71) rfl hK hP hD hS hA (fun cA => rfl) (by decide) (by decide) (Nat.le_of_ble_eq_true rfl) (Nat.le_of_ble_eq_true rfl) (Nat.le_of_ble_eq_true rfl) dX0_init_16 (fun q2 cA2 H hK hP hD hS => ?_)
  refine W.widen (k := 2) (n := 432) (Nat.le_of_ble_eq_true rfl) (Nat.le_of_ble_eq_true rfl) ?_
  have hK : va_K D vwCl [(cA1, .byte), (cA2, .byte)] s := hK
  have eC := same_b hK 0 1 rfl rfl
  subst eC
  have hK := hK.sub (tys' := [(cA1, .byte)]) [0] rfl
  have hP : va_P D vwCl [(a, .inr (0, [.ref q1, .int (nI 0), .int (nI 0), .int (nI 0), .int (nI 0), .int (nI 0), .null, .null, .null, .null, .null, .null, .null, .null])), (q1, .inl (cA1, 36, .inl (aN z0))), (q2, .inl (cA1, 396, .inl (aN z0)))] H := hP
  have hD : va_D A0 [(a, .inr (0, [.ref q1, .int (nI 0), .int (nI 0), .int (nI 0), .int (nI 0), .int (nI 0), .null, .null, .null, .null, .null, .null, .null, .null])), (q1, .inl (cA1, 36, .inl (aN z0))), (q2, .inl (cA1, 396, .inl (aN z0)))] := hD
  refine va_putF (D := D) (ci := 0) (v := .ref q2) (ty := .array .byte) (C := RX0) (T := TX0) (N := 14) hx hb hts in_X0 tyX0 tyX0_ok nmX0 hown hK hP hD hS 0 rfl rfl 6 (by decide) (hts _ q34) (fun _ h9 => h9) rfl hin rfl (by decide +kernel) rfl rfl (Nat.le_of_ble_eq_true rfl) dX0_init_18 (fun H locs2 hP hD hS => ?_)
  have hP : va_P D vwCl [(a, .inr (0, [.ref q1, .int (nI 0), .int (nI 0), .int (nI 0), .int (nI 0), .int (nI 0), .ref q2, .null, .null, .null, .null, .null, .null, .null])), (q1, .inl (cA1, 36, .inl (aN z0))), (q2, .inl (cA1, 396, .inl (aN z0)))] H := hP
  have hD : va_D A0 [(a, .inr (0, [.ref q1, .int (nI 0), .int (nI 0), .int (nI 0), .int (nI 0), .int (nI 0), .ref q2, .null, .null, .null, .null, .null, .null, .null])), (q1, .inl (cA1, 36, .inl (aN z0))), (q2, .inl (cA1, 396, .inl (aN z0)))] := hD
  refine lv_aload_n hx hb dX0_init_21 rfl (lv_at hl 0 rfl) ?_
  refine lv_bipush (v := 66) hx hb dX0_init_22 (by decide) ?_
  refine va_newa (atype := .byte) (a0 := (66, .inl (aN z0))) (N' := 66) (ty := .byte) hx hb (hts _ q71) rfl hK hP hD hS hA (fun cA => rfl) (by decide) (by decide) (Nat.le_of_ble_eq_true rfl) (Nat.le_of_ble_eq_true rfl) (Nat.le_of_ble_eq_true rfl) dX0_init_24 (fun q3 cA3 H hK hP hD hS => ?_)
  refine W.widen (k := 3) (n := 498) (Nat.le_of_ble_eq_true rfl) (Nat.le_of_ble_eq_true rfl) ?_
  have hK : va_K D vwCl [(cA1, .byte), (cA3, .byte)] s := hK
  have eC := same_b hK 0 1 rfl rfl
  subst eC
  have hK := hK.sub (tys' := [(cA1, .byte)]) [0] rfl
  have hP : va_P D vwCl [(a, .inr (0, [.ref q1, .int (nI 0), .int (nI 0), .int (nI 0), .int (nI 0), .int (nI 0), .ref q2, .null, .null, .null, .null, .null, .null, .null])), (q1, .inl (cA1, 36, .inl (aN z0))), (q2, .inl (cA1, 396, .inl (aN z0))), (q3, .inl (cA1, 66, .inl (aN z0)))] H := hP
  have hD : va_D A0 [(a, .inr (0, [.ref q1, .int (nI 0), .int (nI 0), .int (nI 0), .int (nI 0), .int (nI 0), .ref q2, .null, .null, .null, .null, .null, .null, .null])), (q1, .inl (cA1, 36, .inl (aN z0))), (q2, .inl (cA1, 396, .inl (aN z0))), (q3, .inl (cA1, 66, .inl (aN z0)))] := hD
  refine va_putF (D := D) (ci := 0) (v := .ref q3) (ty := .array .byte) (C := RX0) (T := TX0) (N := 14) hx hb hts in_X0 tyX0 tyX0_ok nmX0 hown hK hP hD hS 0 rfl rfl 7 (by decide) (hts _ q35) (fun _ h9 => h9) rfl hin rfl (by decide +kernel) rfl rfl (Nat.le_of_ble_eq_true rfl) dX0_init_26 (fun H locs3 hP hD hS => ?_)
  have hP : va_P D vwCl [(a, .inr (0, [.ref q1, .int (nI 0), .int (nI 0), .int (nI 0), .int (nI 0), .int (nI 0), .ref q2, .ref q3, .null, .null, .null, .null, .null, .null])), (q1, .inl (cA1, 36, .inl (aN z0))), (q2, .inl (cA1, 396, .inl (aN z0))), (q3, .inl (cA1, 66, .inl (aN z0)))] H := hP
  have hD : va_D A0 [(a, .inr (0, [.ref q1, .int (nI 0), .int (nI 0), .int (nI 0), .int (nI 0), .int (nI 0), .ref q2, .ref q3, .null, .null, .null, .null, .null, .null])), (q1, .inl (cA1, 36, .inl (aN z0))), (q2, .inl (cA1, 396, .inl (aN z0))), (q3, .inl (cA1, 66, .inl (aN z0)))] := hD
  refine lv_aload_n hx hb dX0_init_29 rfl (lv_at hl 0 rfl) ?_
  refine lv_bipush (v := 66) hx hb dX0_init_30 (by decide) ?_
  refine va_newa (atype := .short) (a0 := (66, .inl (aN z0))) (N' := 66) (ty := .short) hx hb (hts _ q72) rfl hK hP hD hS hA (fun cA => rfl) (by decide) (by decide) (Nat.le_of_ble_eq_true rfl) (Nat.le_of_ble_eq_true rfl) (Nat.le_of_ble_eq_true rfl) dX0_init_32 (fun q4 cA4 H hK hP hD hS => ?_)
  refine W.widen (k := 4) (n := 564) (Nat.le_of_ble_eq_true rfl) (Nat.le_of_ble_eq_true rfl) ?_
  have hK : va_K D vwCl [(cA1, .byte), (cA4, .short)] s := hK
  have hP : va_P D vwCl [(a, .inr (0, [.ref q1, .int (nI 0), .int (nI 0), .int (nI 0), .int (nI 0), .int (nI 0), .ref q2, .ref q3, .null, .null, .null, .null, .null, .null])), (q1, .inl (cA1, 36, .inl (aN z0))), (q2, .inl (cA1, 396, .inl (aN z0))), (q3, .inl (cA1, 66, .inl (aN z0))), (q4, .inl (cA4, 66, .inl (aN z0)))] H := hP
  have hD : va_D A0 [(a, .inr (0, [.ref q1, .int (nI 0), .int (nI 0), .int (nI 0), .int (nI 0), .int (nI 0), .ref q2, .ref q3, .null, .null, .null, .null, .null, .null])), (q1, .inl (cA1, 36, .inl (aN z0))), (q2, .inl (cA1, 396, .inl (aN z0))), (q3, .inl (cA1, 66, .inl (aN z0))), (q4, .inl (cA4, 66, .inl (aN z0)))] := hD
  refine va_putF (D := D) (ci := 0) (v := .ref q4) (ty := .array .short) (C := RX0) (T := TX0) (N := 14) hx hb hts in_X0 tyX0 tyX0_ok nmX0 hown hK hP hD hS 0 rfl rfl 8 (by decide) (hts _ q36) (fun _ h9 => h9) rfl hin rfl (by decide +kernel) rfl rfl (Nat.le_of_ble_eq_true rfl) dX0_init_34 (fun H locs4 hP hD hS => ?_)
  have hP : va_P D vwCl [(a, .inr (0, [.ref q1, .int (nI 0), .int (nI 0), .int (nI 0), .int (nI 0), .int (nI 0), .ref q2, .ref q3, .ref q4, .null, .null, .null, .null, .null])), (q1, .inl (cA1, 36, .inl (aN z0))), (q2, .inl (cA1, 396, .inl (aN z0))), (q3, .inl (cA1, 66, .inl (aN z0))), (q4, .inl (cA4, 66, .inl (aN z0)))] H := hP
  have hD : va_D A0 [(a, .inr (0, [.ref q1, .int (nI 0), .int (nI 0), .int (nI 0), .int (nI 0), .int (nI 0), .ref q2, .ref q3, .ref q4, .null, .null, .null, .null, .null])), (q1, .inl (cA1, 36, .inl (aN z0))), (q2, .inl (cA1, 396, .inl (aN z0))), (q3, .inl (cA1, 66, .inl (aN z0))), (q4, .inl (cA4, 66, .inl (aN z0)))] := hD
  refine lv_aload_n hx hb dX0_init_37 rfl (lv_at hl 0 rfl) ?_
  refine lv_bipush (v := 66) hx hb dX0_init_38 (by decide) ?_
  refine va_newa (atype := .byte) (a0 := (66, .inl (aN z0))) (N' := 66) (ty := .byte) hx hb (hts _ q71) rfl hK hP hD hS hA (fun cA => rfl) (by decide) (by decide) (Nat.le_of_ble_eq_true rfl) (Nat.le_of_ble_eq_true rfl) (Nat.le_of_ble_eq_true rfl) dX0_init_40 (fun q5 cA5 H hK hP hD hS => ?_)
  refine W.widen (k := 5) (n := 630) (Nat.le_of_ble_eq_true rfl) (Nat.le_of_ble_eq_true rfl) ?_
  have hK : va_K D vwCl [(cA1, .byte), (cA4, .short), (cA5, .byte)] s := hK
  have eC := same_b hK 0 2 rfl rfl
  subst eC
  have hK := hK.sub (tys' := [(cA1, .byte), (cA4, .short)]) [0, 1] rfl
  have hP : va_P D vwCl [(a, .inr (0, [.ref q1, .int (nI 0), .int (nI 0), .int (nI 0), .int (nI 0), .int (nI 0), .ref q2, .ref q3, .ref q4, .null, .null, .null, .null, .null])), (q1, .inl (cA1, 36, .inl (aN z0))), (q2, .inl (cA1, 396, .inl (aN z0))), (q3, .inl (cA1, 66, .inl (aN z0))), (q4, .inl (cA4, 66, .inl (aN z0))), (q5, .inl (cA1, 66, .inl (aN z0)))] H := hP
  have hD : va_D A0 [(a, .inr (0, [.ref q1, .int (nI 0), .int (nI 0), .int (nI 0), .int (nI 0), .int (nI 0), .ref q2, .ref q3, .ref q4, .null, .null, .null, .null, .null])), (q1, .inl (cA1, 36, .inl (aN z0))), (q2, .inl (cA1, 396, .inl (aN z0))), (q3, .inl (cA1, 66, .inl (aN z0))), (q4, .inl (cA4, 66, .inl (aN z0))), (q5, .inl (cA1, 66, .inl (aN z0)))] := hD
  refine va_putF (D := D) (ci := 0) (v := .ref q5) (ty := .array .byte) (C := RX0) (T := TX0) (N := 14) hx hb hts in_X0 tyX0 tyX0_ok nmX0 hown hK hP hD hS 0 rfl rfl 9 (by decide) (hts _ q37) (fun _ h9 => h9) rfl hin rfl (by decide +kernel) rfl rfl (Nat.le_of_ble_eq_true rfl) dX0_init_42 (fun H locs5 hP hD hS => ?_)
  have hP : va_P D vwCl [(a, .inr (0, [.ref q1, .int (nI 0), .int (nI 0), .int (nI 0), .int (nI 0), .int (nI 0), .ref q2, .ref q3, .ref q4, .ref q5, .null, .null, .null, .null])), (q1, .inl (cA1, 36, .inl (aN z0))), (q2, .inl (cA1, 396, .inl (aN z0))), (q3, .inl (cA1, 66, .inl (aN z0))), (q4, .inl (cA4, 66, .inl (aN z0))), (q5, .inl (cA1, 66, .inl (aN z0)))] H := hP
  have hD : va_D A0 [(a, .inr (0, [.ref q1, .int (nI 0), .int (nI 0), .int (nI 0), .int (nI 0), .int (nI 0), .ref q2, .ref q3, .ref q4, .ref q5, .null, .null, .null, .null])), (q1, .inl (cA1, 36, .inl (aN z0))), (q2, .inl (cA1, 396, .inl (aN z0))), (q3, .inl (cA1, 66, .inl (aN z0))), (q4, .inl (cA4, 66, .inl (aN z0))), (q5, .inl (cA1, 66, .inl (aN z0)))] := hD
  refine lv_aload_n hx hb dX0_init_45 rfl (lv_at hl 0 rfl) ?_
  refine lv_bipush (v := 66) hx hb dX0_init_46 (by decide) ?_
  refine va_newa (atype := .byte) (a0 := (66, .inl (aN z0))) (N' := 66) (ty := .byte) hx hb (hts _ q71) rfl hK hP hD hS hA (fun cA => rfl) (by decide) (by decide) (Nat.le_of_ble_eq_true rfl) (Nat.le_of_ble_eq_true rfl) (Nat.le_of_ble_eq_true rfl) dX0_init_48 (fun q6 cA6 H hK hP hD hS => ?_)
  refine W.widen (k := 6) (n := 696) (Nat.le_of_ble_eq_true rfl) (Nat.le_of_ble_eq_true rfl) ?_
  have hK : va_K D vwCl [(cA1, .byte), (cA4, .short), (cA6, .byte)] s := hK
  have eC := same_b hK 0 2 rfl rfl
  subst eC
  have hK := hK.sub (tys' := [(cA1, .byte), (cA4, .short)]) [0, 1] rfl
  have hP : va_P D vwCl [(a, .inr (0, [.ref q1, .int (nI 0), .int (nI 0), .int (nI 0), .int (nI 0), .int (nI 0), .ref q2, .ref q3, .ref q4, .ref q5, .null, .null, .null, .null])), (q1, .inl (cA1, 36, .inl (aN z0))), (q2, .inl (cA1, 396, .inl (aN z0))), (q3, .inl (cA1, 66, .inl (aN z0))), (q4, .inl (cA4, 66, .inl (aN z0))), (q5, .inl (cA1, 66, .inl (aN z0))), (q6, .inl (cA1, 66, .inl (aN z0)))] H := hP
  have hD : va_D A0 [(a, .inr (0, [.ref q1, .int (nI 0), .int (nI 0), .int (nI 0), .int (nI 0), .int (nI 0), .ref q2, .ref q3, .ref q4, .ref q5, .null, .null, .null, .null])), (q1, .inl (cA1, 36, .inl (aN z0))), (q2, .inl (cA1, 396, .inl (aN z0))), (q3, .inl (cA1, 66, .inl (aN z0))), (q4, .inl (cA4, 66, .inl (aN z0))), (q5, .inl (cA1, 66, .inl (aN z0))), (q6, .inl (cA1, 66, .inl (aN z0)))] := hD
  refine va_putF (D := D) (ci := 0) (v := .ref q6) (ty := .array .byte) (C := RX0) (T := TX0) (N := 14) hx hb hts in_X0 tyX0 tyX0_ok nmX0 hown hK hP hD hS 0 rfl rfl 10 (by decide) (hts _ q38) (fun _ h9 => h9) rfl hin rfl (by decide +kernel) rfl rfl (Nat.le_of_ble_eq_true rfl) dX0_init_50 (fun H locs6 hP hD hS => ?_)
  have hP : va_P D vwCl [(a, .inr (0, [.ref q1, .int (nI 0), .int (nI 0), .int (nI 0), .int (nI 0), .int (nI 0), .ref q2, .ref q3, .ref q4, .ref q5, .ref q6, .null, .null, .null])), (q1, .inl (cA1, 36, .inl (aN z0))), (q2, .inl (cA1, 396, .inl (aN z0))), (q3, .inl (cA1, 66, .inl (aN z0))), (q4, .inl (cA4, 66, .inl (aN z0))), (q5, .inl (cA1, 66, .inl (aN z0))), (q6, .inl (cA1, 66, .inl (aN z0)))] H := hP
  have hD : va_D A0 [(a, .inr (0, [.ref q1, .int (nI 0), .int (nI 0), .int (nI 0), .int (nI 0), .int (nI 0), .ref q2, .ref q3, .ref q4, .ref q5, .ref q6, .null, .null, .null])), (q1, .inl (cA1, 36, .inl (aN z0))), (q2, .inl (cA1, 396, .inl (aN z0))), (q3, .inl (cA1, 66, .inl (aN z0))), (q4, .inl (cA4, 66, .inl (aN z0))), (q5, .inl (cA1, 66, .inl (aN z0))), (q6, .inl (cA1, 66, .inl (aN z0)))] := hD
  refine lv_aload_n hx hb dX0_init_53 rfl (lv_at hl 0 rfl) ?_
  refine lv_bipush (v := 66) hx hb dX0_init_54 (by decide) ?_
  refine va_newa (atype := .byte) (a0 := (66, .inl (eA o1))) (N' := 66) (ty := .byte) hx hb (hts _ q71) rfl hK hP hD hS hA (fun cA => rfl) (by decide) (by decide) (Nat.le_of_ble_eq_true rfl) (Nat.le_of_ble_eq_true rfl) (Nat.le_of_ble_eq_true rfl) dX0_init_56 (fun q7 cA7 H hK hP hD hS => ?_)
  refine W.widen (k := 7) (n := 762) (Nat.le_of_ble_eq_true rfl) (Nat.le_of_ble_eq_true rfl) ?_
  have hK : va_K D vwCl [(cA1, .byte), (cA4, .short), (cA7, .byte)] s := hK
  have eC := same_b hK 0 2 rfl rfl
  subst eC
  have hK := hK.sub (tys' := [(cA1, .byte), (cA4, .short)]) [0, 1] rfl
  have hP : va_P D vwCl [(a, .inr (0, [.ref q1, .int (nI 0), .int (nI 0), .int (nI 0), .int (nI 0), .int (nI 0), .ref q2, .ref q3, .ref q4, .ref q5, .ref q6, .null, .null, .null])), (q1, .inl (cA1, 36, .inl (aN z0))), (q2, .inl (cA1, 396, .inl (aN z0))), (q3, .inl (cA1, 66, .inl (aN z0))), (q4, .inl (cA4, 66, .inl (aN z0))), (q5, .inl (cA1, 66, .inl (aN z0))), (q6, .inl (cA1, 66, .inl (aN z0))), (q7, .inl (cA1, 66, .inl (eA o1)))] H := hP
  have hD : va_D A0 [(a, .inr (0, [.ref q1, .int (nI 0), .int (nI 0), .int (nI 0), .int (nI 0), .int (nI 0), .ref q2, .ref q3, .ref q4, .ref q5, .ref q6, .null, .null, .null])), (q1, .inl (cA1, 36, .inl (aN z0))), (q2, .inl (cA1, 396, .inl (aN z0))), (q3, .inl (cA1, 66, .inl (aN z0))), (q4, .inl (cA4, 66, .inl (aN z0))), (q5, .inl (cA1, 66, .inl (aN z0))), (q6, .inl (cA1, 66, .inl (aN z0))), (q7, .inl (cA1, 66, .inl (eA o1)))] := hD
  refine va_putF (D := D) (ci := 0) (v := .ref q7) (ty := .array .byte) (C := RX0) (T := TX0) (N := 14) hx hb hts in_X0 tyX0 tyX0_ok nmX0 hown hK hP hD hS 0 rfl rfl 11 (by decide) (hts _ q39) (fun _ h9 => h9) rfl hin rfl (by decide +kernel) rfl rfl (Nat.le_of_ble_eq_true rfl) dX0_init_58 (fun H locs7 hP hD hS => ?_)
  have hP : va_P D vwCl [(a, .inr (0, [.ref q1, .int (nI 0), .int (nI 0), .int (nI 0), .int (nI 0), .int (nI 0), .ref q2, .ref q3, .ref q4, .ref q5, .ref q6, .ref q7, .null, .null])), (q1, .inl (cA1, 36, .inl (aN z0))), (q2, .inl (cA1, 396, .inl (aN z0))), (q3, .inl (cA1, 66, .inl (aN z0))), (q4, .inl (cA4, 66, .inl (aN z0))), (q5, .inl (cA1, 66, .inl (aN z0))), (q6, .inl (cA1, 66, .inl (aN z0))), (q7, .inl (cA1, 66, .inl (eA o1)))] H := hP
  have hD : va_D A0 [(a, .inr (0, [.ref q1, .int (nI 0), .int (nI 0), .int (nI 0), .int (nI 0), .int (nI 0), .ref q2, .ref q3, .ref q4, .ref q5, .ref q6, .ref q7, .null, .null])), (q1, .inl (cA1, 36, .inl (aN z0))), (q2, .inl (cA1, 396, .inl (aN z0))), (q3, .inl (cA1, 66, .inl (aN z0))), (q4, .inl (cA4, 66, .inl (aN z0))), (q5, .inl (cA1, 66, .inl (aN z0))), (q6, .inl (cA1, 66, .inl (aN z0))), (q7, .inl (cA1, 66, .inl (eA o1)))] := hD
  refine lv_aload_n hx hb dX0_init_61 rfl (lv_at hl 0 rfl) ?_
  refine lv_bipush (v := 66) hx hb dX0_init_62 (by decide) ?_
  refine va_newa (atype := .byte) (a0 := (66, .inl (aN z0))) (N' := 66) (ty := .byte) hx hb (hts _ q71) rfl hK hP hD hS hA (fun cA => rfl) (by decide) (by decide) (Nat.le_of_ble_eq_true rfl) (Nat.le_of_ble_eq_true rfl) (Nat.le_of_ble_eq_true rfl) dX0_init_64 (fun q8 cA8 H hK hP hD hS => ?_)
  refine W.widen (k := 8) (n := 828) (Nat.le_of_ble_eq_true rfl) (Nat.le_of_ble_eq_true rfl) ?_
  have hK : va_K D vwCl [(cA1, .byte), (cA4, .short), (cA8, .byte)] s := hK
  have eC := same_b hK 0 2 rfl rfl
  subst eC
  have hK := hK.sub (tys' := [(cA1, .byte), (cA4, .short)]) [0, 1] rfl
  have hP : va_P D vwCl [(a, .inr (0, [.ref q1, .int (nI 0), .int (nI 0), .int (nI 0), .int (nI 0), .int (nI 0), .ref q2, .ref q3, .ref q4, .ref q5, .ref q6, .ref q7, .null, .null])), (q1, .inl (cA1, 36, .inl (aN z0))), (q2, .inl (cA1, 396, .inl (aN z0))), (q3, .inl (cA1, 66, .inl (aN z0))), (q4, .inl (cA4, 66, .inl (aN z0))), (q5, .inl (cA1, 66, .inl (aN z0))), (q6, .inl (cA1, 66, .inl (aN z0))), (q7, .inl (cA1, 66, .inl (eA o1))), (q8, .inl (cA1, 66, .inl (aN z0)))] H := hP
  have hD : va_D A0 [(a, .inr (0, [.ref q1, .int (nI 0), .int (nI 0), .int (nI 0), .int (nI 0), .int (nI 0), .ref q2, .ref q3, .ref q4, .ref q5, .ref q6, .ref q7, .null, .null])), (q1, .inl (cA1, 36, .inl (aN z0))), (q2, .inl (cA1, 396, .inl (aN z0))), (q3, .inl (cA1, 66, .inl (aN z0))), (q4, .inl (cA4, 66, .inl (aN z0))), (q5, .inl (cA1, 66, .inl (aN z0))), (q6, .inl (cA1, 66, .inl (aN z0))), (q7, .inl (cA1, 66, .inl (eA o1))), (q8, .inl (cA1, 66, .inl (aN z0)))] := hD
  refine va_putF (D := D) (ci := 0) (v := .ref q8) (ty := .array .byte) (C := RX0) (T := TX0) (N := 14) hx hb hts in_X0 tyX0 tyX0_ok nmX0 hown hK hP hD hS 0 rfl rfl 12 (by decide) (hts _ q40) (fun _ h9 => h9) rfl hin rfl (by decide +kernel) rfl rfl (Nat.le_of_ble_eq_true rfl) dX0_init_66 (fun H locs8 hP hD hS => ?_)
  have hP : va_P D vwCl [(a, .inr (0, [.ref q1, .int (nI 0), .int (nI 0), .int (nI 0), .int (nI 0), .int (nI 0), .ref q2, .ref q3, .ref q4, .ref q5, .ref q6, .ref q7, .ref q8, .null])), (q1, .inl (cA1, 36, .inl (aN z0))), (q2, .inl (cA1, 396, .inl (aN z0))), (q3, .inl (cA1, 66, .inl (aN z0))), (q4, .inl (cA4, 66, .inl (aN z0))), (q5, .inl (cA1, 66, .inl (aN z0))), (q6, .inl (cA1, 66, .inl (aN z0))), (q7, .inl (cA1, 66, .inl (eA o1))), (q8, .inl (cA1, 66, .inl (aN z0)))] H := hP
  have hD : va_D A0 [(a, .inr (0, [.ref q1, .int (nI 0), .int (nI 0), .int (nI 0), .int (nI 0), .int (nI 0), .ref q2, .ref q3, .ref q4, .ref q5, .ref q6, .ref q7, .ref q8, .null])), (q1, .inl (cA1, 36, .inl (aN z0))), (q2, .inl (cA1, 396, .inl (aN z0))), (q3, .inl (cA1, 66, .inl (aN z0))), (q4, .inl (cA4, 66, .inl (aN z0))), (q5, .inl (cA1, 66, .inl (aN z0))), (q6, .inl (cA1, 66, .inl (aN z0))), (q7, .inl (cA1, 66, .inl (eA o1))), (q8, .inl (cA1, 66, .inl (aN z0)))] := hD
  refine lv_aload_n hx hb dX0_init_69 rfl (lv_at hl 0 rfl) ?_
  refine lv_bipush (v := 6) hx hb dX0_init_70 (by decide) ?_
  refine va_newa (atype := .int) (a0 := (6, .inl (aN z0))) (N' := 6) (ty := .int) hx hb (hts _ q73) rfl hK hP hD hS hA (fun cA => rfl) (by decide) (by decide) (Nat.le_of_ble_eq_true rfl) (Nat.le_of_ble_eq_true rfl) (Nat.le_of_ble_eq_true rfl) dX0_init_72 (fun q9 cA9 H hK hP hD hS => ?_)
  refine W.widen (k := 9) (n := 834) (Nat.le_of_ble_eq_true rfl) (Nat.le_of_ble_eq_true rfl) ?_
  have hK : va_K D vwCl [(cA1, .byte), (cA4, .short), (cA9, .int)] s := hK
  have hP : va_P D vwCl [(a, .inr (0, [.ref q1, .int (nI 0), .int (nI 0), .int (nI 0), .int (nI 0), .int (nI 0), .ref q2, .ref q3, .ref q4, .ref q5, .ref q6, .ref q7, .ref q8, .null])), (q1, .inl (cA1, 36, .inl (aN z0))), (q2, .inl (cA1, 396, .inl (aN z0))), (q3, .inl (cA1, 66, .inl (aN z0))), (q4, .inl (cA4, 66, .inl (aN z0))), (q5, .inl (cA1, 66, .inl (aN z0))), (q6, .inl (cA1, 66, .inl (aN z0))), (q7, .inl (cA1, 66, .inl (eA o1))), (q8, .inl (cA1, 66, .inl (aN z0))), (q9, .inl (cA9, 6, .inl (aN z0)))] H := hP
  have hD : va_D A0 [(a, .inr (0, [.ref q1, .int (nI 0), .int (nI 0), .int (nI 0), .int (nI 0), .int (nI 0), .ref q2, .ref q3, .ref q4, .ref q5, .ref q6, .ref q7, .ref q8, .null])), (q1, .inl (cA1, 36, .inl (aN z0))), (q2, .inl (cA1, 396, .inl (aN z0))), (q3, .inl (cA1, 66, .inl (aN z0))), (q4, .inl (cA4, 66, .inl (aN z0))), (q5, .inl (cA1, 66, .inl (aN z0))), (q6, .inl (cA1, 66, .inl (aN z0))), (q7, .inl (cA1, 66, .inl (eA o1))), (q8, .inl (cA1, 66, .inl (aN z0))), (q9, .inl (cA9, 6, .inl (aN z0)))] := hD
  refine va_putF (D := D) (ci := 0) (v := .ref q9) (ty := .array .int) (C := RX0) (T := TX0) (N := 14) hx hb hts in_X0 tyX0 tyX0_ok nmX0 hown hK hP hD hS 0 rfl rfl 13 (by decide) (hts _ q41) (fun _ h9 => h9) rfl hin rfl (by decide +kernel) rfl rfl (Nat.le_of_ble_eq_true rfl) dX0_init_74 (fun H locs9 hP hD hS => ?_)
  have hP : va_P D vwCl [(a, .inr (0, [.ref q1, .int (nI 0), .int (nI 0), .int (nI 0), .int (nI 0), .int (nI 0), .ref q2, .ref q3, .ref q4, .ref q5, .ref q6, .ref q7, .ref q8, .ref q9])), (q1, .inl (cA1, 36, .inl (aN z0))), (q2, .inl (cA1, 396, .inl (aN z0))), (q3, .inl (cA1, 66, .inl (aN z0))), (q4, .inl (cA4, 66, .inl (aN z0))), (q5, .inl (cA1, 66, .inl (aN z0))), (q6, .inl (cA1, 66, .inl (aN z0))), (q7, .inl (cA1, 66, .inl (eA o1))), (q8, .inl (cA1, 66, .inl (aN z0))), (q9, .inl (cA9, 6, .inl (aN z0)))] H := hP
  have hD : va_D A0 [(a, .inr (0, [.ref q1, .int (nI 0), .int (nI 0), .int (nI 0), .int (nI 0), .int (nI 0), .ref q2, .ref q3, .ref q4, .ref q5, .ref q6, .ref q7, .ref q8, .ref q9])), (q1, .inl (cA1, 36, .inl (aN z0))), (q2, .inl (cA1, 396, .inl (aN z0))), (q3, .inl (cA1, 66, .inl (aN z0))), (q4, .inl (cA4, 66, .inl (aN z0))), (q5, .inl (cA1, 66, .inl (aN z0))), (q6, .inl (cA1, 66, .inl (aN z0))), (q7, .inl (cA1, 66, .inl (eA o1))), (q8, .inl (cA1, 66, .inl (aN z0))), (q9, .inl (cA9, 6, .inl (aN z0)))] := hD
  subst hAe
  exact W.vret hx hb hr (fun t ht hW => ⟨⟨(fun i => [a, q1, q2, q3, q4, q5, q6, q7, q8, q9].getD i 0, cA1, cA4, cA9), rfl, trivial, rfl, by rw [ht]; exact hP, va_K.moved hW.alike hK, hD⟩, hS.F ht⟩) hS.2.2 dX0_init_77
theorem cM_init (a : Nat) (l : Launch) (D : va_G) (sz : Nat) : Met l yX1_init (ws_ yX1_init cX1_init 1 none) (rmI 3 166) (va_Pc [.ref a] (GB D [] [(a, .inr (1, fsM))] sz)) (va_Qv (fun _ : (Nat → Nat) × ClassId => True) (BM0 D a (va_A [(a, .inr (1, fsM))] sz)) (va_A [(a, .inr (1, fsM))] sz)) 3 166 (va_A [(a, .inr (1, fsM))] sz) := by
  refine Met.ofW (cc := cX1_init) (maxL := 1) (ret := none) (by decide) rfl ?_
  intro p e s m args below meth c s₁ B hml hv
  obtain ⟨rfl, hsz, hP, hK, hD0⟩ := hv
  have hx := B.exec
  have hb := B.bytes
  have hr := B.returns
  have hts := atoms_spec (ws := ws_ yX1_init cX1_init 1 none) B.pre
  have hts : ∀ w ∈ lw_all, w.before _ s = true := fun w h => hts w (List.mem_cons_of_mem _ h)
  have hown : s.vm.findClass RX1 = some m.cls := findClass_of_methodNamed B.named
  have hlocks := B.notSynchronized
  have hin : meth.name = "<init>" := (name_of_methodNamed B.named B.method).1
  subst hsz
  have hD := hD0.self (sz := s.heap.size)
  generalize hAe : va_A [(a, .inr (1, fsM))] s.heap.size = A0 at hD ⊢
  have hA : ∀ q : Nat, s.heap.size ≤ q → A0 q := fun q h => by rw [← hAe]; exact Or.inr h
  have hS : va_S A0 s.heap s.heap [] := va_S.rf
  have hP : va_P D vwCl [(a, .inr (1, fsM))] s.heap := hP
  have hl := lv_entry ([.ref a]) (n := 1) (Nat.le_of_ble_eq_true rfl)
  rw [lg_entry_eq]
  generalize (lg_sl ([.ref a]) ++ List.replicate (1 - (lg_sl ([.ref a])).length) Slot.unset).toArray = ls at hl ⊢
  have hl : lv_has ls 1 [(0, .ref a)] := hl
  refine lv_aload_n hx hb dX1_init_0 rfl (lv_at hl 0 rfl) ?_
  refine W.objInit hx hb hown (hts _ q176) (hts _ q26) (hts _ q27) rfl (by rw [hml]; exact hl.1) rfl dX1_init_1 (Nat.le_of_ble_eq_true rfl) (Nat.le_of_ble_eq_true rfl) ?_
  refine W.eq (g2 := F0 m 4 ls []) rfl ?_
  refine lv_aload_n hx hb dX1_init_4 rfl (lv_at hl 0 rfl) ?_
  refine lv_bipush (v := 36) hx hb dX1_init_5 (by decide) ?_
  refine va_newa (atype := .int) (a0 := (36, .inl (aN z0))) (N' := 36) (ty := .int) hx hb (hts _ q73) rfl hK hP hD hS hA (fun cA => rfl) (by decide) (by decide) (Nat.le_of_ble_eq_true rfl) (Nat.le_of_ble_eq_true rfl) (Nat.le_of_ble_eq_true rfl) dX1_init_7 (fun q1 cA1 H hK hP hD hS => ?_)
  refine W.widen (k := 1) (n := 36) (Nat.le_of_ble_eq_true rfl) (Nat.le_of_ble_eq_true rfl) ?_
  have hK : va_K D vwCl [(cA1, .int)] s := hK
  have hP : va_P D vwCl [(a, .inr (1, [.null, .int (nI 0), .null, .null])), (q1, .inl (cA1, 36, .inl (aN z0)))] H := hP
  have hD : va_D A0 [(a, .inr (1, [.null, .int (nI 0), .null, .null])), (q1, .inl (cA1, 36, .inl (aN z0)))] := hD
  refine va_put (D := D) (ci := 1) (v := .ref q1) (ty := .array .int) (C := RX1) (T := TX1) (N := 4) hx hb hts in_X1 tyX1 tyX1_ok nmX1 hown hK hP hD hS 0 rfl rfl 0 (by decide) (hts _ q177) (fun _ h9 => h9) rfl (by decide +kernel) rfl rfl (Nat.le_of_ble_eq_true rfl) dX1_init_9 (fun H locs1 hP hD hS => ?_)
  have hP : va_P D vwCl [(a, .inr (1, [.ref q1, .int (nI 0), .null, .null])), (q1, .inl (cA1, 36, .inl (aN z0)))] H := hP
  have hD : va_D A0 [(a, .inr (1, [.ref q1, .int (nI 0), .null, .null])), (q1, .inl (cA1, 36, .inl (aN z0)))] := hD
  refine lv_aload_n hx hb dX1_init_12 rfl (lv_at hl 0 rfl) ?_
  refine lv_bipush (v := 65) hx hb dX1_init_13 (by decide) ?_
  refine va_newa (atype := .int) (a0 := (65, .inl (aN z0))) (N' := 65) (ty := .int) hx hb (hts _ q73) rfl hK hP hD hS hA (fun cA => rfl) (by decide) (by decide) (Nat.le_of_ble_eq_true rfl) (Nat.le_of_ble_eq_true rfl) (Nat.le_of_ble_eq_true rfl) dX1_init_15 (fun q2 cA2 H hK hP hD hS => ?_)
  refine W.widen (k := 2) (n := 101) (Nat.le_of_ble_eq_true rfl) (Nat.le_of_ble_eq_true rfl) ?_
  have hK : va_K D vwCl [(cA1, .int), (cA2, .int)] s := hK
  have eC := same_i hK 0 1 rfl rfl
  subst eC
  have hK := hK.sub (tys' := [(cA1, .int)]) [0] rfl
  have hP : va_P D vwCl [(a, .inr (1, [.ref q1, .int (nI 0), .null, .null])), (q1, .inl (cA1, 36, .inl (aN z0))), (q2, .inl (cA1, 65, .inl (aN z0)))] H := hP
  have hD : va_D A0 [(a, .inr (1, [.ref q1, .int (nI 0), .null, .null])), (q1, .inl (cA1, 36, .inl (aN z0))), (q2, .inl (cA1, 65, .inl (aN z0)))] := hD
  refine va_put (D := D) (ci := 1) (v := .ref q2) (ty := .array .int) (C := RX1) (T := TX1) (N := 4) hx hb hts in_X1 tyX1 tyX1_ok nmX1 hown hK hP hD hS 0 rfl rfl 2 (by decide) (hts _ q179) (fun _ h9 => h9) rfl (by decide +kernel) rfl rfl (Nat.le_of_ble_eq_true rfl) dX1_init_17 (fun H locs2 hP hD hS => ?_)
  have hP : va_P D vwCl [(a, .inr (1, [.ref q1, .int (nI 0), .ref q2, .null])), (q1, .inl (cA1, 36, .inl (aN z0))), (q2, .inl (cA1, 65, .inl (aN z0)))] H := hP
  have hD : va_D A0 [(a, .inr (1, [.ref q1, .int (nI 0), .ref q2, .null])), (q1, .inl (cA1, 36, .inl (aN z0))), (q2, .inl (cA1, 65, .inl (aN z0)))] := hD
  refine lv_aload_n hx hb dX1_init_20 rfl (lv_at hl 0 rfl) ?_
  refine lv_bipush (v := 65) hx hb dX1_init_21 (by decide) ?_
  refine va_newa (atype := .int) (a0 := (65, .inl (aN z0))) (N' := 65) (ty := .int) hx hb (hts _ q73) rfl hK hP hD hS hA (fun cA => rfl) (by decide) (by decide) (Nat.le_of_ble_eq_true rfl) (Nat.le_of_ble_eq_true rfl) (Nat.le_of_ble_eq_true rfl) dX1_init_23 (fun q3 cA3 H hK hP hD hS => ?_)
  refine W.widen (k := 3) (n := 166) (Nat.le_of_ble_eq_true rfl) (Nat.le_of_ble_eq_true rfl) ?_
  have hK : va_K D vwCl [(cA1, .int), (cA3, .int)] s := hK
  have eC := same_i hK 0 1 rfl rfl
  subst eC
  have hK := hK.sub (tys' := [(cA1, .int)]) [0] rfl
  have hP : va_P D vwCl [(a, .inr (1, [.ref q1, .int (nI 0), .ref q2, .null])), (q1, .inl (cA1, 36, .inl (aN z0))), (q2, .inl (cA1, 65, .inl (aN z0))), (q3, .inl (cA1, 65, .inl (aN z0)))] H := hP
  have hD : va_D A0 [(a, .inr (1, [.ref q1, .int (nI 0), .ref q2, .null])), (q1, .inl (cA1, 36, .inl (aN z0))), (q2, .inl (cA1, 65, .inl (aN z0))), (q3, .inl (cA1, 65, .inl (aN z0)))] := hD
  refine va_put (D := D) (ci := 1) (v := .ref q3) (ty := .array .int) (C := RX1) (T := TX1) (N := 4) hx hb hts in_X1 tyX1 tyX1_ok nmX1 hown hK hP hD hS 0 rfl rfl 3 (by decide) (hts _ q180) (fun _ h9 => h9) rfl (by decide +kernel) rfl rfl (Nat.le_of_ble_eq_true rfl) dX1_init_25 (fun H locs3 hP hD hS => ?_)
  have hP : va_P D vwCl [(a, .inr (1, [.ref q1, .int (nI 0), .ref q2, .ref q3])), (q1, .inl (cA1, 36, .inl (aN z0))), (q2, .inl (cA1, 65, .inl (aN z0))), (q3, .inl (cA1, 65, .inl (aN z0)))] H := hP
  have hD : va_D A0 [(a, .inr (1, [.ref q1, .int (nI 0), .ref q2, .ref q3])), (q1, .inl (cA1, 36, .inl (aN z0))), (q2, .inl (cA1, 65, .inl (aN z0))), (q3, .inl (cA1, 65, .inl (aN z0)))] := hD
  subst hAe
  exact W.vret hx hb hr (fun t ht hW => ⟨⟨(fun i => [a, q1, q2, q3].getD i 0, cA1), rfl, trivial, rfl, by rw [ht]; exact hP, va_K.moved hW.alike hK, hD⟩, hS.F ht⟩) hS.2.2 dX1_init_28
end
section
/-! the law's own entry -/
set_option maxRecDepth 100000
abbrev cL_law : ByteArray := code
theorem dL_law_0 : decode cL_law 0 = .ok (.new 7, 3) := by decide +kernel
theorem dL_law_3 : decode cL_law 3 = .ok (.dup, 1) := by decide +kernel
theorem dL_law_4 : decode cL_law 4 = .ok (.invokespecial 9, 3) := by decide +kernel
theorem dL_law_7 : decode cL_law 7 = .ok (.astore_n 1, 1) := by decide +kernel
theorem dL_law_8 : decode cL_law 8 = .ok (.new 10, 3) := by decide +kernel
theorem dL_law_11 : decode cL_law 11 = .ok (.dup, 1) := by decide +kernel
theorem dL_law_12 : decode cL_law 12 = .ok (.invokespecial 12, 3) := by decide +kernel
theorem dL_law_15 : decode cL_law 15 = .ok (.astore_n 2, 1) := by decide +kernel
theorem dL_law_16 : decode cL_law 16 = .ok (.iconst 0, 1) := by decide +kernel
theorem dL_law_17 : decode cL_law 17 = .ok (.istore_n 3, 1) := by decide +kernel
theorem dL_law_18 : decode cL_law 18 = .ok (.iload_n 3, 1) := by decide +kernel
theorem dL_law_19 : decode cL_law 19 = .ok (.aload_n 0, 1) := by decide +kernel
theorem dL_law_20 : decode cL_law 20 = .ok (.arraylength, 1) := by decide +kernel
theorem dL_law_21 : decode cL_law 21 = .ok (.iconst 5, 1) := by decide +kernel
theorem dL_law_22 : decode cL_law 22 = .ok (.isub, 1) := by decide +kernel
theorem dL_law_23 : decode cL_law 23 = .ok (.if_icmp .gt 582, 3) := by decide +kernel
theorem dL_law_26 : decode cL_law 26 = .ok (.aload_n 0, 1) := by decide +kernel
theorem dL_law_27 : decode cL_law 27 = .ok (.iload_n 3, 1) := by decide +kernel
theorem dL_law_28 : decode cL_law 28 = .ok (.iaload, 1) := by decide +kernel
theorem dL_law_29 : decode cL_law 29 = .ok (.bipush 15, 2) := by decide +kernel
theorem dL_law_31 : decode cL_law 31 = .ok (.iand, 1) := by decide +kernel
theorem dL_law_32 : decode cL_law 32 = .ok (.tableswitch 567 0 12 #[68, 111, 144, 177, 190, 223, 266, 319, 362, 405, 438, 471, 514], 68) := by decide +kernel
theorem dL_law_100 : decode cL_law 100 = .ok (.aload_n 1, 1) := by decide +kernel
theorem dL_law_101 : decode cL_law 101 = .ok (.aload_n 0, 1) := by decide +kernel
theorem dL_law_102 : decode cL_law 102 = .ok (.iload_n 3, 1) := by decide +kernel
theorem dL_law_103 : decode cL_law 103 = .ok (.iconst 1, 1) := by decide +kernel
theorem dL_law_104 : decode cL_law 104 = .ok (.iadd, 1) := by decide +kernel
theorem dL_law_105 : decode cL_law 105 = .ok (.iaload, 1) := by decide +kernel
theorem dL_law_106 : decode cL_law 106 = .ok (.aload_n 0, 1) := by decide +kernel
theorem dL_law_107 : decode cL_law 107 = .ok (.iload_n 3, 1) := by decide +kernel
theorem dL_law_108 : decode cL_law 108 = .ok (.iconst 2, 1) := by decide +kernel
theorem dL_law_109 : decode cL_law 109 = .ok (.iadd, 1) := by decide +kernel
theorem dL_law_110 : decode cL_law 110 = .ok (.iaload, 1) := by decide +kernel
theorem dL_law_111 : decode cL_law 111 = .ok (.aload_n 0, 1) := by decide +kernel
theorem dL_law_112 : decode cL_law 112 = .ok (.iload_n 3, 1) := by decide +kernel
theorem dL_law_113 : decode cL_law 113 = .ok (.iconst 3, 1) := by decide +kernel
theorem dL_law_114 : decode cL_law 114 = .ok (.iadd, 1) := by decide +kernel
theorem dL_law_115 : decode cL_law 115 = .ok (.iaload, 1) := by decide +kernel
theorem dL_law_116 : decode cL_law 116 = .ok (.invokevirtual 13, 3) := by decide +kernel
theorem dL_law_119 : decode cL_law 119 = .ok (.aload_n 2, 1) := by decide +kernel
theorem dL_law_120 : decode cL_law 120 = .ok (.aload_n 0, 1) := by decide +kernel
theorem dL_law_121 : decode cL_law 121 = .ok (.iload_n 3, 1) := by decide +kernel
theorem dL_law_122 : decode cL_law 122 = .ok (.iconst 1, 1) := by decide +kernel
theorem dL_law_123 : decode cL_law 123 = .ok (.iadd, 1) := by decide +kernel
theorem dL_law_124 : decode cL_law 124 = .ok (.iaload, 1) := by decide +kernel
theorem dL_law_125 : decode cL_law 125 = .ok (.aload_n 0, 1) := by decide +kernel
theorem dL_law_126 : decode cL_law 126 = .ok (.iload_n 3, 1) := by decide +kernel
theorem dL_law_127 : decode cL_law 127 = .ok (.iconst 2, 1) := by decide +kernel
theorem dL_law_128 : decode cL_law 128 = .ok (.iadd, 1) := by decide +kernel
theorem dL_law_129 : decode cL_law 129 = .ok (.iaload, 1) := by decide +kernel
theorem dL_law_130 : decode cL_law 130 = .ok (.aload_n 0, 1) := by decide +kernel
theorem dL_law_131 : decode cL_law 131 = .ok (.iload_n 3, 1) := by decide +kernel
theorem dL_law_132 : decode cL_law 132 = .ok (.iconst 3, 1) := by decide +kernel
theorem dL_law_133 : decode cL_law 133 = .ok (.iadd, 1) := by decide +kernel
theorem dL_law_134 : decode cL_law 134 = .ok (.iaload, 1) := by decide +kernel
theorem dL_law_135 : decode cL_law 135 = .ok (.invokevirtual 17, 3) := by decide +kernel
theorem dL_law_138 : decode cL_law 138 = .ok (.if_icmp .eq 461, 3) := by decide +kernel
theorem dL_law_141 : decode cL_law 141 = .ok (.iconst 0, 1) := by decide +kernel
theorem dL_law_142 : decode cL_law 142 = .ok (.ireturn, 1) := by decide +kernel
theorem dL_law_143 : decode cL_law 143 = .ok (.aload_n 1, 1) := by decide +kernel
theorem dL_law_144 : decode cL_law 144 = .ok (.aload_n 0, 1) := by decide +kernel
theorem dL_law_145 : decode cL_law 145 = .ok (.iload_n 3, 1) := by decide +kernel
theorem dL_law_146 : decode cL_law 146 = .ok (.iconst 1, 1) := by decide +kernel
theorem dL_law_147 : decode cL_law 147 = .ok (.iadd, 1) := by decide +kernel
theorem dL_law_148 : decode cL_law 148 = .ok (.iaload, 1) := by decide +kernel
theorem dL_law_149 : decode cL_law 149 = .ok (.aload_n 0, 1) := by decide +kernel
theorem dL_law_150 : decode cL_law 150 = .ok (.iload_n 3, 1) := by decide +kernel
theorem dL_law_151 : decode cL_law 151 = .ok (.iconst 2, 1) := by decide +kernel
theorem dL_law_152 : decode cL_law 152 = .ok (.iadd, 1) := by decide +kernel
theorem dL_law_153 : decode cL_law 153 = .ok (.iaload, 1) := by decide +kernel
theorem dL_law_154 : decode cL_law 154 = .ok (.invokevirtual 18, 3) := by decide +kernel
theorem dL_law_157 : decode cL_law 157 = .ok (.aload_n 2, 1) := by decide +kernel
theorem dL_law_158 : decode cL_law 158 = .ok (.aload_n 0, 1) := by decide +kernel
theorem dL_law_159 : decode cL_law 159 = .ok (.iload_n 3, 1) := by decide +kernel
theorem dL_law_160 : decode cL_law 160 = .ok (.iconst 1, 1) := by decide +kernel
theorem dL_law_161 : decode cL_law 161 = .ok (.iadd, 1) := by decide +kernel
theorem dL_law_162 : decode cL_law 162 = .ok (.iaload, 1) := by decide +kernel
theorem dL_law_163 : decode cL_law 163 = .ok (.aload_n 0, 1) := by decide +kernel
theorem dL_law_164 : decode cL_law 164 = .ok (.iload_n 3, 1) := by decide +kernel
theorem dL_law_165 : decode cL_law 165 = .ok (.iconst 2, 1) := by decide +kernel
theorem dL_law_166 : decode cL_law 166 = .ok (.iadd, 1) := by decide +kernel
theorem dL_law_167 : decode cL_law 167 = .ok (.iaload, 1) := by decide +kernel
theorem dL_law_168 : decode cL_law 168 = .ok (.invokevirtual 22, 3) := by decide +kernel
theorem dL_law_171 : decode cL_law 171 = .ok (.if_icmp .eq 428, 3) := by decide +kernel
theorem dL_law_174 : decode cL_law 174 = .ok (.iconst 0, 1) := by decide +kernel
theorem dL_law_175 : decode cL_law 175 = .ok (.ireturn, 1) := by decide +kernel
theorem dL_law_176 : decode cL_law 176 = .ok (.aload_n 1, 1) := by decide +kernel
theorem dL_law_177 : decode cL_law 177 = .ok (.aload_n 0, 1) := by decide +kernel
theorem dL_law_178 : decode cL_law 178 = .ok (.iload_n 3, 1) := by decide +kernel
theorem dL_law_179 : decode cL_law 179 = .ok (.iconst 1, 1) := by decide +kernel
theorem dL_law_180 : decode cL_law 180 = .ok (.iadd, 1) := by decide +kernel
theorem dL_law_181 : decode cL_law 181 = .ok (.iaload, 1) := by decide +kernel
theorem dL_law_182 : decode cL_law 182 = .ok (.aload_n 0, 1) := by decide +kernel
theorem dL_law_183 : decode cL_law 183 = .ok (.iload_n 3, 1) := by decide +kernel
theorem dL_law_184 : decode cL_law 184 = .ok (.iconst 2, 1) := by decide +kernel
theorem dL_law_185 : decode cL_law 185 = .ok (.iadd, 1) := by decide +kernel
theorem dL_law_186 : decode cL_law 186 = .ok (.iaload, 1) := by decide +kernel
theorem dL_law_187 : decode cL_law 187 = .ok (.invokevirtual 23, 3) := by decide +kernel
theorem dL_law_190 : decode cL_law 190 = .ok (.aload_n 2, 1) := by decide +kernel
theorem dL_law_191 : decode cL_law 191 = .ok (.aload_n 0, 1) := by decide +kernel
theorem dL_law_192 : decode cL_law 192 = .ok (.iload_n 3, 1) := by decide +kernel
theorem dL_law_193 : decode cL_law 193 = .ok (.iconst 1, 1) := by decide +kernel
theorem dL_law_194 : decode cL_law 194 = .ok (.iadd, 1) := by decide +kernel
theorem dL_law_195 : decode cL_law 195 = .ok (.iaload, 1) := by decide +kernel
theorem dL_law_196 : decode cL_law 196 = .ok (.aload_n 0, 1) := by decide +kernel
theorem dL_law_197 : decode cL_law 197 = .ok (.iload_n 3, 1) := by decide +kernel
theorem dL_law_198 : decode cL_law 198 = .ok (.iconst 2, 1) := by decide +kernel
theorem dL_law_199 : decode cL_law 199 = .ok (.iadd, 1) := by decide +kernel
theorem dL_law_200 : decode cL_law 200 = .ok (.iaload, 1) := by decide +kernel
theorem dL_law_201 : decode cL_law 201 = .ok (.invokevirtual 27, 3) := by decide +kernel
theorem dL_law_204 : decode cL_law 204 = .ok (.if_icmp .eq 395, 3) := by decide +kernel
theorem dL_law_207 : decode cL_law 207 = .ok (.iconst 0, 1) := by decide +kernel
theorem dL_law_208 : decode cL_law 208 = .ok (.ireturn, 1) := by decide +kernel
theorem dL_law_209 : decode cL_law 209 = .ok (.aload_n 1, 1) := by decide +kernel
theorem dL_law_210 : decode cL_law 210 = .ok (.invokevirtual 28, 3) := by decide +kernel
theorem dL_law_213 : decode cL_law 213 = .ok (.aload_n 2, 1) := by decide +kernel
theorem dL_law_214 : decode cL_law 214 = .ok (.invokevirtual 32, 3) := by decide +kernel
theorem dL_law_217 : decode cL_law 217 = .ok (.if_icmp .eq 382, 3) := by decide +kernel
theorem dL_law_220 : decode cL_law 220 = .ok (.iconst 0, 1) := by decide +kernel
theorem dL_law_221 : decode cL_law 221 = .ok (.ireturn, 1) := by decide +kernel
theorem dL_law_222 : decode cL_law 222 = .ok (.aload_n 1, 1) := by decide +kernel
theorem dL_law_223 : decode cL_law 223 = .ok (.aload_n 0, 1) := by decide +kernel
theorem dL_law_224 : decode cL_law 224 = .ok (.iload_n 3, 1) := by decide +kernel
theorem dL_law_225 : decode cL_law 225 = .ok (.iconst 1, 1) := by decide +kernel
theorem dL_law_226 : decode cL_law 226 = .ok (.iadd, 1) := by decide +kernel
theorem dL_law_227 : decode cL_law 227 = .ok (.iaload, 1) := by decide +kernel
theorem dL_law_228 : decode cL_law 228 = .ok (.aload_n 0, 1) := by decide +kernel
theorem dL_law_229 : decode cL_law 229 = .ok (.iload_n 3, 1) := by decide +kernel
theorem dL_law_230 : decode cL_law 230 = .ok (.iconst 2, 1) := by decide +kernel
theorem dL_law_231 : decode cL_law 231 = .ok (.iadd, 1) := by decide +kernel
theorem dL_law_232 : decode cL_law 232 = .ok (.iaload, 1) := by decide +kernel
theorem dL_law_233 : decode cL_law 233 = .ok (.invokevirtual 33, 3) := by decide +kernel
theorem dL_law_236 : decode cL_law 236 = .ok (.aload_n 2, 1) := by decide +kernel
theorem dL_law_237 : decode cL_law 237 = .ok (.aload_n 0, 1) := by decide +kernel
theorem dL_law_238 : decode cL_law 238 = .ok (.iload_n 3, 1) := by decide +kernel
theorem dL_law_239 : decode cL_law 239 = .ok (.iconst 1, 1) := by decide +kernel
theorem dL_law_240 : decode cL_law 240 = .ok (.iadd, 1) := by decide +kernel
theorem dL_law_241 : decode cL_law 241 = .ok (.iaload, 1) := by decide +kernel
theorem dL_law_242 : decode cL_law 242 = .ok (.aload_n 0, 1) := by decide +kernel
theorem dL_law_243 : decode cL_law 243 = .ok (.iload_n 3, 1) := by decide +kernel
theorem dL_law_244 : decode cL_law 244 = .ok (.iconst 2, 1) := by decide +kernel
theorem dL_law_245 : decode cL_law 245 = .ok (.iadd, 1) := by decide +kernel
theorem dL_law_246 : decode cL_law 246 = .ok (.iaload, 1) := by decide +kernel
theorem dL_law_247 : decode cL_law 247 = .ok (.invokevirtual 36, 3) := by decide +kernel
theorem dL_law_250 : decode cL_law 250 = .ok (.if_icmp .eq 349, 3) := by decide +kernel
theorem dL_law_253 : decode cL_law 253 = .ok (.iconst 0, 1) := by decide +kernel
theorem dL_law_254 : decode cL_law 254 = .ok (.ireturn, 1) := by decide +kernel
theorem dL_law_255 : decode cL_law 255 = .ok (.aload_n 1, 1) := by decide +kernel
theorem dL_law_256 : decode cL_law 256 = .ok (.aload_n 0, 1) := by decide +kernel
end
section
set_option maxRecDepth 100000
theorem dL_law_257 : decode cL_law 257 = .ok (.iload_n 3, 1) := by decide +kernel
theorem dL_law_258 : decode cL_law 258 = .ok (.iconst 1, 1) := by decide +kernel
theorem dL_law_259 : decode cL_law 259 = .ok (.iadd, 1) := by decide +kernel
theorem dL_law_260 : decode cL_law 260 = .ok (.iaload, 1) := by decide +kernel
theorem dL_law_261 : decode cL_law 261 = .ok (.aload_n 0, 1) := by decide +kernel
theorem dL_law_262 : decode cL_law 262 = .ok (.iload_n 3, 1) := by decide +kernel
theorem dL_law_263 : decode cL_law 263 = .ok (.iconst 2, 1) := by decide +kernel
theorem dL_law_264 : decode cL_law 264 = .ok (.iadd, 1) := by decide +kernel
theorem dL_law_265 : decode cL_law 265 = .ok (.iaload, 1) := by decide +kernel
theorem dL_law_266 : decode cL_law 266 = .ok (.aload_n 0, 1) := by decide +kernel
theorem dL_law_267 : decode cL_law 267 = .ok (.iload_n 3, 1) := by decide +kernel
theorem dL_law_268 : decode cL_law 268 = .ok (.iconst 3, 1) := by decide +kernel
theorem dL_law_269 : decode cL_law 269 = .ok (.iadd, 1) := by decide +kernel
theorem dL_law_270 : decode cL_law 270 = .ok (.iaload, 1) := by decide +kernel
theorem dL_law_271 : decode cL_law 271 = .ok (.invokevirtual 37, 3) := by decide +kernel
theorem dL_law_274 : decode cL_law 274 = .ok (.aload_n 2, 1) := by decide +kernel
theorem dL_law_275 : decode cL_law 275 = .ok (.aload_n 0, 1) := by decide +kernel
theorem dL_law_276 : decode cL_law 276 = .ok (.iload_n 3, 1) := by decide +kernel
theorem dL_law_277 : decode cL_law 277 = .ok (.iconst 1, 1) := by decide +kernel
theorem dL_law_278 : decode cL_law 278 = .ok (.iadd, 1) := by decide +kernel
theorem dL_law_279 : decode cL_law 279 = .ok (.iaload, 1) := by decide +kernel
theorem dL_law_280 : decode cL_law 280 = .ok (.aload_n 0, 1) := by decide +kernel
theorem dL_law_281 : decode cL_law 281 = .ok (.iload_n 3, 1) := by decide +kernel
theorem dL_law_282 : decode cL_law 282 = .ok (.iconst 2, 1) := by decide +kernel
theorem dL_law_283 : decode cL_law 283 = .ok (.iadd, 1) := by decide +kernel
theorem dL_law_284 : decode cL_law 284 = .ok (.iaload, 1) := by decide +kernel
theorem dL_law_285 : decode cL_law 285 = .ok (.aload_n 0, 1) := by decide +kernel
theorem dL_law_286 : decode cL_law 286 = .ok (.iload_n 3, 1) := by decide +kernel
theorem dL_law_287 : decode cL_law 287 = .ok (.iconst 3, 1) := by decide +kernel
theorem dL_law_288 : decode cL_law 288 = .ok (.iadd, 1) := by decide +kernel
theorem dL_law_289 : decode cL_law 289 = .ok (.iaload, 1) := by decide +kernel
theorem dL_law_290 : decode cL_law 290 = .ok (.invokevirtual 41, 3) := by decide +kernel
theorem dL_law_293 : decode cL_law 293 = .ok (.if_icmp .eq 306, 3) := by decide +kernel
theorem dL_law_296 : decode cL_law 296 = .ok (.iconst 0, 1) := by decide +kernel
theorem dL_law_297 : decode cL_law 297 = .ok (.ireturn, 1) := by decide +kernel
theorem dL_law_298 : decode cL_law 298 = .ok (.aload_n 1, 1) := by decide +kernel
theorem dL_law_299 : decode cL_law 299 = .ok (.aload_n 0, 1) := by decide +kernel
theorem dL_law_300 : decode cL_law 300 = .ok (.iload_n 3, 1) := by decide +kernel
theorem dL_law_301 : decode cL_law 301 = .ok (.iconst 1, 1) := by decide +kernel
theorem dL_law_302 : decode cL_law 302 = .ok (.iadd, 1) := by decide +kernel
theorem dL_law_303 : decode cL_law 303 = .ok (.iaload, 1) := by decide +kernel
theorem dL_law_304 : decode cL_law 304 = .ok (.aload_n 0, 1) := by decide +kernel
theorem dL_law_305 : decode cL_law 305 = .ok (.iload_n 3, 1) := by decide +kernel
theorem dL_law_306 : decode cL_law 306 = .ok (.iconst 2, 1) := by decide +kernel
theorem dL_law_307 : decode cL_law 307 = .ok (.iadd, 1) := by decide +kernel
theorem dL_law_308 : decode cL_law 308 = .ok (.iaload, 1) := by decide +kernel
theorem dL_law_309 : decode cL_law 309 = .ok (.aload_n 0, 1) := by decide +kernel
theorem dL_law_310 : decode cL_law 310 = .ok (.iload_n 3, 1) := by decide +kernel
theorem dL_law_311 : decode cL_law 311 = .ok (.iconst 3, 1) := by decide +kernel
theorem dL_law_312 : decode cL_law 312 = .ok (.iadd, 1) := by decide +kernel
theorem dL_law_313 : decode cL_law 313 = .ok (.iaload, 1) := by decide +kernel
theorem dL_law_314 : decode cL_law 314 = .ok (.aload_n 0, 1) := by decide +kernel
theorem dL_law_315 : decode cL_law 315 = .ok (.iload_n 3, 1) := by decide +kernel
theorem dL_law_316 : decode cL_law 316 = .ok (.iconst 4, 1) := by decide +kernel
theorem dL_law_317 : decode cL_law 317 = .ok (.iadd, 1) := by decide +kernel
theorem dL_law_318 : decode cL_law 318 = .ok (.iaload, 1) := by decide +kernel
theorem dL_law_319 : decode cL_law 319 = .ok (.invokevirtual 42, 3) := by decide +kernel
theorem dL_law_322 : decode cL_law 322 = .ok (.aload_n 2, 1) := by decide +kernel
theorem dL_law_323 : decode cL_law 323 = .ok (.aload_n 0, 1) := by decide +kernel
theorem dL_law_324 : decode cL_law 324 = .ok (.iload_n 3, 1) := by decide +kernel
theorem dL_law_325 : decode cL_law 325 = .ok (.iconst 1, 1) := by decide +kernel
theorem dL_law_326 : decode cL_law 326 = .ok (.iadd, 1) := by decide +kernel
theorem dL_law_327 : decode cL_law 327 = .ok (.iaload, 1) := by decide +kernel
theorem dL_law_328 : decode cL_law 328 = .ok (.aload_n 0, 1) := by decide +kernel
theorem dL_law_329 : decode cL_law 329 = .ok (.iload_n 3, 1) := by decide +kernel
theorem dL_law_330 : decode cL_law 330 = .ok (.iconst 2, 1) := by decide +kernel
theorem dL_law_331 : decode cL_law 331 = .ok (.iadd, 1) := by decide +kernel
theorem dL_law_332 : decode cL_law 332 = .ok (.iaload, 1) := by decide +kernel
theorem dL_law_333 : decode cL_law 333 = .ok (.aload_n 0, 1) := by decide +kernel
theorem dL_law_334 : decode cL_law 334 = .ok (.iload_n 3, 1) := by decide +kernel
theorem dL_law_335 : decode cL_law 335 = .ok (.iconst 3, 1) := by decide +kernel
theorem dL_law_336 : decode cL_law 336 = .ok (.iadd, 1) := by decide +kernel
theorem dL_law_337 : decode cL_law 337 = .ok (.iaload, 1) := by decide +kernel
theorem dL_law_338 : decode cL_law 338 = .ok (.aload_n 0, 1) := by decide +kernel
theorem dL_law_339 : decode cL_law 339 = .ok (.iload_n 3, 1) := by decide +kernel
theorem dL_law_340 : decode cL_law 340 = .ok (.iconst 4, 1) := by decide +kernel
theorem dL_law_341 : decode cL_law 341 = .ok (.iadd, 1) := by decide +kernel
theorem dL_law_342 : decode cL_law 342 = .ok (.iaload, 1) := by decide +kernel
theorem dL_law_343 : decode cL_law 343 = .ok (.invokevirtual 46, 3) := by decide +kernel
theorem dL_law_346 : decode cL_law 346 = .ok (.if_icmp .eq 253, 3) := by decide +kernel
theorem dL_law_349 : decode cL_law 349 = .ok (.iconst 0, 1) := by decide +kernel
theorem dL_law_350 : decode cL_law 350 = .ok (.ireturn, 1) := by decide +kernel
theorem dL_law_351 : decode cL_law 351 = .ok (.aload_n 1, 1) := by decide +kernel
theorem dL_law_352 : decode cL_law 352 = .ok (.aload_n 0, 1) := by decide +kernel
theorem dL_law_353 : decode cL_law 353 = .ok (.iload_n 3, 1) := by decide +kernel
theorem dL_law_354 : decode cL_law 354 = .ok (.iconst 1, 1) := by decide +kernel
theorem dL_law_355 : decode cL_law 355 = .ok (.iadd, 1) := by decide +kernel
theorem dL_law_356 : decode cL_law 356 = .ok (.iaload, 1) := by decide +kernel
theorem dL_law_357 : decode cL_law 357 = .ok (.aload_n 0, 1) := by decide +kernel
theorem dL_law_358 : decode cL_law 358 = .ok (.iload_n 3, 1) := by decide +kernel
theorem dL_law_359 : decode cL_law 359 = .ok (.iconst 2, 1) := by decide +kernel
theorem dL_law_360 : decode cL_law 360 = .ok (.iadd, 1) := by decide +kernel
theorem dL_law_361 : decode cL_law 361 = .ok (.iaload, 1) := by decide +kernel
theorem dL_law_362 : decode cL_law 362 = .ok (.aload_n 0, 1) := by decide +kernel
theorem dL_law_363 : decode cL_law 363 = .ok (.iload_n 3, 1) := by decide +kernel
theorem dL_law_364 : decode cL_law 364 = .ok (.iconst 3, 1) := by decide +kernel
theorem dL_law_365 : decode cL_law 365 = .ok (.iadd, 1) := by decide +kernel
theorem dL_law_366 : decode cL_law 366 = .ok (.iaload, 1) := by decide +kernel
theorem dL_law_367 : decode cL_law 367 = .ok (.invokevirtual 47, 3) := by decide +kernel
theorem dL_law_370 : decode cL_law 370 = .ok (.aload_n 2, 1) := by decide +kernel
theorem dL_law_371 : decode cL_law 371 = .ok (.aload_n 0, 1) := by decide +kernel
theorem dL_law_372 : decode cL_law 372 = .ok (.iload_n 3, 1) := by decide +kernel
theorem dL_law_373 : decode cL_law 373 = .ok (.iconst 1, 1) := by decide +kernel
theorem dL_law_374 : decode cL_law 374 = .ok (.iadd, 1) := by decide +kernel
theorem dL_law_375 : decode cL_law 375 = .ok (.iaload, 1) := by decide +kernel
theorem dL_law_376 : decode cL_law 376 = .ok (.aload_n 0, 1) := by decide +kernel
theorem dL_law_377 : decode cL_law 377 = .ok (.iload_n 3, 1) := by decide +kernel
theorem dL_law_378 : decode cL_law 378 = .ok (.iconst 2, 1) := by decide +kernel
theorem dL_law_379 : decode cL_law 379 = .ok (.iadd, 1) := by decide +kernel
theorem dL_law_380 : decode cL_law 380 = .ok (.iaload, 1) := by decide +kernel
theorem dL_law_381 : decode cL_law 381 = .ok (.aload_n 0, 1) := by decide +kernel
theorem dL_law_382 : decode cL_law 382 = .ok (.iload_n 3, 1) := by decide +kernel
theorem dL_law_383 : decode cL_law 383 = .ok (.iconst 3, 1) := by decide +kernel
theorem dL_law_384 : decode cL_law 384 = .ok (.iadd, 1) := by decide +kernel
theorem dL_law_385 : decode cL_law 385 = .ok (.iaload, 1) := by decide +kernel
theorem dL_law_386 : decode cL_law 386 = .ok (.invokevirtual 50, 3) := by decide +kernel
theorem dL_law_389 : decode cL_law 389 = .ok (.if_icmp .eq 210, 3) := by decide +kernel
theorem dL_law_392 : decode cL_law 392 = .ok (.iconst 0, 1) := by decide +kernel
theorem dL_law_393 : decode cL_law 393 = .ok (.ireturn, 1) := by decide +kernel
theorem dL_law_394 : decode cL_law 394 = .ok (.aload_n 1, 1) := by decide +kernel
theorem dL_law_395 : decode cL_law 395 = .ok (.aload_n 0, 1) := by decide +kernel
theorem dL_law_396 : decode cL_law 396 = .ok (.iload_n 3, 1) := by decide +kernel
theorem dL_law_397 : decode cL_law 397 = .ok (.iconst 1, 1) := by decide +kernel
theorem dL_law_398 : decode cL_law 398 = .ok (.iadd, 1) := by decide +kernel
theorem dL_law_399 : decode cL_law 399 = .ok (.iaload, 1) := by decide +kernel
theorem dL_law_400 : decode cL_law 400 = .ok (.aload_n 0, 1) := by decide +kernel
theorem dL_law_401 : decode cL_law 401 = .ok (.iload_n 3, 1) := by decide +kernel
theorem dL_law_402 : decode cL_law 402 = .ok (.iconst 2, 1) := by decide +kernel
theorem dL_law_403 : decode cL_law 403 = .ok (.iadd, 1) := by decide +kernel
theorem dL_law_404 : decode cL_law 404 = .ok (.iaload, 1) := by decide +kernel
theorem dL_law_405 : decode cL_law 405 = .ok (.aload_n 0, 1) := by decide +kernel
theorem dL_law_406 : decode cL_law 406 = .ok (.iload_n 3, 1) := by decide +kernel
theorem dL_law_407 : decode cL_law 407 = .ok (.iconst 3, 1) := by decide +kernel
theorem dL_law_408 : decode cL_law 408 = .ok (.iadd, 1) := by decide +kernel
theorem dL_law_409 : decode cL_law 409 = .ok (.iaload, 1) := by decide +kernel
theorem dL_law_410 : decode cL_law 410 = .ok (.invokevirtual 51, 3) := by decide +kernel
theorem dL_law_413 : decode cL_law 413 = .ok (.aload_n 2, 1) := by decide +kernel
theorem dL_law_414 : decode cL_law 414 = .ok (.aload_n 0, 1) := by decide +kernel
theorem dL_law_415 : decode cL_law 415 = .ok (.iload_n 3, 1) := by decide +kernel
theorem dL_law_416 : decode cL_law 416 = .ok (.iconst 1, 1) := by decide +kernel
theorem dL_law_417 : decode cL_law 417 = .ok (.iadd, 1) := by decide +kernel
theorem dL_law_418 : decode cL_law 418 = .ok (.iaload, 1) := by decide +kernel
theorem dL_law_419 : decode cL_law 419 = .ok (.aload_n 0, 1) := by decide +kernel
theorem dL_law_420 : decode cL_law 420 = .ok (.iload_n 3, 1) := by decide +kernel
theorem dL_law_421 : decode cL_law 421 = .ok (.iconst 2, 1) := by decide +kernel
theorem dL_law_422 : decode cL_law 422 = .ok (.iadd, 1) := by decide +kernel
theorem dL_law_423 : decode cL_law 423 = .ok (.iaload, 1) := by decide +kernel
theorem dL_law_424 : decode cL_law 424 = .ok (.aload_n 0, 1) := by decide +kernel
theorem dL_law_425 : decode cL_law 425 = .ok (.iload_n 3, 1) := by decide +kernel
end
section
set_option maxRecDepth 100000
theorem dL_law_426 : decode cL_law 426 = .ok (.iconst 3, 1) := by decide +kernel
theorem dL_law_427 : decode cL_law 427 = .ok (.iadd, 1) := by decide +kernel
theorem dL_law_428 : decode cL_law 428 = .ok (.iaload, 1) := by decide +kernel
theorem dL_law_429 : decode cL_law 429 = .ok (.invokevirtual 54, 3) := by decide +kernel
theorem dL_law_432 : decode cL_law 432 = .ok (.if_icmp .eq 167, 3) := by decide +kernel
theorem dL_law_435 : decode cL_law 435 = .ok (.iconst 0, 1) := by decide +kernel
theorem dL_law_436 : decode cL_law 436 = .ok (.ireturn, 1) := by decide +kernel
theorem dL_law_437 : decode cL_law 437 = .ok (.aload_n 1, 1) := by decide +kernel
theorem dL_law_438 : decode cL_law 438 = .ok (.aload_n 0, 1) := by decide +kernel
theorem dL_law_439 : decode cL_law 439 = .ok (.iload_n 3, 1) := by decide +kernel
theorem dL_law_440 : decode cL_law 440 = .ok (.iconst 1, 1) := by decide +kernel
theorem dL_law_441 : decode cL_law 441 = .ok (.iadd, 1) := by decide +kernel
theorem dL_law_442 : decode cL_law 442 = .ok (.iaload, 1) := by decide +kernel
theorem dL_law_443 : decode cL_law 443 = .ok (.aload_n 0, 1) := by decide +kernel
theorem dL_law_444 : decode cL_law 444 = .ok (.iload_n 3, 1) := by decide +kernel
theorem dL_law_445 : decode cL_law 445 = .ok (.iconst 2, 1) := by decide +kernel
theorem dL_law_446 : decode cL_law 446 = .ok (.iadd, 1) := by decide +kernel
theorem dL_law_447 : decode cL_law 447 = .ok (.iaload, 1) := by decide +kernel
theorem dL_law_448 : decode cL_law 448 = .ok (.invokevirtual 55, 3) := by decide +kernel
theorem dL_law_451 : decode cL_law 451 = .ok (.aload_n 2, 1) := by decide +kernel
theorem dL_law_452 : decode cL_law 452 = .ok (.aload_n 0, 1) := by decide +kernel
theorem dL_law_453 : decode cL_law 453 = .ok (.iload_n 3, 1) := by decide +kernel
theorem dL_law_454 : decode cL_law 454 = .ok (.iconst 1, 1) := by decide +kernel
theorem dL_law_455 : decode cL_law 455 = .ok (.iadd, 1) := by decide +kernel
theorem dL_law_456 : decode cL_law 456 = .ok (.iaload, 1) := by decide +kernel
theorem dL_law_457 : decode cL_law 457 = .ok (.aload_n 0, 1) := by decide +kernel
theorem dL_law_458 : decode cL_law 458 = .ok (.iload_n 3, 1) := by decide +kernel
theorem dL_law_459 : decode cL_law 459 = .ok (.iconst 2, 1) := by decide +kernel
theorem dL_law_460 : decode cL_law 460 = .ok (.iadd, 1) := by decide +kernel
theorem dL_law_461 : decode cL_law 461 = .ok (.iaload, 1) := by decide +kernel
theorem dL_law_462 : decode cL_law 462 = .ok (.invokevirtual 58, 3) := by decide +kernel
theorem dL_law_465 : decode cL_law 465 = .ok (.if_icmp .eq 134, 3) := by decide +kernel
theorem dL_law_468 : decode cL_law 468 = .ok (.iconst 0, 1) := by decide +kernel
theorem dL_law_469 : decode cL_law 469 = .ok (.ireturn, 1) := by decide +kernel
theorem dL_law_470 : decode cL_law 470 = .ok (.aload_n 1, 1) := by decide +kernel
theorem dL_law_471 : decode cL_law 471 = .ok (.aload_n 0, 1) := by decide +kernel
theorem dL_law_472 : decode cL_law 472 = .ok (.iload_n 3, 1) := by decide +kernel
theorem dL_law_473 : decode cL_law 473 = .ok (.iconst 1, 1) := by decide +kernel
theorem dL_law_474 : decode cL_law 474 = .ok (.iadd, 1) := by decide +kernel
theorem dL_law_475 : decode cL_law 475 = .ok (.iaload, 1) := by decide +kernel
theorem dL_law_476 : decode cL_law 476 = .ok (.aload_n 0, 1) := by decide +kernel
theorem dL_law_477 : decode cL_law 477 = .ok (.iload_n 3, 1) := by decide +kernel
theorem dL_law_478 : decode cL_law 478 = .ok (.iconst 2, 1) := by decide +kernel
theorem dL_law_479 : decode cL_law 479 = .ok (.iadd, 1) := by decide +kernel
theorem dL_law_480 : decode cL_law 480 = .ok (.iaload, 1) := by decide +kernel
theorem dL_law_481 : decode cL_law 481 = .ok (.invokevirtual 59, 3) := by decide +kernel
theorem dL_law_484 : decode cL_law 484 = .ok (.aload_n 2, 1) := by decide +kernel
theorem dL_law_485 : decode cL_law 485 = .ok (.aload_n 0, 1) := by decide +kernel
theorem dL_law_486 : decode cL_law 486 = .ok (.iload_n 3, 1) := by decide +kernel
theorem dL_law_487 : decode cL_law 487 = .ok (.iconst 1, 1) := by decide +kernel
theorem dL_law_488 : decode cL_law 488 = .ok (.iadd, 1) := by decide +kernel
theorem dL_law_489 : decode cL_law 489 = .ok (.iaload, 1) := by decide +kernel
theorem dL_law_490 : decode cL_law 490 = .ok (.aload_n 0, 1) := by decide +kernel
theorem dL_law_491 : decode cL_law 491 = .ok (.iload_n 3, 1) := by decide +kernel
theorem dL_law_492 : decode cL_law 492 = .ok (.iconst 2, 1) := by decide +kernel
theorem dL_law_493 : decode cL_law 493 = .ok (.iadd, 1) := by decide +kernel
theorem dL_law_494 : decode cL_law 494 = .ok (.iaload, 1) := by decide +kernel
theorem dL_law_495 : decode cL_law 495 = .ok (.invokevirtual 62, 3) := by decide +kernel
theorem dL_law_498 : decode cL_law 498 = .ok (.if_icmp .eq 101, 3) := by decide +kernel
theorem dL_law_501 : decode cL_law 501 = .ok (.iconst 0, 1) := by decide +kernel
theorem dL_law_502 : decode cL_law 502 = .ok (.ireturn, 1) := by decide +kernel
theorem dL_law_503 : decode cL_law 503 = .ok (.aload_n 1, 1) := by decide +kernel
theorem dL_law_504 : decode cL_law 504 = .ok (.aload_n 0, 1) := by decide +kernel
theorem dL_law_505 : decode cL_law 505 = .ok (.iload_n 3, 1) := by decide +kernel
theorem dL_law_506 : decode cL_law 506 = .ok (.iconst 1, 1) := by decide +kernel
theorem dL_law_507 : decode cL_law 507 = .ok (.iadd, 1) := by decide +kernel
theorem dL_law_508 : decode cL_law 508 = .ok (.iaload, 1) := by decide +kernel
theorem dL_law_509 : decode cL_law 509 = .ok (.aload_n 0, 1) := by decide +kernel
theorem dL_law_510 : decode cL_law 510 = .ok (.iload_n 3, 1) := by decide +kernel
theorem dL_law_511 : decode cL_law 511 = .ok (.iconst 2, 1) := by decide +kernel
theorem dL_law_512 : decode cL_law 512 = .ok (.iadd, 1) := by decide +kernel
theorem dL_law_513 : decode cL_law 513 = .ok (.iaload, 1) := by decide +kernel
theorem dL_law_514 : decode cL_law 514 = .ok (.aload_n 0, 1) := by decide +kernel
theorem dL_law_515 : decode cL_law 515 = .ok (.iload_n 3, 1) := by decide +kernel
theorem dL_law_516 : decode cL_law 516 = .ok (.iconst 3, 1) := by decide +kernel
theorem dL_law_517 : decode cL_law 517 = .ok (.iadd, 1) := by decide +kernel
theorem dL_law_518 : decode cL_law 518 = .ok (.iaload, 1) := by decide +kernel
theorem dL_law_519 : decode cL_law 519 = .ok (.invokevirtual 63, 3) := by decide +kernel
theorem dL_law_522 : decode cL_law 522 = .ok (.aload_n 2, 1) := by decide +kernel
theorem dL_law_523 : decode cL_law 523 = .ok (.aload_n 0, 1) := by decide +kernel
theorem dL_law_524 : decode cL_law 524 = .ok (.iload_n 3, 1) := by decide +kernel
theorem dL_law_525 : decode cL_law 525 = .ok (.iconst 1, 1) := by decide +kernel
theorem dL_law_526 : decode cL_law 526 = .ok (.iadd, 1) := by decide +kernel
theorem dL_law_527 : decode cL_law 527 = .ok (.iaload, 1) := by decide +kernel
theorem dL_law_528 : decode cL_law 528 = .ok (.aload_n 0, 1) := by decide +kernel
theorem dL_law_529 : decode cL_law 529 = .ok (.iload_n 3, 1) := by decide +kernel
theorem dL_law_530 : decode cL_law 530 = .ok (.iconst 2, 1) := by decide +kernel
theorem dL_law_531 : decode cL_law 531 = .ok (.iadd, 1) := by decide +kernel
theorem dL_law_532 : decode cL_law 532 = .ok (.iaload, 1) := by decide +kernel
theorem dL_law_533 : decode cL_law 533 = .ok (.aload_n 0, 1) := by decide +kernel
theorem dL_law_534 : decode cL_law 534 = .ok (.iload_n 3, 1) := by decide +kernel
theorem dL_law_535 : decode cL_law 535 = .ok (.iconst 3, 1) := by decide +kernel
theorem dL_law_536 : decode cL_law 536 = .ok (.iadd, 1) := by decide +kernel
theorem dL_law_537 : decode cL_law 537 = .ok (.iaload, 1) := by decide +kernel
theorem dL_law_538 : decode cL_law 538 = .ok (.invokevirtual 66, 3) := by decide +kernel
theorem dL_law_541 : decode cL_law 541 = .ok (.if_icmp .eq 58, 3) := by decide +kernel
theorem dL_law_544 : decode cL_law 544 = .ok (.iconst 0, 1) := by decide +kernel
theorem dL_law_545 : decode cL_law 545 = .ok (.ireturn, 1) := by decide +kernel
theorem dL_law_546 : decode cL_law 546 = .ok (.aload_n 1, 1) := by decide +kernel
theorem dL_law_547 : decode cL_law 547 = .ok (.aload_n 0, 1) := by decide +kernel
theorem dL_law_548 : decode cL_law 548 = .ok (.iload_n 3, 1) := by decide +kernel
theorem dL_law_549 : decode cL_law 549 = .ok (.iconst 1, 1) := by decide +kernel
theorem dL_law_550 : decode cL_law 550 = .ok (.iadd, 1) := by decide +kernel
theorem dL_law_551 : decode cL_law 551 = .ok (.iaload, 1) := by decide +kernel
theorem dL_law_552 : decode cL_law 552 = .ok (.aload_n 0, 1) := by decide +kernel
theorem dL_law_553 : decode cL_law 553 = .ok (.iload_n 3, 1) := by decide +kernel
theorem dL_law_554 : decode cL_law 554 = .ok (.iconst 2, 1) := by decide +kernel
theorem dL_law_555 : decode cL_law 555 = .ok (.iadd, 1) := by decide +kernel
theorem dL_law_556 : decode cL_law 556 = .ok (.iaload, 1) := by decide +kernel
theorem dL_law_557 : decode cL_law 557 = .ok (.aload_n 0, 1) := by decide +kernel
theorem dL_law_558 : decode cL_law 558 = .ok (.iload_n 3, 1) := by decide +kernel
theorem dL_law_559 : decode cL_law 559 = .ok (.iconst 3, 1) := by decide +kernel
theorem dL_law_560 : decode cL_law 560 = .ok (.iadd, 1) := by decide +kernel
theorem dL_law_561 : decode cL_law 561 = .ok (.iaload, 1) := by decide +kernel
theorem dL_law_562 : decode cL_law 562 = .ok (.aload_n 0, 1) := by decide +kernel
theorem dL_law_563 : decode cL_law 563 = .ok (.iload_n 3, 1) := by decide +kernel
theorem dL_law_564 : decode cL_law 564 = .ok (.iconst 4, 1) := by decide +kernel
theorem dL_law_565 : decode cL_law 565 = .ok (.iadd, 1) := by decide +kernel
theorem dL_law_566 : decode cL_law 566 = .ok (.iaload, 1) := by decide +kernel
theorem dL_law_567 : decode cL_law 567 = .ok (.invokevirtual 67, 3) := by decide +kernel
theorem dL_law_570 : decode cL_law 570 = .ok (.aload_n 2, 1) := by decide +kernel
theorem dL_law_571 : decode cL_law 571 = .ok (.aload_n 0, 1) := by decide +kernel
theorem dL_law_572 : decode cL_law 572 = .ok (.iload_n 3, 1) := by decide +kernel
theorem dL_law_573 : decode cL_law 573 = .ok (.iconst 1, 1) := by decide +kernel
theorem dL_law_574 : decode cL_law 574 = .ok (.iadd, 1) := by decide +kernel
theorem dL_law_575 : decode cL_law 575 = .ok (.iaload, 1) := by decide +kernel
theorem dL_law_576 : decode cL_law 576 = .ok (.aload_n 0, 1) := by decide +kernel
theorem dL_law_577 : decode cL_law 577 = .ok (.iload_n 3, 1) := by decide +kernel
theorem dL_law_578 : decode cL_law 578 = .ok (.iconst 2, 1) := by decide +kernel
theorem dL_law_579 : decode cL_law 579 = .ok (.iadd, 1) := by decide +kernel
theorem dL_law_580 : decode cL_law 580 = .ok (.iaload, 1) := by decide +kernel
theorem dL_law_581 : decode cL_law 581 = .ok (.aload_n 0, 1) := by decide +kernel
theorem dL_law_582 : decode cL_law 582 = .ok (.iload_n 3, 1) := by decide +kernel
theorem dL_law_583 : decode cL_law 583 = .ok (.iconst 3, 1) := by decide +kernel
theorem dL_law_584 : decode cL_law 584 = .ok (.iadd, 1) := by decide +kernel
theorem dL_law_585 : decode cL_law 585 = .ok (.iaload, 1) := by decide +kernel
theorem dL_law_586 : decode cL_law 586 = .ok (.aload_n 0, 1) := by decide +kernel
theorem dL_law_587 : decode cL_law 587 = .ok (.iload_n 3, 1) := by decide +kernel
theorem dL_law_588 : decode cL_law 588 = .ok (.iconst 4, 1) := by decide +kernel
theorem dL_law_589 : decode cL_law 589 = .ok (.iadd, 1) := by decide +kernel
theorem dL_law_590 : decode cL_law 590 = .ok (.iaload, 1) := by decide +kernel
theorem dL_law_591 : decode cL_law 591 = .ok (.invokevirtual 70, 3) := by decide +kernel
theorem dL_law_594 : decode cL_law 594 = .ok (.if_icmp .eq 5, 3) := by decide +kernel
theorem dL_law_597 : decode cL_law 597 = .ok (.iconst 0, 1) := by decide +kernel
theorem dL_law_598 : decode cL_law 598 = .ok (.ireturn, 1) := by decide +kernel
theorem dL_law_599 : decode cL_law 599 = .ok (.iinc 3 5, 3) := by decide +kernel
theorem dL_law_602 : decode cL_law 602 = .ok (.goto (-584), 3) := by decide +kernel
theorem dL_law_605 : decode cL_law 605 = .ok (.iconst 1, 1) := by decide +kernel
theorem dL_law_606 : decode cL_law 606 = .ok (.ireturn, 1) := by decide +kernel
end
section
/-! rows for the law's own walk; the two classes' answers are the same -/
set_option maxRecDepth 100000
set_option maxHeartbeats 4000000
def R_law : String := "PathRankerLaw"
abbrev LT (dB dS dI dJ : ClassId) : List (ClassId × FieldType) := [(dB, .byte), (dS, .short), (dI, .int), (dJ, .int)]
def SC (Γ : GP) (b Lx : Nat) (xs : Nat → Int32) : Prop :=
  match Γ with
  | (_, _, _, _, s, _, _, _, _, _, _, _, _, _, A) => va_X b Lx xs s s.heap ∧ b < s.heap.size ∧ ¬ A b
section LK
variable {Γ : GP} {cc : ByteArray} {nL : Nat} {own : String} {tys : List (ClassId × FieldType)} {lev : Nat} {ws ws' : va_W} {pc : Nat} {lv lv' : List (Nat × Value)} {st : List Value}
theorem g_sld (hc : GC Γ cc nL own tys lev) {b Lx i : Nat} {xs : Nat → Int32} (hsc : SC Γ b Lx xs) (hi : i < Lx) (hn : Lx < 2147483648) (hd : decode cc pc = .ok (.iaload, 1)) (k : G Γ ws (pc + 1) lv (.int (xs i) :: st)) : G Γ ws pc lv (.int (nI i) :: .ref b :: st) := by
  obtain ⟨p, l, e, R, s, m, args, below, meth, c, cells, slots, Q, D, A⟩ := Γ
  intro H locs ls hP hD hS hl
  have e1 : (nI i).toNatClampNeg = i := nI_clamp (by omega)
  refine va_sld hc.1 hc.2.1 hsc.1 hsc.2.1 hsc.2.2 hS (in_nI hi hn) hd ?_
  rw [e1]
  exact k H locs ls hP hD hS hl
theorem g_slen (hc : GC Γ cc nL own tys lev) {b Lx : Nat} {xs : Nat → Int32} (hsc : SC Γ b Lx xs) (hd : decode cc pc = .ok (.arraylength, 1)) (k : G Γ ws (pc + 1) lv (.int (nI Lx) :: st)) : G Γ ws pc lv (.ref b :: st) := by
  obtain ⟨p, l, e, R, s, m, args, below, meth, c, cells, slots, Q, D, A⟩ := Γ
  intro H locs ls hP hD hS hl
  exact va_slen hc.1 hc.2.1 hsc.1 hsc.2.1 hsc.2.2 hS hd (k H locs ls hP hD hS hl)
theorem g_tableOut (hc : GC Γ cc nL own tys lev) {dflt lo hi : Int} {offs : Array Int} {len : Nat} {x : Int32} {tgt : Nat} (hd : decode cc pc = .ok (.tableswitch dflt lo hi offs, len)) (h : x.toInt < lo ∨ hi < x.toInt) (ht : (pc : Int) + dflt = (tgt : Int)) (k : G Γ ws tgt lv st) : G Γ ws pc lv (.int x :: st) := by
  obtain ⟨p, l, e, R, s, m, args, below, meth, c, cells, slots, Q, D, A⟩ := Γ
  intro H locs ls hP hD hS hl
  exact lv_tableOut hc.1 hc.2.1 hd h ht (k H locs ls hP hD hS hl)
theorem g_tableIn (hc : GC Γ cc nL own tys lev) {dflt lo hi : Int} {offs : Array Int} {len : Nat} {x : Int32} {off : Int} {tgt : Nat} (hd : decode cc pc = .ok (.tableswitch dflt lo hi offs, len)) (h1 : ¬ x.toInt < lo) (h2 : ¬ hi < x.toInt) (ho : offs[(x.toInt - lo).toNat]? = some off) (ht : (pc : Int) + off = (tgt : Int)) (k : G Γ ws tgt lv st) : G Γ ws pc lv (.int x :: st) := by
  obtain ⟨p, l, e, R, s, m, args, below, meth, c, cells, slots, Q, D, A⟩ := Γ
  intro H locs ls hP hD hS hl
  exact lv_tableIn hc.1 hc.2.1 hd h1 h2 ho ht (k H locs ls hP hD hS hl)
theorem n_iinc5 (hc : GC Γ cc nL own tys lev) {i q x : Nat} (hd : decode cc pc = .ok (.iinc i 5, 3)) (hq : lv[q]? = some (i, .int (nI x))) (hn : i < nL) (ks : List Nat) (h : lv_pick ((i, Value.int (nI (x + 5))) :: lv.filter (fun q => !(q.1 == i) && !(q.1 + 1 == i && q.2.category == 2))) ks = lv') (k : G Γ ws (pc + 3) lv' st) : G Γ ws pc lv st := g_iinc hc hd hq (show nI x + Int32.ofInt 5 = nI (x + 5) by rw [← nI_add]; rfl) hn ks h k
end LK
theorem nI_all (a : Int32) : ∃ n : Nat, a = nI n := ⟨a.toBitVec.toNat, by
  apply Int32.toBitVec_inj.mp
  show a.toBitVec = BitVec.ofNat 32 a.toBitVec.toNat
  rw [BitVec.ofNat_toNat, BitVec.setWidth_eq]⟩
theorem mask15 (a : Int32) : ∃ j : Nat, j < 16 ∧ a &&& nI 15 = nI j := by
  obtain ⟨n, rfl⟩ := nI_all a
  exact ⟨n % 16, Nat.mod_lt _ (by decide), fa_mask n 4⟩
theorem len_small : ∀ Lx, Lx < 5 → nI Lx - nI 5 < 0 := by decide
theorem len_ok {i Lx : Nat} (hi : i ≤ 400) (hL : Lx ≤ 320) (h : ¬ nI Lx - nI 5 < nI i) : i + 5 ≤ Lx := by
  rcases Nat.lt_or_ge Lx 5 with h1 | h1
  · exfalso
    apply h
    have h2 := len_small Lx h1
    rw [fa_lt] at h2 ⊢
    have h3 : (0 : Int32).toInt = 0 := rfl
    rw [nI_toInt (by omega)]
    omega
  · rw [pk_sub h1, nI_ltI (by omega) (by omega)] at h
    omega
section LC
variable {Γ : GP} {cc : ByteArray} {nL : Nat} {own : String} {lev : Nat} {pc : Nat} {lv : List (Nat × Value)} {st rest : List Value}
variable {S : Type} {wf : S → va_W} {y : MethodName} {As : List Value} {bytes : ByteArray} {maxL lev' idx n : Nat} {ret : FieldType} {post : Int32 → S → Prop}
variable {h g : Nat → Nat} {dB dS dI dJ : ClassId} {L L' : Nat → Nat} {kn fr to wc rc : Nat} {P Sz W A B R RW D : Nat → Nat} {cnt : Nat} {Y Z : Nat → Nat}
theorem l_callX (hc : GC Γ cc nL own (LT dB dS dI dJ) lev) (hM : MI y bytes maxL ret lev' (XT dB dS dI) (.ref (h 0) :: As) (XW h dB dS dI L kn fr to wc rc P Sz W A B R RW D) wf post)
    (hw : GoodIn lw_all (wsV own idx RX0 y (ws_ y bytes maxL (some ret)))) (hd : y.cls = RX0 ∧ y.cls ≠ "java/lang/invoke/MethodHandle" ∧ y.cls ≠ "java/lang/invoke/VarHandle" ∧ (parseMethodDescriptor y.desc).map (fun d => d.parameters.length) = some n)
    (hlev : lev' + 1 ≤ lev) (hL : maxL ≤ 21) (hn : As.length = n) (hst : st = As.reverse ++ .ref (h 0) :: rest) (hroom : (rest.map fun v => v.category).sum ≤ 8) (hdg : decode cc pc = .ok (.invokevirtual idx, 3))
    (kk : ∀ (r : Int32) (u : S), post r u → G Γ (MW g dJ L' cnt Y Z ++ wf u) (pc + 3) lv (.int r :: rest)) : G Γ (XW h dB dS dI L kn fr to wc rc P Sz W A B R RW D ++ MW g dJ L' cnt Y Z) pc lv st :=
  g_callI (wr := MW g dJ L' cnt Y Z) (ci := 0) (q0 := 0) hc hM hw hd hlev hL hn [0, 1, 2, 3, 4, 5, 6, 7, 8, 9] [10, 11, 12, 13] [0, 1, 2] rfl rfl (by decide) (by decide) (by decide) rfl rfl rfl hst hroom hdg kk
theorem l_callM (hc : GC Γ cc nL own (LT dB dS dI dJ) lev) (hM : MI y bytes maxL ret lev' (MT dJ) (.ref (g 0) :: As) (MW g dJ L' cnt Y Z) wf post)
    (hw : GoodIn lw_all (wsV own idx RX1 y (ws_ y bytes maxL (some ret)))) (hd : y.cls = RX1 ∧ y.cls ≠ "java/lang/invoke/MethodHandle" ∧ y.cls ≠ "java/lang/invoke/VarHandle" ∧ (parseMethodDescriptor y.desc).map (fun d => d.parameters.length) = some n)
    (hlev : lev' + 1 ≤ lev) (hL : maxL ≤ 21) (hn : As.length = n) (hst : st = As.reverse ++ .ref (g 0) :: rest) (hroom : (rest.map fun v => v.category).sum ≤ 8) (hdg : decode cc pc = .ok (.invokevirtual idx, 3))
    (kk : ∀ (r : Int32) (u : S), post r u → G Γ (XW h dB dS dI L kn fr to wc rc P Sz W A B R RW D ++ wf u) (pc + 3) lv (.int r :: rest)) : G Γ (MW g dJ L' cnt Y Z ++ XW h dB dS dI L kn fr to wc rc P Sz W A B R RW D) pc lv st :=
  g_callI (wr := XW h dB dS dI L kn fr to wc rc P Sz W A B R RW D) (ci := 1) (q0 := 0) hc hM hw hd hlev hL hn [0, 1, 2, 3] [4, 5, 6, 7, 8, 9, 10, 11, 12, 13] [3] rfl rfl (by decide) (by decide) (by decide) rfl rfl rfl hst hroom hdg kk
end LC
-- the same answers
theorem nI_6 {x y : Nat} {a : Int32} (h1 : a = nI x) (h2 : a = nI y) (hx : x < 100) (hy : y < 100) : x = y := (nI_eq (show x < 2 ^ 31 by omega) (show y < 2 ^ 31 by omega)).mp (h1.symm.trans h2)
theorem bld_eq {L : Nat → Nat} {a b c r r' : Int32} {L1 L2 : Nat → Nat} {kn kn1 k2 k3 : Nat} (h : bldA L a b c r L1 kn kn1) (h' : bldA L a b c r' L2 k2 k3) : r = r' ∧ L1 = L2 := by
  have key : ∀ x y z : Nat, a = nI x → b = nI y → c = nI z → x < 6 → y < 6 → x ≠ y → 1 ≤ z → z ≤ 20 → ¬ (¬ isPr a b ∨ c < nI 1 ∨ nI 20 < c) := by
    rintro x y z e1 e2 rfl h1 h2 h3 h4 h5 (h6 | h6 | h6)
    · exact h6 ⟨x, y, e1, e2, h1, h2, h3⟩
    · have := (nI_ltI (show z < 2 ^ 31 by omega) (show 1 < 2 ^ 31 by decide)).mp h6
      omega
    · have := (nI_ltI (show 20 < 2 ^ 31 by decide) (show z < 2 ^ 31 by omega)).mp h6
      omega
  rcases h with ⟨x, y, z, e1, e2, e3, h1, h2, h3, h4, h5, h6, h7, _⟩ | ⟨h1, h2, h3, _⟩ <;> rcases h' with ⟨x', y', z', f1, f2, f3, g1, g2, g3, g4, g5, g6, g7, _⟩ | ⟨g1, g2, g3, _⟩
  · have q1 := nI_6 e1 f1 (by omega) (by omega)
    have q2 := nI_6 e2 f2 (by omega) (by omega)
    have q3 := nI_6 e3 f3 (by omega) (by omega)
    subst q1; subst q2; subst q3
    exact ⟨h6.trans g6.symm, h7.trans g7.symm⟩
  · exact absurd g1 (key x y z e1 e2 e3 h1 h2 h3 h4 h5)
  · exact absurd h1 (key x' y' z' f1 f2 f3 g1 g2 g3 g4 g5)
  · exact ⟨h2.trans g2.symm, h3.trans g3.symm⟩
theorem noRoad {L : Nat → Nat} {a b : Int32} {x y : Nat} (e1 : a = nI x) (e2 : b = nI y) (hx : x < 6) (hy : y < 6) (hxy : x ≠ y) (h : 0 < L (x * 6 + y)) : ¬ (¬ isPr a b ∨ ∃ x y : Nat, a = nI x ∧ b = nI y ∧ x < 6 ∧ y < 6 ∧ L (x * 6 + y) = 0) := by
  rintro (h6 | ⟨x', y', f1, f2, g1, g2, g3⟩)
  · exact h6 ⟨x, y, e1, e2, hx, hy, hxy⟩
  · have q1 := nI_6 e1 f1 (by omega) (by omega)
    have q2 := nI_6 e2 f2 (by omega) (by omega)
    subst q1; subst q2
    omega
theorem cls_eq {L : Nat → Nat} {a b r r' : Int32} {L1 L2 : Nat → Nat} {kn kn1 k2 k3 : Nat} (h : clsA L a b r L1 kn kn1) (h' : clsA L a b r' L2 k2 k3) : r = r' ∧ L1 = L2 := by
  rcases h with ⟨x, y, e1, e2, h1, h2, h3, h4, h6, h7, _⟩ | ⟨h1, h2, h3, _⟩ <;> rcases h' with ⟨x', y', f1, f2, g1, g2, g3, g4, g6, g7, _⟩ | ⟨g1, g2, g3, _⟩
  · have q1 := nI_6 e1 f1 (by omega) (by omega)
    have q2 := nI_6 e2 f2 (by omega) (by omega)
    subst q1; subst q2
    exact ⟨h6.trans g6.symm, h7.trans g7.symm⟩
  · exact absurd g1 (noRoad e1 e2 h1 h2 h3 h4)
  · exact absurd h1 (noRoad f1 f2 g1 g2 g3 g4)
  · exact ⟨h2.trans g2.symm, h3.trans g3.symm⟩
theorem road_eq {L : Nat → Nat} {a b r r' : Int32} (h : roadA L a b r) (h' : roadA L a b r') : r = r' := by
  rcases roadA_cases h with ⟨e, h1⟩ | ⟨x, y, e1, e2, h1, h2, h3, h4, e⟩
  · rw [e, h'.2 h1]
  · rw [e, h'.1 x y e1 e2 h1 h2 h3 h4]
theorem ML_fun {L : Nat → Nat} {s t d d' : Nat} (h : ML L s t d) (h' : ML L s t d') : d = d' := by
  rcases h with ⟨h1, h2⟩ | ⟨h1, p, h2, h3, h4⟩ <;> rcases h' with ⟨g1, g2⟩ | ⟨g1, q, g2, g3, g4⟩
  · omega
  · exact absurd g2 (h2 q)
  · exact absurd h2 (g2 p)
  · have := h4 q g2
    have := g4 p h2
    omega
theorem det_eq {L : Nat → Nat} {s t a b r r' : Int32} (h : detQ L s t a b r) (h' : detM L s t a b r') : r = r' := by
  rcases h with ⟨h1, h2⟩ | ⟨s1, t1, x, y, d1, d2, e1, e2, hs, ht, hst, e3, e4, hx, hy, hxy, hp, m1, m2, hr⟩ <;> rcases h' with ⟨g1, g2⟩ | ⟨s2, t2, x', y', f1, f2, ks, kt, kst, f3, f4, kx, ky, kxy, kp, hq⟩
  · exact h2.trans g2.symm
  · rcases h1 with h1 | h1
    · exact absurd ⟨s2, t2, f1, f2, ks, kt, kst⟩ h1
    · exact absurd h1 (noRoad f3 f4 kx ky kxy kp)
  · rcases g1 with h1 | h1
    · exact absurd ⟨s1, t1, e1, e2, hs, ht, hst⟩ h1
    · exact absurd h1 (noRoad e3 e4 hx hy hxy hp)
  · have q1 := nI_6 e1 f1 (by omega) (by omega)
    have q2 := nI_6 e2 f2 (by omega) (by omega)
    have q3 := nI_6 e3 f3 (by omega) (by omega)
    have q4 := nI_6 e4 f4 (by omega) (by omega)
    subst q1; subst q2; subst q3; subst q4
    exact hr.trans (hq d1 d2 m1 m2).symm
theorem eq_fn {x y z : Int32} (h1 : x = z) (h2 : y = z) : x = y := h1.trans h2.symm
theorem avo_eq {L : Nat → Nat} {s t v r r' : Int32} (h : avoQ L s t v r) (h' : avoM L s t v r') : r = r' := by
  have key : ∀ v1 : Nat, v = nI v1 → v1 < 6 → ¬ v = s → ¬ v = t → ¬ (¬ isPl v ∨ v = s ∨ v = t) := by
    rintro v1 e h1 h2 h3 (h4 | h4 | h4)
    · exact h4 ⟨v1, e, h1⟩
    · exact h2 h4
    · exact h3 h4
  rcases h with ⟨h1, h2⟩ | ⟨v1, e1, h1, h2, h3, h4⟩ <;> rcases h' with ⟨g1, g2⟩ | ⟨v2, f1, g1, g2, g3, g4⟩
  · exact h2.trans g2.symm
  · exact absurd h1 (key v2 f1 g1 g2 g3)
  · exact absurd g1 (key v1 e1 h1 h2 h3)
  · have q1 := nI_6 e1 f1 (by omega) (by omega)
    subst q1
    refine Ans_eq ?_ ?_ h4 g4
    · exact fun x y a b => eq_fn a b
    · exact fun _ _ _ x y _ _ a b => eq_fn a b
theorem XOK_bld {L : Nat → Nat} {kn fr to wc rc : Nat} {P S W A B R RW : Nat → Nat} (hok : XOK L kn fr to wc rc P S W A B R RW) {a b c r : Int32} {L1 : Nat → Nat} {kn1 : Nat} (h : bldA L a b c r L1 kn kn1) : XOK L1 kn1 fr to wc rc P S W A B R RW := by
  rcases h with ⟨x, y, z, _, _, _, _, _, _, _, hz, _, rfl, rfl⟩ | ⟨_, _, rfl, rfl⟩
  · exact ⟨upd_le hok.1 hz, hok.2.1, Nat.zero_le _, hok.2.2.2.1, hok.2.2.2.2.1, hok.2.2.2.2.2.1, hok.2.2.2.2.2.2.1, fun h => absurd h (by decide)⟩
  · exact hok
theorem XOK_cls {L : Nat → Nat} {kn fr to wc rc : Nat} {P S W A B R RW : Nat → Nat} (hok : XOK L kn fr to wc rc P S W A B R RW) {a b r : Int32} {L1 : Nat → Nat} {kn1 : Nat} (h : clsA L a b r L1 kn kn1) : XOK L1 kn1 fr to wc rc P S W A B R RW := by
  rcases h with ⟨x, y, _, _, _, _, _, _, _, rfl, rfl⟩ | ⟨_, _, rfl, rfl⟩
  · exact ⟨upd_le hok.1 (by decide), hok.2.1, Nat.zero_le _, hok.2.2.2.1, hok.2.2.2.2.1, hok.2.2.2.2.2.1, hok.2.2.2.2.2.2.1, fun h => absurd h (by decide)⟩
  · exact hok
end
section
set_option maxRecDepth 100000
set_option maxHeartbeats 4000000
theorem op_build {Γ : GP} {b Lx i : Nat} {xs : Nat → Int32} {h g : Nat → Nat} {dB dS dI dJ : ClassId} (hc : GC Γ cL_law 4 R_law (LT dB dS dI dJ) 8) (hsc : SC Γ b Lx xs) (hi : i + 5 ≤ Lx) (hLx : Lx ≤ 320) {L : Nat → Nat} {kn fr to wc rc : Nat} {P S W A B R RW D : Nat → Nat} {cnt : Nat} {Y Z : Nat → Nat} (hok : XOK L kn fr to wc rc P S W A B R RW) (next : ∀ (L' : Nat → Nat) (u : XS) (cnt' : Nat) (Y' Z' : Nat → Nat), XOKu L' u → G Γ (XWu h dB dS dI L' u ++ MW g dJ L' cnt' Y' Z') 599 [(0, .ref b), (1, .ref (h 0)), (2, .ref (g 0)), (3, .int (nI i))] []) : G Γ (XW h dB dS dI L kn fr to wc rc P S W A B R RW D ++ MW g dJ L cnt Y Z) 100 [(0, .ref b), (1, .ref (h 0)), (2, .ref (g 0)), (3, .int (nI i))] [] := by
  have hL := hok.1
  refine g_aload_n hc dL_law_100 rfl 1 rfl ?_
  refine g_aload_n hc dL_law_101 rfl 0 rfl ?_
  refine g_iload_n hc dL_law_102 rfl 3 rfl ?_
  refine g_iconst (v := nI 1) hc dL_law_103 (by decide) ?_
  refine n_iadd hc dL_law_104 ?_
  refine g_sld hc hsc (by omega) (by omega) dL_law_105 ?_
  refine g_aload_n hc dL_law_106 rfl 0 rfl ?_
  refine g_iload_n hc dL_law_107 rfl 3 rfl ?_
  refine g_iconst (v := nI 2) hc dL_law_108 (by decide) ?_
  refine n_iadd hc dL_law_109 ?_
  refine g_sld hc hsc (by omega) (by omega) dL_law_110 ?_
  refine g_aload_n hc dL_law_111 rfl 0 rfl ?_
  refine g_iload_n hc dL_law_112 rfl 3 rfl ?_
  refine g_iconst (v := nI 3) hc dL_law_113 (by decide) ?_
  refine n_iadd hc dL_law_114 ?_
  refine g_sld hc hsc (by omega) (by omega) dL_law_115 ?_
  refine l_callX (n := 3) (As := [.int (xs (i + 1)), .int (xs (i + 2)), .int (xs (i + 3))]) (rest := []) hc (cX_build h dB dS dI L kn fr to wc rc P S W A B R RW D (xs (i + 1)) (xs (i + 2)) (xs (i + 3)) ) (lw_V q74 q75 q76 q18 q77) (by decide +kernel) (by decide) (by decide) rfl rfl (by simp [Value.category]) dL_law_116 (fun r1 u1 k1 => ?_)
  refine g_world (ws' := MW g dJ L cnt Y Z ++ XW h dB dS dI u1.1 u1.2 fr to wc rc P S W A B R RW D) rfl ?_
  refine g_aload_n hc dL_law_119 rfl 2 rfl ?_
  refine g_aload_n hc dL_law_120 rfl 0 rfl ?_
  refine g_iload_n hc dL_law_121 rfl 3 rfl ?_
  refine g_iconst (v := nI 1) hc dL_law_122 (by decide) ?_
  refine n_iadd hc dL_law_123 ?_
  refine g_sld hc hsc (by omega) (by omega) dL_law_124 ?_
  refine g_aload_n hc dL_law_125 rfl 0 rfl ?_
  refine g_iload_n hc dL_law_126 rfl 3 rfl ?_
  refine g_iconst (v := nI 2) hc dL_law_127 (by decide) ?_
  refine n_iadd hc dL_law_128 ?_
  refine g_sld hc hsc (by omega) (by omega) dL_law_129 ?_
  refine g_aload_n hc dL_law_130 rfl 0 rfl ?_
  refine g_iload_n hc dL_law_131 rfl 3 rfl ?_
  refine g_iconst (v := nI 3) hc dL_law_132 (by decide) ?_
  refine n_iadd hc dL_law_133 ?_
  refine g_sld hc hsc (by omega) (by omega) dL_law_134 ?_
  refine l_callM (n := 3) (As := [.int (xs (i + 1)), .int (xs (i + 2)), .int (xs (i + 3))]) (rest := [.int r1]) hc (cM_build g dJ L cnt Y Z (xs (i + 1)) (xs (i + 2)) (xs (i + 3)) ) (lw_V q190 q191 q192 q19 q193) (by decide +kernel) (by decide) (by decide) rfl rfl (by simp [Value.category]) dL_law_135 (fun r2 u2 k2 => ?_)
  have heq : r1 = r2 := by
    exact (bld_eq k1 k2).1
  refine g_icmp_eq (tgt := 599) hc dL_law_138 (by decide) (fun _ => ?_) (fun hne => absurd heq hne)
  have hLe : u1.1 = u2 := (bld_eq k1 k2).2
  subst hLe
  exact next u1.1 (u1.2, fr, to, wc, rc, P, S, W, A, B, R, RW, D) cnt Y Z (XOK_bld hok k1)
theorem op_close {Γ : GP} {b Lx i : Nat} {xs : Nat → Int32} {h g : Nat → Nat} {dB dS dI dJ : ClassId} (hc : GC Γ cL_law 4 R_law (LT dB dS dI dJ) 8) (hsc : SC Γ b Lx xs) (hi : i + 5 ≤ Lx) (hLx : Lx ≤ 320) {L : Nat → Nat} {kn fr to wc rc : Nat} {P S W A B R RW D : Nat → Nat} {cnt : Nat} {Y Z : Nat → Nat} (hok : XOK L kn fr to wc rc P S W A B R RW) (next : ∀ (L' : Nat → Nat) (u : XS) (cnt' : Nat) (Y' Z' : Nat → Nat), XOKu L' u → G Γ (XWu h dB dS dI L' u ++ MW g dJ L' cnt' Y' Z') 599 [(0, .ref b), (1, .ref (h 0)), (2, .ref (g 0)), (3, .int (nI i))] []) : G Γ (XW h dB dS dI L kn fr to wc rc P S W A B R RW D ++ MW g dJ L cnt Y Z) 143 [(0, .ref b), (1, .ref (h 0)), (2, .ref (g 0)), (3, .int (nI i))] [] := by
  have hL := hok.1
  refine g_aload_n hc dL_law_143 rfl 1 rfl ?_
  refine g_aload_n hc dL_law_144 rfl 0 rfl ?_
  refine g_iload_n hc dL_law_145 rfl 3 rfl ?_
  refine g_iconst (v := nI 1) hc dL_law_146 (by decide) ?_
  refine n_iadd hc dL_law_147 ?_
  refine g_sld hc hsc (by omega) (by omega) dL_law_148 ?_
  refine g_aload_n hc dL_law_149 rfl 0 rfl ?_
  refine g_iload_n hc dL_law_150 rfl 3 rfl ?_
  refine g_iconst (v := nI 2) hc dL_law_151 (by decide) ?_
  refine n_iadd hc dL_law_152 ?_
  refine g_sld hc hsc (by omega) (by omega) dL_law_153 ?_
  refine l_callX (n := 2) (As := [.int (xs (i + 1)), .int (xs (i + 2))]) (rest := []) hc (cX_close h dB dS dI L kn fr to wc rc P S W A B R RW D (xs (i + 1)) (xs (i + 2)) hL) (lw_V q84 q85 q86 q18 q87) (by decide +kernel) (by decide) (by decide) rfl rfl (by simp [Value.category]) dL_law_154 (fun r1 u1 k1 => ?_)
  refine g_world (ws' := MW g dJ L cnt Y Z ++ XW h dB dS dI u1.1 u1.2 fr to wc rc P S W A B R RW D) rfl ?_
  refine g_aload_n hc dL_law_157 rfl 2 rfl ?_
  refine g_aload_n hc dL_law_158 rfl 0 rfl ?_
  refine g_iload_n hc dL_law_159 rfl 3 rfl ?_
  refine g_iconst (v := nI 1) hc dL_law_160 (by decide) ?_
  refine n_iadd hc dL_law_161 ?_
  refine g_sld hc hsc (by omega) (by omega) dL_law_162 ?_
  refine g_aload_n hc dL_law_163 rfl 0 rfl ?_
  refine g_iload_n hc dL_law_164 rfl 3 rfl ?_
  refine g_iconst (v := nI 2) hc dL_law_165 (by decide) ?_
  refine n_iadd hc dL_law_166 ?_
  refine g_sld hc hsc (by omega) (by omega) dL_law_167 ?_
  refine l_callM (n := 2) (As := [.int (xs (i + 1)), .int (xs (i + 2))]) (rest := [.int r1]) hc (cM_close g dJ L cnt Y Z (xs (i + 1)) (xs (i + 2)) hL) (lw_V q198 q199 q200 q19 q201) (by decide +kernel) (by decide) (by decide) rfl rfl (by simp [Value.category]) dL_law_168 (fun r2 u2 k2 => ?_)
  have heq : r1 = r2 := by
    exact (cls_eq k1 k2).1
  refine g_icmp_eq (tgt := 599) hc dL_law_171 (by decide) (fun _ => ?_) (fun hne => absurd heq hne)
  have hLe : u1.1 = u2 := (cls_eq k1 k2).2
  subst hLe
  exact next u1.1 (u1.2, fr, to, wc, rc, P, S, W, A, B, R, RW, D) cnt Y Z (XOK_cls hok k1)
theorem op_road {Γ : GP} {b Lx i : Nat} {xs : Nat → Int32} {h g : Nat → Nat} {dB dS dI dJ : ClassId} (hc : GC Γ cL_law 4 R_law (LT dB dS dI dJ) 8) (hsc : SC Γ b Lx xs) (hi : i + 5 ≤ Lx) (hLx : Lx ≤ 320) {L : Nat → Nat} {kn fr to wc rc : Nat} {P S W A B R RW D : Nat → Nat} {cnt : Nat} {Y Z : Nat → Nat} (hok : XOK L kn fr to wc rc P S W A B R RW) (next : ∀ (L' : Nat → Nat) (u : XS) (cnt' : Nat) (Y' Z' : Nat → Nat), XOKu L' u → G Γ (XWu h dB dS dI L' u ++ MW g dJ L' cnt' Y' Z') 599 [(0, .ref b), (1, .ref (h 0)), (2, .ref (g 0)), (3, .int (nI i))] []) : G Γ (XW h dB dS dI L kn fr to wc rc P S W A B R RW D ++ MW g dJ L cnt Y Z) 176 [(0, .ref b), (1, .ref (h 0)), (2, .ref (g 0)), (3, .int (nI i))] [] := by
  have hL := hok.1
  refine g_aload_n hc dL_law_176 rfl 1 rfl ?_
  refine g_aload_n hc dL_law_177 rfl 0 rfl ?_
  refine g_iload_n hc dL_law_178 rfl 3 rfl ?_
  refine g_iconst (v := nI 1) hc dL_law_179 (by decide) ?_
  refine n_iadd hc dL_law_180 ?_
  refine g_sld hc hsc (by omega) (by omega) dL_law_181 ?_
  refine g_aload_n hc dL_law_182 rfl 0 rfl ?_
  refine g_iload_n hc dL_law_183 rfl 3 rfl ?_
  refine g_iconst (v := nI 2) hc dL_law_184 (by decide) ?_
  refine n_iadd hc dL_law_185 ?_
  refine g_sld hc hsc (by omega) (by omega) dL_law_186 ?_
  refine l_callX (n := 2) (As := [.int (xs (i + 1)), .int (xs (i + 2))]) (rest := []) hc (cX_road h dB dS dI L kn fr to wc rc P S W A B R RW D (xs (i + 1)) (xs (i + 2)) hL) (lw_V q92 q89 q90 q18 q91) (by decide +kernel) (by decide) (by decide) rfl rfl (by simp [Value.category]) dL_law_187 (fun r1 u1 k1 => ?_)
  refine g_world (ws' := MW g dJ L cnt Y Z ++ XW h dB dS dI L kn fr to wc rc P S W A B R RW D) rfl ?_
  refine g_aload_n hc dL_law_190 rfl 2 rfl ?_
  refine g_aload_n hc dL_law_191 rfl 0 rfl ?_
  refine g_iload_n hc dL_law_192 rfl 3 rfl ?_
  refine g_iconst (v := nI 1) hc dL_law_193 (by decide) ?_
  refine n_iadd hc dL_law_194 ?_
  refine g_sld hc hsc (by omega) (by omega) dL_law_195 ?_
  refine g_aload_n hc dL_law_196 rfl 0 rfl ?_
  refine g_iload_n hc dL_law_197 rfl 3 rfl ?_
  refine g_iconst (v := nI 2) hc dL_law_198 (by decide) ?_
  refine n_iadd hc dL_law_199 ?_
  refine g_sld hc hsc (by omega) (by omega) dL_law_200 ?_
  refine l_callM (n := 2) (As := [.int (xs (i + 1)), .int (xs (i + 2))]) (rest := [.int r1]) hc (cM_road g dJ L cnt Y Z (xs (i + 1)) (xs (i + 2)) hL) (lw_V q202 q203 q204 q19 q205) (by decide +kernel) (by decide) (by decide) rfl rfl (by simp [Value.category]) dL_law_201 (fun r2 u2 k2 => ?_)
  have heq : r1 = r2 := by
    exact road_eq k1 k2
  refine g_icmp_eq (tgt := 599) hc dL_law_204 (by decide) (fun _ => ?_) (fun hne => absurd heq hne)
  exact next L (kn, fr, to, wc, rc, P, S, W, A, B, R, RW, D) cnt Y Z hok
theorem op_roads {Γ : GP} {b Lx i : Nat} {xs : Nat → Int32} {h g : Nat → Nat} {dB dS dI dJ : ClassId} (hc : GC Γ cL_law 4 R_law (LT dB dS dI dJ) 8) (hsc : SC Γ b Lx xs) (hi : i + 5 ≤ Lx) (hLx : Lx ≤ 320) {L : Nat → Nat} {kn fr to wc rc : Nat} {P S W A B R RW D : Nat → Nat} {cnt : Nat} {Y Z : Nat → Nat} (hok : XOK L kn fr to wc rc P S W A B R RW) (next : ∀ (L' : Nat → Nat) (u : XS) (cnt' : Nat) (Y' Z' : Nat → Nat), XOKu L' u → G Γ (XWu h dB dS dI L' u ++ MW g dJ L' cnt' Y' Z') 599 [(0, .ref b), (1, .ref (h 0)), (2, .ref (g 0)), (3, .int (nI i))] []) : G Γ (XW h dB dS dI L kn fr to wc rc P S W A B R RW D ++ MW g dJ L cnt Y Z) 209 [(0, .ref b), (1, .ref (h 0)), (2, .ref (g 0)), (3, .int (nI i))] [] := by
  have hL := hok.1
  refine g_aload_n hc dL_law_209 rfl 1 rfl ?_
  refine l_callX (n := 0) (As := []) (rest := []) hc (cX_roads h dB dS dI L kn fr to wc rc P S W A B R RW D  hL) (lw_V q93 q94 q95 q18 q96) (by decide +kernel) (by decide) (by decide) rfl rfl (by simp [Value.category]) dL_law_210 (fun r1 u1 k1 => ?_)
  refine g_world (ws' := MW g dJ L cnt Y Z ++ XW h dB dS dI L kn fr to wc rc P S W A B R RW D) rfl ?_
  refine g_aload_n hc dL_law_213 rfl 2 rfl ?_
  refine l_callM (n := 0) (As := []) (rest := [.int r1]) hc (cM_roads g dJ L cnt Y Z  hL) (lw_V q206 q207 q208 q19 q209) (by decide +kernel) (by decide) (by decide) rfl rfl (by simp [Value.category]) dL_law_214 (fun r2 u2 k2 => ?_)
  have heq : r1 = r2 := by
    exact eq_fn k1 k2
  refine g_icmp_eq (tgt := 599) hc dL_law_217 (by decide) (fun _ => ?_) (fun hne => absurd heq hne)
  exact next L (kn, fr, to, wc, rc, P, S, W, A, B, R, RW, D) cnt Y Z hok
theorem op_ways {Γ : GP} {b Lx i : Nat} {xs : Nat → Int32} {h g : Nat → Nat} {dB dS dI dJ : ClassId} (hc : GC Γ cL_law 4 R_law (LT dB dS dI dJ) 8) (hsc : SC Γ b Lx xs) (hi : i + 5 ≤ Lx) (hLx : Lx ≤ 320) {L : Nat → Nat} {kn fr to wc rc : Nat} {P S W A B R RW D : Nat → Nat} {cnt : Nat} {Y Z : Nat → Nat} (hok : XOK L kn fr to wc rc P S W A B R RW) (next : ∀ (L' : Nat → Nat) (u : XS) (cnt' : Nat) (Y' Z' : Nat → Nat), XOKu L' u → G Γ (XWu h dB dS dI L' u ++ MW g dJ L' cnt' Y' Z') 599 [(0, .ref b), (1, .ref (h 0)), (2, .ref (g 0)), (3, .int (nI i))] []) : G Γ (XW h dB dS dI L kn fr to wc rc P S W A B R RW D ++ MW g dJ L cnt Y Z) 222 [(0, .ref b), (1, .ref (h 0)), (2, .ref (g 0)), (3, .int (nI i))] [] := by
  have hL := hok.1
  refine g_aload_n hc dL_law_222 rfl 1 rfl ?_
  refine g_aload_n hc dL_law_223 rfl 0 rfl ?_
  refine g_iload_n hc dL_law_224 rfl 3 rfl ?_
  refine g_iconst (v := nI 1) hc dL_law_225 (by decide) ?_
  refine n_iadd hc dL_law_226 ?_
  refine g_sld hc hsc (by omega) (by omega) dL_law_227 ?_
  refine g_aload_n hc dL_law_228 rfl 0 rfl ?_
  refine g_iload_n hc dL_law_229 rfl 3 rfl ?_
  refine g_iconst (v := nI 2) hc dL_law_230 (by decide) ?_
  refine n_iadd hc dL_law_231 ?_
  refine g_sld hc hsc (by omega) (by omega) dL_law_232 ?_
  refine l_callX (n := 2) (As := [.int (xs (i + 1)), .int (xs (i + 2))]) (rest := []) hc (cX_ways h dB dS dI L kn fr to wc rc P S W A B R RW D (xs (i + 1)) (xs (i + 2)) hok) (lw_V q97 q98 q99 q18 q100) (by decide +kernel) (by decide) (by decide) rfl rfl (by simp [Value.category]) dL_law_233 (fun r1 u1 k1 => ?_)
  refine g_world (ws' := MW g dJ L cnt Y Z ++ XWu h dB dS dI L u1) rfl ?_
  refine g_aload_n hc dL_law_236 rfl 2 rfl ?_
  refine g_aload_n hc dL_law_237 rfl 0 rfl ?_
  refine g_iload_n hc dL_law_238 rfl 3 rfl ?_
  refine g_iconst (v := nI 1) hc dL_law_239 (by decide) ?_
  refine n_iadd hc dL_law_240 ?_
  refine g_sld hc hsc (by omega) (by omega) dL_law_241 ?_
  refine g_aload_n hc dL_law_242 rfl 0 rfl ?_
  refine g_iload_n hc dL_law_243 rfl 3 rfl ?_
  refine g_iconst (v := nI 2) hc dL_law_244 (by decide) ?_
  refine n_iadd hc dL_law_245 ?_
  refine g_sld hc hsc (by omega) (by omega) dL_law_246 ?_
  refine l_callM (n := 2) (As := [.int (xs (i + 1)), .int (xs (i + 2))]) (rest := [.int r1]) hc (cM_ways g dJ L cnt Y Z (xs (i + 1)) (xs (i + 2)) hL) (lw_V q210 q211 q212 q19 q213) (by decide +kernel) (by decide) (by decide) rfl rfl (by simp [Value.category]) dL_law_247 (fun r2 u2 k2 => ?_)
  have heq : r1 = r2 := by
    refine Ans_eq ?_ ?_ k1.2 k2
    · exact fun x y a b => eq_fn a b
    · exact fun _ _ _ x y _ _ a b => eq_fn a b
  refine g_icmp_eq (tgt := 599) hc dL_law_250 (by decide) (fun _ => ?_) (fun hne => absurd heq hne)
  exact next L u1 u2.1 u2.2.1 u2.2.2 k1.1
theorem op_length {Γ : GP} {b Lx i : Nat} {xs : Nat → Int32} {h g : Nat → Nat} {dB dS dI dJ : ClassId} (hc : GC Γ cL_law 4 R_law (LT dB dS dI dJ) 8) (hsc : SC Γ b Lx xs) (hi : i + 5 ≤ Lx) (hLx : Lx ≤ 320) {L : Nat → Nat} {kn fr to wc rc : Nat} {P S W A B R RW D : Nat → Nat} {cnt : Nat} {Y Z : Nat → Nat} (hok : XOK L kn fr to wc rc P S W A B R RW) (next : ∀ (L' : Nat → Nat) (u : XS) (cnt' : Nat) (Y' Z' : Nat → Nat), XOKu L' u → G Γ (XWu h dB dS dI L' u ++ MW g dJ L' cnt' Y' Z') 599 [(0, .ref b), (1, .ref (h 0)), (2, .ref (g 0)), (3, .int (nI i))] []) : G Γ (XW h dB dS dI L kn fr to wc rc P S W A B R RW D ++ MW g dJ L cnt Y Z) 255 [(0, .ref b), (1, .ref (h 0)), (2, .ref (g 0)), (3, .int (nI i))] [] := by
  have hL := hok.1
  refine g_aload_n hc dL_law_255 rfl 1 rfl ?_
  refine g_aload_n hc dL_law_256 rfl 0 rfl ?_
  refine g_iload_n hc dL_law_257 rfl 3 rfl ?_
  refine g_iconst (v := nI 1) hc dL_law_258 (by decide) ?_
  refine n_iadd hc dL_law_259 ?_
  refine g_sld hc hsc (by omega) (by omega) dL_law_260 ?_
  refine g_aload_n hc dL_law_261 rfl 0 rfl ?_
  refine g_iload_n hc dL_law_262 rfl 3 rfl ?_
  refine g_iconst (v := nI 2) hc dL_law_263 (by decide) ?_
  refine n_iadd hc dL_law_264 ?_
  refine g_sld hc hsc (by omega) (by omega) dL_law_265 ?_
  refine g_aload_n hc dL_law_266 rfl 0 rfl ?_
  refine g_iload_n hc dL_law_267 rfl 3 rfl ?_
  refine g_iconst (v := nI 3) hc dL_law_268 (by decide) ?_
  refine n_iadd hc dL_law_269 ?_
  refine g_sld hc hsc (by omega) (by omega) dL_law_270 ?_
  refine l_callX (n := 3) (As := [.int (xs (i + 1)), .int (xs (i + 2)), .int (xs (i + 3))]) (rest := []) hc (cX_length h dB dS dI L kn fr to wc rc P S W A B R RW D (xs (i + 1)) (xs (i + 2)) (xs (i + 3)) hok) (lw_V q129 q130 q131 q18 q132) (by decide +kernel) (by decide) (by decide) rfl rfl (by simp [Value.category]) dL_law_271 (fun r1 u1 k1 => ?_)
  refine g_world (ws' := MW g dJ L cnt Y Z ++ XWu h dB dS dI L u1) rfl ?_
  refine g_aload_n hc dL_law_274 rfl 2 rfl ?_
  refine g_aload_n hc dL_law_275 rfl 0 rfl ?_
  refine g_iload_n hc dL_law_276 rfl 3 rfl ?_
  refine g_iconst (v := nI 1) hc dL_law_277 (by decide) ?_
  refine n_iadd hc dL_law_278 ?_
  refine g_sld hc hsc (by omega) (by omega) dL_law_279 ?_
  refine g_aload_n hc dL_law_280 rfl 0 rfl ?_
  refine g_iload_n hc dL_law_281 rfl 3 rfl ?_
  refine g_iconst (v := nI 2) hc dL_law_282 (by decide) ?_
  refine n_iadd hc dL_law_283 ?_
  refine g_sld hc hsc (by omega) (by omega) dL_law_284 ?_
  refine g_aload_n hc dL_law_285 rfl 0 rfl ?_
  refine g_iload_n hc dL_law_286 rfl 3 rfl ?_
  refine g_iconst (v := nI 3) hc dL_law_287 (by decide) ?_
  refine n_iadd hc dL_law_288 ?_
  refine g_sld hc hsc (by omega) (by omega) dL_law_289 ?_
  refine l_callM (n := 3) (As := [.int (xs (i + 1)), .int (xs (i + 2)), .int (xs (i + 3))]) (rest := [.int r1]) hc (cM_length g dJ L cnt Y Z (xs (i + 1)) (xs (i + 2)) (xs (i + 3)) hL) (lw_V q222 q223 q224 q19 q225) (by decide +kernel) (by decide) (by decide) rfl rfl (by simp [Value.category]) dL_law_290 (fun r2 u2 k2 => ?_)
  have heq : r1 = r2 := by
    refine Ans_eq ?_ ?_ k1.2 k2
    · exact fun x y a b => eq_fn a b
    · exact fun _ _ _ x y _ _ a b => eq_fn a b
  refine g_icmp_eq (tgt := 599) hc dL_law_293 (by decide) (fun _ => ?_) (fun hne => absurd heq hne)
  exact next L u1 u2.1 u2.2.1 u2.2.2 k1.1
theorem op_place {Γ : GP} {b Lx i : Nat} {xs : Nat → Int32} {h g : Nat → Nat} {dB dS dI dJ : ClassId} (hc : GC Γ cL_law 4 R_law (LT dB dS dI dJ) 8) (hsc : SC Γ b Lx xs) (hi : i + 5 ≤ Lx) (hLx : Lx ≤ 320) {L : Nat → Nat} {kn fr to wc rc : Nat} {P S W A B R RW D : Nat → Nat} {cnt : Nat} {Y Z : Nat → Nat} (hok : XOK L kn fr to wc rc P S W A B R RW) (next : ∀ (L' : Nat → Nat) (u : XS) (cnt' : Nat) (Y' Z' : Nat → Nat), XOKu L' u → G Γ (XWu h dB dS dI L' u ++ MW g dJ L' cnt' Y' Z') 599 [(0, .ref b), (1, .ref (h 0)), (2, .ref (g 0)), (3, .int (nI i))] []) : G Γ (XW h dB dS dI L kn fr to wc rc P S W A B R RW D ++ MW g dJ L cnt Y Z) 298 [(0, .ref b), (1, .ref (h 0)), (2, .ref (g 0)), (3, .int (nI i))] [] := by
  have hL := hok.1
  refine g_aload_n hc dL_law_298 rfl 1 rfl ?_
  refine g_aload_n hc dL_law_299 rfl 0 rfl ?_
  refine g_iload_n hc dL_law_300 rfl 3 rfl ?_
  refine g_iconst (v := nI 1) hc dL_law_301 (by decide) ?_
  refine n_iadd hc dL_law_302 ?_
  refine g_sld hc hsc (by omega) (by omega) dL_law_303 ?_
  refine g_aload_n hc dL_law_304 rfl 0 rfl ?_
  refine g_iload_n hc dL_law_305 rfl 3 rfl ?_
  refine g_iconst (v := nI 2) hc dL_law_306 (by decide) ?_
  refine n_iadd hc dL_law_307 ?_
  refine g_sld hc hsc (by omega) (by omega) dL_law_308 ?_
  refine g_aload_n hc dL_law_309 rfl 0 rfl ?_
  refine g_iload_n hc dL_law_310 rfl 3 rfl ?_
  refine g_iconst (v := nI 3) hc dL_law_311 (by decide) ?_
  refine n_iadd hc dL_law_312 ?_
  refine g_sld hc hsc (by omega) (by omega) dL_law_313 ?_
  refine g_aload_n hc dL_law_314 rfl 0 rfl ?_
  refine g_iload_n hc dL_law_315 rfl 3 rfl ?_
  refine g_iconst (v := nI 4) hc dL_law_316 (by decide) ?_
  refine n_iadd hc dL_law_317 ?_
  refine g_sld hc hsc (by omega) (by omega) dL_law_318 ?_
  refine l_callX (n := 4) (As := [.int (xs (i + 1)), .int (xs (i + 2)), .int (xs (i + 3)), .int (xs (i + 4))]) (rest := []) hc (cX_place h dB dS dI L kn fr to wc rc P S W A B R RW D (xs (i + 1)) (xs (i + 2)) (xs (i + 3)) (xs (i + 4)) hok) (lw_V q137 q138 q139 q18 q140) (by decide +kernel) (by decide) (by decide) rfl rfl (by simp [Value.category]) dL_law_319 (fun r1 u1 k1 => ?_)
  refine g_world (ws' := MW g dJ L cnt Y Z ++ XWu h dB dS dI L u1) rfl ?_
  refine g_aload_n hc dL_law_322 rfl 2 rfl ?_
  refine g_aload_n hc dL_law_323 rfl 0 rfl ?_
  refine g_iload_n hc dL_law_324 rfl 3 rfl ?_
  refine g_iconst (v := nI 1) hc dL_law_325 (by decide) ?_
  refine n_iadd hc dL_law_326 ?_
  refine g_sld hc hsc (by omega) (by omega) dL_law_327 ?_
  refine g_aload_n hc dL_law_328 rfl 0 rfl ?_
  refine g_iload_n hc dL_law_329 rfl 3 rfl ?_
  refine g_iconst (v := nI 2) hc dL_law_330 (by decide) ?_
  refine n_iadd hc dL_law_331 ?_
  refine g_sld hc hsc (by omega) (by omega) dL_law_332 ?_
  refine g_aload_n hc dL_law_333 rfl 0 rfl ?_
  refine g_iload_n hc dL_law_334 rfl 3 rfl ?_
  refine g_iconst (v := nI 3) hc dL_law_335 (by decide) ?_
  refine n_iadd hc dL_law_336 ?_
  refine g_sld hc hsc (by omega) (by omega) dL_law_337 ?_
  refine g_aload_n hc dL_law_338 rfl 0 rfl ?_
  refine g_iload_n hc dL_law_339 rfl 3 rfl ?_
  refine g_iconst (v := nI 4) hc dL_law_340 (by decide) ?_
  refine n_iadd hc dL_law_341 ?_
  refine g_sld hc hsc (by omega) (by omega) dL_law_342 ?_
  refine l_callM (n := 4) (As := [.int (xs (i + 1)), .int (xs (i + 2)), .int (xs (i + 3)), .int (xs (i + 4))]) (rest := [.int r1]) hc (cM_place g dJ L cnt Y Z (xs (i + 1)) (xs (i + 2)) (xs (i + 3)) (xs (i + 4)) hL) (lw_V q242 q243 q244 q19 q245) (by decide +kernel) (by decide) (by decide) rfl rfl (by simp [Value.category]) dL_law_343 (fun r2 u2 k2 => ?_)
  have heq : r1 = r2 := by
    refine Ans_eq ?_ ?_ k1.2 k2
    · exact fun x y a b => eq_fn a b
    · exact fun _ _ _ x y _ _ a b => eq_fn a b
  refine g_icmp_eq (tgt := 599) hc dL_law_346 (by decide) (fun _ => ?_) (fun hne => absurd heq hne)
  exact next L u1 u2.1 u2.2.1 u2.2.2 k1.1
end
section
set_option maxRecDepth 100000
set_option maxHeartbeats 4000000
theorem op_size {Γ : GP} {b Lx i : Nat} {xs : Nat → Int32} {h g : Nat → Nat} {dB dS dI dJ : ClassId} (hc : GC Γ cL_law 4 R_law (LT dB dS dI dJ) 8) (hsc : SC Γ b Lx xs) (hi : i + 5 ≤ Lx) (hLx : Lx ≤ 320) {L : Nat → Nat} {kn fr to wc rc : Nat} {P S W A B R RW D : Nat → Nat} {cnt : Nat} {Y Z : Nat → Nat} (hok : XOK L kn fr to wc rc P S W A B R RW) (next : ∀ (L' : Nat → Nat) (u : XS) (cnt' : Nat) (Y' Z' : Nat → Nat), XOKu L' u → G Γ (XWu h dB dS dI L' u ++ MW g dJ L' cnt' Y' Z') 599 [(0, .ref b), (1, .ref (h 0)), (2, .ref (g 0)), (3, .int (nI i))] []) : G Γ (XW h dB dS dI L kn fr to wc rc P S W A B R RW D ++ MW g dJ L cnt Y Z) 351 [(0, .ref b), (1, .ref (h 0)), (2, .ref (g 0)), (3, .int (nI i))] [] := by
  have hL := hok.1
  refine g_aload_n hc dL_law_351 rfl 1 rfl ?_
  refine g_aload_n hc dL_law_352 rfl 0 rfl ?_
  refine g_iload_n hc dL_law_353 rfl 3 rfl ?_
  refine g_iconst (v := nI 1) hc dL_law_354 (by decide) ?_
  refine n_iadd hc dL_law_355 ?_
  refine g_sld hc hsc (by omega) (by omega) dL_law_356 ?_
  refine g_aload_n hc dL_law_357 rfl 0 rfl ?_
  refine g_iload_n hc dL_law_358 rfl 3 rfl ?_
  refine g_iconst (v := nI 2) hc dL_law_359 (by decide) ?_
  refine n_iadd hc dL_law_360 ?_
  refine g_sld hc hsc (by omega) (by omega) dL_law_361 ?_
  refine g_aload_n hc dL_law_362 rfl 0 rfl ?_
  refine g_iload_n hc dL_law_363 rfl 3 rfl ?_
  refine g_iconst (v := nI 3) hc dL_law_364 (by decide) ?_
  refine n_iadd hc dL_law_365 ?_
  refine g_sld hc hsc (by omega) (by omega) dL_law_366 ?_
  refine l_callX (n := 3) (As := [.int (xs (i + 1)), .int (xs (i + 2)), .int (xs (i + 3))]) (rest := []) hc (cX_size h dB dS dI L kn fr to wc rc P S W A B R RW D (xs (i + 1)) (xs (i + 2)) (xs (i + 3)) hok) (lw_V q141 q142 q143 q18 q144) (by decide +kernel) (by decide) (by decide) rfl rfl (by simp [Value.category]) dL_law_367 (fun r1 u1 k1 => ?_)
  refine g_world (ws' := MW g dJ L cnt Y Z ++ XWu h dB dS dI L u1) rfl ?_
  refine g_aload_n hc dL_law_370 rfl 2 rfl ?_
  refine g_aload_n hc dL_law_371 rfl 0 rfl ?_
  refine g_iload_n hc dL_law_372 rfl 3 rfl ?_
  refine g_iconst (v := nI 1) hc dL_law_373 (by decide) ?_
  refine n_iadd hc dL_law_374 ?_
  refine g_sld hc hsc (by omega) (by omega) dL_law_375 ?_
  refine g_aload_n hc dL_law_376 rfl 0 rfl ?_
  refine g_iload_n hc dL_law_377 rfl 3 rfl ?_
  refine g_iconst (v := nI 2) hc dL_law_378 (by decide) ?_
  refine n_iadd hc dL_law_379 ?_
  refine g_sld hc hsc (by omega) (by omega) dL_law_380 ?_
  refine g_aload_n hc dL_law_381 rfl 0 rfl ?_
  refine g_iload_n hc dL_law_382 rfl 3 rfl ?_
  refine g_iconst (v := nI 3) hc dL_law_383 (by decide) ?_
  refine n_iadd hc dL_law_384 ?_
  refine g_sld hc hsc (by omega) (by omega) dL_law_385 ?_
  refine l_callM (n := 3) (As := [.int (xs (i + 1)), .int (xs (i + 2)), .int (xs (i + 3))]) (rest := [.int r1]) hc (cM_size g dJ L cnt Y Z (xs (i + 1)) (xs (i + 2)) (xs (i + 3)) hL) (lw_V q250 q251 q252 q19 q253) (by decide +kernel) (by decide) (by decide) rfl rfl (by simp [Value.category]) dL_law_386 (fun r2 u2 k2 => ?_)
  have heq : r1 = r2 := by
    refine Ans_eq ?_ ?_ k1.2 k2
    · exact fun x y a b => eq_fn a b
    · exact fun _ _ _ x y _ _ a b => eq_fn a b
  refine g_icmp_eq (tgt := 599) hc dL_law_389 (by decide) (fun _ => ?_) (fun hne => absurd heq hne)
  exact next L u1 u2.1 u2.2.1 u2.2.2 k1.1
theorem op_within {Γ : GP} {b Lx i : Nat} {xs : Nat → Int32} {h g : Nat → Nat} {dB dS dI dJ : ClassId} (hc : GC Γ cL_law 4 R_law (LT dB dS dI dJ) 8) (hsc : SC Γ b Lx xs) (hi : i + 5 ≤ Lx) (hLx : Lx ≤ 320) {L : Nat → Nat} {kn fr to wc rc : Nat} {P S W A B R RW D : Nat → Nat} {cnt : Nat} {Y Z : Nat → Nat} (hok : XOK L kn fr to wc rc P S W A B R RW) (next : ∀ (L' : Nat → Nat) (u : XS) (cnt' : Nat) (Y' Z' : Nat → Nat), XOKu L' u → G Γ (XWu h dB dS dI L' u ++ MW g dJ L' cnt' Y' Z') 599 [(0, .ref b), (1, .ref (h 0)), (2, .ref (g 0)), (3, .int (nI i))] []) : G Γ (XW h dB dS dI L kn fr to wc rc P S W A B R RW D ++ MW g dJ L cnt Y Z) 394 [(0, .ref b), (1, .ref (h 0)), (2, .ref (g 0)), (3, .int (nI i))] [] := by
  have hL := hok.1
  refine g_aload_n hc dL_law_394 rfl 1 rfl ?_
  refine g_aload_n hc dL_law_395 rfl 0 rfl ?_
  refine g_iload_n hc dL_law_396 rfl 3 rfl ?_
  refine g_iconst (v := nI 1) hc dL_law_397 (by decide) ?_
  refine n_iadd hc dL_law_398 ?_
  refine g_sld hc hsc (by omega) (by omega) dL_law_399 ?_
  refine g_aload_n hc dL_law_400 rfl 0 rfl ?_
  refine g_iload_n hc dL_law_401 rfl 3 rfl ?_
  refine g_iconst (v := nI 2) hc dL_law_402 (by decide) ?_
  refine n_iadd hc dL_law_403 ?_
  refine g_sld hc hsc (by omega) (by omega) dL_law_404 ?_
  refine g_aload_n hc dL_law_405 rfl 0 rfl ?_
  refine g_iload_n hc dL_law_406 rfl 3 rfl ?_
  refine g_iconst (v := nI 3) hc dL_law_407 (by decide) ?_
  refine n_iadd hc dL_law_408 ?_
  refine g_sld hc hsc (by omega) (by omega) dL_law_409 ?_
  refine l_callX (n := 3) (As := [.int (xs (i + 1)), .int (xs (i + 2)), .int (xs (i + 3))]) (rest := []) hc (cX_within h dB dS dI L kn fr to wc rc P S W A B R RW D (xs (i + 1)) (xs (i + 2)) (xs (i + 3)) hok) (lw_V q145 q146 q147 q18 q148) (by decide +kernel) (by decide) (by decide) rfl rfl (by simp [Value.category]) dL_law_410 (fun r1 u1 k1 => ?_)
  refine g_world (ws' := MW g dJ L cnt Y Z ++ XWu h dB dS dI L u1) rfl ?_
  refine g_aload_n hc dL_law_413 rfl 2 rfl ?_
  refine g_aload_n hc dL_law_414 rfl 0 rfl ?_
  refine g_iload_n hc dL_law_415 rfl 3 rfl ?_
  refine g_iconst (v := nI 1) hc dL_law_416 (by decide) ?_
  refine n_iadd hc dL_law_417 ?_
  refine g_sld hc hsc (by omega) (by omega) dL_law_418 ?_
  refine g_aload_n hc dL_law_419 rfl 0 rfl ?_
  refine g_iload_n hc dL_law_420 rfl 3 rfl ?_
  refine g_iconst (v := nI 2) hc dL_law_421 (by decide) ?_
  refine n_iadd hc dL_law_422 ?_
  refine g_sld hc hsc (by omega) (by omega) dL_law_423 ?_
  refine g_aload_n hc dL_law_424 rfl 0 rfl ?_
  refine g_iload_n hc dL_law_425 rfl 3 rfl ?_
  refine g_iconst (v := nI 3) hc dL_law_426 (by decide) ?_
  refine n_iadd hc dL_law_427 ?_
  refine g_sld hc hsc (by omega) (by omega) dL_law_428 ?_
  refine l_callM (n := 3) (As := [.int (xs (i + 1)), .int (xs (i + 2)), .int (xs (i + 3))]) (rest := [.int r1]) hc (cM_within g dJ L cnt Y Z (xs (i + 1)) (xs (i + 2)) (xs (i + 3)) hL) (lw_V q254 q255 q256 q19 q257) (by decide +kernel) (by decide) (by decide) rfl rfl (by simp [Value.category]) dL_law_429 (fun r2 u2 k2 => ?_)
  have heq : r1 = r2 := by
    refine Ans_eq ?_ ?_ k1.2 k2
    · exact fun x y a b => eq_fn a b
    · exact fun _ _ _ x y _ _ a b => eq_fn a b
  refine g_icmp_eq (tgt := 599) hc dL_law_432 (by decide) (fun _ => ?_) (fun hne => absurd heq hne)
  exact next L u1 u2.1 u2.2.1 u2.2.2 k1.1
theorem op_shortest {Γ : GP} {b Lx i : Nat} {xs : Nat → Int32} {h g : Nat → Nat} {dB dS dI dJ : ClassId} (hc : GC Γ cL_law 4 R_law (LT dB dS dI dJ) 8) (hsc : SC Γ b Lx xs) (hi : i + 5 ≤ Lx) (hLx : Lx ≤ 320) {L : Nat → Nat} {kn fr to wc rc : Nat} {P S W A B R RW D : Nat → Nat} {cnt : Nat} {Y Z : Nat → Nat} (hok : XOK L kn fr to wc rc P S W A B R RW) (next : ∀ (L' : Nat → Nat) (u : XS) (cnt' : Nat) (Y' Z' : Nat → Nat), XOKu L' u → G Γ (XWu h dB dS dI L' u ++ MW g dJ L' cnt' Y' Z') 599 [(0, .ref b), (1, .ref (h 0)), (2, .ref (g 0)), (3, .int (nI i))] []) : G Γ (XW h dB dS dI L kn fr to wc rc P S W A B R RW D ++ MW g dJ L cnt Y Z) 437 [(0, .ref b), (1, .ref (h 0)), (2, .ref (g 0)), (3, .int (nI i))] [] := by
  have hL := hok.1
  refine g_aload_n hc dL_law_437 rfl 1 rfl ?_
  refine g_aload_n hc dL_law_438 rfl 0 rfl ?_
  refine g_iload_n hc dL_law_439 rfl 3 rfl ?_
  refine g_iconst (v := nI 1) hc dL_law_440 (by decide) ?_
  refine n_iadd hc dL_law_441 ?_
  refine g_sld hc hsc (by omega) (by omega) dL_law_442 ?_
  refine g_aload_n hc dL_law_443 rfl 0 rfl ?_
  refine g_iload_n hc dL_law_444 rfl 3 rfl ?_
  refine g_iconst (v := nI 2) hc dL_law_445 (by decide) ?_
  refine n_iadd hc dL_law_446 ?_
  refine g_sld hc hsc (by omega) (by omega) dL_law_447 ?_
  refine l_callX (n := 2) (As := [.int (xs (i + 1)), .int (xs (i + 2))]) (rest := []) hc (cX_shortest h dB dS dI L kn fr to wc rc P S W A B R RW D (xs (i + 1)) (xs (i + 2)) hok) (lw_V q149 q150 q151 q18 q152) (by decide +kernel) (by decide) (by decide) rfl rfl (by simp [Value.category]) dL_law_448 (fun r1 u1 k1 => ?_)
  refine g_world (ws' := MW g dJ L cnt Y Z ++ XWu h dB dS dI L u1) rfl ?_
  refine g_aload_n hc dL_law_451 rfl 2 rfl ?_
  refine g_aload_n hc dL_law_452 rfl 0 rfl ?_
  refine g_iload_n hc dL_law_453 rfl 3 rfl ?_
  refine g_iconst (v := nI 1) hc dL_law_454 (by decide) ?_
  refine n_iadd hc dL_law_455 ?_
  refine g_sld hc hsc (by omega) (by omega) dL_law_456 ?_
  refine g_aload_n hc dL_law_457 rfl 0 rfl ?_
  refine g_iload_n hc dL_law_458 rfl 3 rfl ?_
  refine g_iconst (v := nI 2) hc dL_law_459 (by decide) ?_
  refine n_iadd hc dL_law_460 ?_
  refine g_sld hc hsc (by omega) (by omega) dL_law_461 ?_
  refine l_callM (n := 2) (As := [.int (xs (i + 1)), .int (xs (i + 2))]) (rest := [.int r1]) hc (cM_shortest g dJ L cnt Y Z (xs (i + 1)) (xs (i + 2)) hL) (lw_V q258 q259 q260 q19 q261) (by decide +kernel) (by decide) (by decide) rfl rfl (by simp [Value.category]) dL_law_462 (fun r2 u2 k2 => ?_)
  have heq : r1 = r2 := by
    refine Ans_eq ?_ ?_ k1.2 k2
    · exact fun x y a b => eq_fn a b
    · exact fun _ _ _ x y _ _ a b => eq_fn a b
  refine g_icmp_eq (tgt := 599) hc dL_law_465 (by decide) (fun _ => ?_) (fun hne => absurd heq hne)
  exact next L u1 u2.1 u2.2.1 u2.2.2 k1.1
theorem op_musts {Γ : GP} {b Lx i : Nat} {xs : Nat → Int32} {h g : Nat → Nat} {dB dS dI dJ : ClassId} (hc : GC Γ cL_law 4 R_law (LT dB dS dI dJ) 8) (hsc : SC Γ b Lx xs) (hi : i + 5 ≤ Lx) (hLx : Lx ≤ 320) {L : Nat → Nat} {kn fr to wc rc : Nat} {P S W A B R RW D : Nat → Nat} {cnt : Nat} {Y Z : Nat → Nat} (hok : XOK L kn fr to wc rc P S W A B R RW) (next : ∀ (L' : Nat → Nat) (u : XS) (cnt' : Nat) (Y' Z' : Nat → Nat), XOKu L' u → G Γ (XWu h dB dS dI L' u ++ MW g dJ L' cnt' Y' Z') 599 [(0, .ref b), (1, .ref (h 0)), (2, .ref (g 0)), (3, .int (nI i))] []) : G Γ (XW h dB dS dI L kn fr to wc rc P S W A B R RW D ++ MW g dJ L cnt Y Z) 470 [(0, .ref b), (1, .ref (h 0)), (2, .ref (g 0)), (3, .int (nI i))] [] := by
  have hL := hok.1
  refine g_aload_n hc dL_law_470 rfl 1 rfl ?_
  refine g_aload_n hc dL_law_471 rfl 0 rfl ?_
  refine g_iload_n hc dL_law_472 rfl 3 rfl ?_
  refine g_iconst (v := nI 1) hc dL_law_473 (by decide) ?_
  refine n_iadd hc dL_law_474 ?_
  refine g_sld hc hsc (by omega) (by omega) dL_law_475 ?_
  refine g_aload_n hc dL_law_476 rfl 0 rfl ?_
  refine g_iload_n hc dL_law_477 rfl 3 rfl ?_
  refine g_iconst (v := nI 2) hc dL_law_478 (by decide) ?_
  refine n_iadd hc dL_law_479 ?_
  refine g_sld hc hsc (by omega) (by omega) dL_law_480 ?_
  refine l_callX (n := 2) (As := [.int (xs (i + 1)), .int (xs (i + 2))]) (rest := []) hc (cX_musts h dB dS dI L kn fr to wc rc P S W A B R RW D (xs (i + 1)) (xs (i + 2)) hok) (lw_V q155 q156 q157 q18 q158) (by decide +kernel) (by decide) (by decide) rfl rfl (by simp [Value.category]) dL_law_481 (fun r1 u1 k1 => ?_)
  refine g_world (ws' := MW g dJ L cnt Y Z ++ XWu h dB dS dI L u1) rfl ?_
  refine g_aload_n hc dL_law_484 rfl 2 rfl ?_
  refine g_aload_n hc dL_law_485 rfl 0 rfl ?_
  refine g_iload_n hc dL_law_486 rfl 3 rfl ?_
  refine g_iconst (v := nI 1) hc dL_law_487 (by decide) ?_
  refine n_iadd hc dL_law_488 ?_
  refine g_sld hc hsc (by omega) (by omega) dL_law_489 ?_
  refine g_aload_n hc dL_law_490 rfl 0 rfl ?_
  refine g_iload_n hc dL_law_491 rfl 3 rfl ?_
  refine g_iconst (v := nI 2) hc dL_law_492 (by decide) ?_
  refine n_iadd hc dL_law_493 ?_
  refine g_sld hc hsc (by omega) (by omega) dL_law_494 ?_
  refine l_callM (n := 2) (As := [.int (xs (i + 1)), .int (xs (i + 2))]) (rest := [.int r1]) hc (cM_musts g dJ L cnt Y Z (xs (i + 1)) (xs (i + 2)) hL) (lw_V q264 q265 q266 q19 q267) (by decide +kernel) (by decide) (by decide) rfl rfl (by simp [Value.category]) dL_law_495 (fun r2 u2 k2 => ?_)
  have heq : r1 = r2 := by
    refine Ans_eq ?_ ?_ k1.2 k2
    · exact fun x y a b => eq_fn a b
    · exact fun _ _ _ x y _ _ a b => musF_fun a b
  refine g_icmp_eq (tgt := 599) hc dL_law_498 (by decide) (fun _ => ?_) (fun hne => absurd heq hne)
  exact next L u1 u2.1 u2.2.1 u2.2.2 k1.1
theorem op_firstAvoiding {Γ : GP} {b Lx i : Nat} {xs : Nat → Int32} {h g : Nat → Nat} {dB dS dI dJ : ClassId} (hc : GC Γ cL_law 4 R_law (LT dB dS dI dJ) 8) (hsc : SC Γ b Lx xs) (hi : i + 5 ≤ Lx) (hLx : Lx ≤ 320) {L : Nat → Nat} {kn fr to wc rc : Nat} {P S W A B R RW D : Nat → Nat} {cnt : Nat} {Y Z : Nat → Nat} (hok : XOK L kn fr to wc rc P S W A B R RW) (next : ∀ (L' : Nat → Nat) (u : XS) (cnt' : Nat) (Y' Z' : Nat → Nat), XOKu L' u → G Γ (XWu h dB dS dI L' u ++ MW g dJ L' cnt' Y' Z') 599 [(0, .ref b), (1, .ref (h 0)), (2, .ref (g 0)), (3, .int (nI i))] []) : G Γ (XW h dB dS dI L kn fr to wc rc P S W A B R RW D ++ MW g dJ L cnt Y Z) 503 [(0, .ref b), (1, .ref (h 0)), (2, .ref (g 0)), (3, .int (nI i))] [] := by
  have hL := hok.1
  refine g_aload_n hc dL_law_503 rfl 1 rfl ?_
  refine g_aload_n hc dL_law_504 rfl 0 rfl ?_
  refine g_iload_n hc dL_law_505 rfl 3 rfl ?_
  refine g_iconst (v := nI 1) hc dL_law_506 (by decide) ?_
  refine n_iadd hc dL_law_507 ?_
  refine g_sld hc hsc (by omega) (by omega) dL_law_508 ?_
  refine g_aload_n hc dL_law_509 rfl 0 rfl ?_
  refine g_iload_n hc dL_law_510 rfl 3 rfl ?_
  refine g_iconst (v := nI 2) hc dL_law_511 (by decide) ?_
  refine n_iadd hc dL_law_512 ?_
  refine g_sld hc hsc (by omega) (by omega) dL_law_513 ?_
  refine g_aload_n hc dL_law_514 rfl 0 rfl ?_
  refine g_iload_n hc dL_law_515 rfl 3 rfl ?_
  refine g_iconst (v := nI 3) hc dL_law_516 (by decide) ?_
  refine n_iadd hc dL_law_517 ?_
  refine g_sld hc hsc (by omega) (by omega) dL_law_518 ?_
  refine l_callX (n := 3) (As := [.int (xs (i + 1)), .int (xs (i + 2)), .int (xs (i + 3))]) (rest := []) hc (cX_firstAvoiding h dB dS dI L kn fr to wc rc P S W A B R RW D (xs (i + 1)) (xs (i + 2)) (xs (i + 3)) hok) (lw_V q163 q164 q165 q18 q166) (by decide +kernel) (by decide) (by decide) rfl rfl (by simp [Value.category]) dL_law_519 (fun r1 u1 k1 => ?_)
  refine g_world (ws' := MW g dJ L cnt Y Z ++ XWu h dB dS dI L u1) rfl ?_
  refine g_aload_n hc dL_law_522 rfl 2 rfl ?_
  refine g_aload_n hc dL_law_523 rfl 0 rfl ?_
  refine g_iload_n hc dL_law_524 rfl 3 rfl ?_
  refine g_iconst (v := nI 1) hc dL_law_525 (by decide) ?_
  refine n_iadd hc dL_law_526 ?_
  refine g_sld hc hsc (by omega) (by omega) dL_law_527 ?_
  refine g_aload_n hc dL_law_528 rfl 0 rfl ?_
  refine g_iload_n hc dL_law_529 rfl 3 rfl ?_
  refine g_iconst (v := nI 2) hc dL_law_530 (by decide) ?_
  refine n_iadd hc dL_law_531 ?_
  refine g_sld hc hsc (by omega) (by omega) dL_law_532 ?_
  refine g_aload_n hc dL_law_533 rfl 0 rfl ?_
  refine g_iload_n hc dL_law_534 rfl 3 rfl ?_
  refine g_iconst (v := nI 3) hc dL_law_535 (by decide) ?_
  refine n_iadd hc dL_law_536 ?_
  refine g_sld hc hsc (by omega) (by omega) dL_law_537 ?_
  refine l_callM (n := 3) (As := [.int (xs (i + 1)), .int (xs (i + 2)), .int (xs (i + 3))]) (rest := [.int r1]) hc (cM_firstAvoiding g dJ L cnt Y Z (xs (i + 1)) (xs (i + 2)) (xs (i + 3)) hL) (lw_V q272 q273 q274 q19 q275) (by decide +kernel) (by decide) (by decide) rfl rfl (by simp [Value.category]) dL_law_538 (fun r2 u2 k2 => ?_)
  have heq : r1 = r2 := by
    exact avo_eq k1.2 k2
  refine g_icmp_eq (tgt := 599) hc dL_law_541 (by decide) (fun _ => ?_) (fun hne => absurd heq hne)
  exact next L u1 u2.1 u2.2.1 u2.2.2 k1.1
theorem op_detour {Γ : GP} {b Lx i : Nat} {xs : Nat → Int32} {h g : Nat → Nat} {dB dS dI dJ : ClassId} (hc : GC Γ cL_law 4 R_law (LT dB dS dI dJ) 8) (hsc : SC Γ b Lx xs) (hi : i + 5 ≤ Lx) (hLx : Lx ≤ 320) {L : Nat → Nat} {kn fr to wc rc : Nat} {P S W A B R RW D : Nat → Nat} {cnt : Nat} {Y Z : Nat → Nat} (hok : XOK L kn fr to wc rc P S W A B R RW) (next : ∀ (L' : Nat → Nat) (u : XS) (cnt' : Nat) (Y' Z' : Nat → Nat), XOKu L' u → G Γ (XWu h dB dS dI L' u ++ MW g dJ L' cnt' Y' Z') 599 [(0, .ref b), (1, .ref (h 0)), (2, .ref (g 0)), (3, .int (nI i))] []) : G Γ (XW h dB dS dI L kn fr to wc rc P S W A B R RW D ++ MW g dJ L cnt Y Z) 546 [(0, .ref b), (1, .ref (h 0)), (2, .ref (g 0)), (3, .int (nI i))] [] := by
  have hL := hok.1
  refine g_aload_n hc dL_law_546 rfl 1 rfl ?_
  refine g_aload_n hc dL_law_547 rfl 0 rfl ?_
  refine g_iload_n hc dL_law_548 rfl 3 rfl ?_
  refine g_iconst (v := nI 1) hc dL_law_549 (by decide) ?_
  refine n_iadd hc dL_law_550 ?_
  refine g_sld hc hsc (by omega) (by omega) dL_law_551 ?_
  refine g_aload_n hc dL_law_552 rfl 0 rfl ?_
  refine g_iload_n hc dL_law_553 rfl 3 rfl ?_
  refine g_iconst (v := nI 2) hc dL_law_554 (by decide) ?_
  refine n_iadd hc dL_law_555 ?_
  refine g_sld hc hsc (by omega) (by omega) dL_law_556 ?_
  refine g_aload_n hc dL_law_557 rfl 0 rfl ?_
  refine g_iload_n hc dL_law_558 rfl 3 rfl ?_
  refine g_iconst (v := nI 3) hc dL_law_559 (by decide) ?_
  refine n_iadd hc dL_law_560 ?_
  refine g_sld hc hsc (by omega) (by omega) dL_law_561 ?_
  refine g_aload_n hc dL_law_562 rfl 0 rfl ?_
  refine g_iload_n hc dL_law_563 rfl 3 rfl ?_
  refine g_iconst (v := nI 4) hc dL_law_564 (by decide) ?_
  refine n_iadd hc dL_law_565 ?_
  refine g_sld hc hsc (by omega) (by omega) dL_law_566 ?_
  refine l_callX (n := 4) (As := [.int (xs (i + 1)), .int (xs (i + 2)), .int (xs (i + 3)), .int (xs (i + 4))]) (rest := []) hc (cX_detour h dB dS dI L kn fr to wc rc P S W A B R RW D (xs (i + 1)) (xs (i + 2)) (xs (i + 3)) (xs (i + 4)) hL) (lw_V q167 q168 q169 q18 q170) (by decide +kernel) (by decide) (by decide) rfl rfl (by simp [Value.category]) dL_law_567 (fun r1 u1 k1 => ?_)
  refine g_world (ws' := MW g dJ L cnt Y Z ++ XW h dB dS dI L kn fr to wc rc P S W A B R RW u1) rfl ?_
  refine g_aload_n hc dL_law_570 rfl 2 rfl ?_
  refine g_aload_n hc dL_law_571 rfl 0 rfl ?_
  refine g_iload_n hc dL_law_572 rfl 3 rfl ?_
  refine g_iconst (v := nI 1) hc dL_law_573 (by decide) ?_
  refine n_iadd hc dL_law_574 ?_
  refine g_sld hc hsc (by omega) (by omega) dL_law_575 ?_
  refine g_aload_n hc dL_law_576 rfl 0 rfl ?_
  refine g_iload_n hc dL_law_577 rfl 3 rfl ?_
  refine g_iconst (v := nI 2) hc dL_law_578 (by decide) ?_
  refine n_iadd hc dL_law_579 ?_
  refine g_sld hc hsc (by omega) (by omega) dL_law_580 ?_
  refine g_aload_n hc dL_law_581 rfl 0 rfl ?_
  refine g_iload_n hc dL_law_582 rfl 3 rfl ?_
  refine g_iconst (v := nI 3) hc dL_law_583 (by decide) ?_
  refine n_iadd hc dL_law_584 ?_
  refine g_sld hc hsc (by omega) (by omega) dL_law_585 ?_
  refine g_aload_n hc dL_law_586 rfl 0 rfl ?_
  refine g_iload_n hc dL_law_587 rfl 3 rfl ?_
  refine g_iconst (v := nI 4) hc dL_law_588 (by decide) ?_
  refine n_iadd hc dL_law_589 ?_
  refine g_sld hc hsc (by omega) (by omega) dL_law_590 ?_
  refine l_callM (n := 4) (As := [.int (xs (i + 1)), .int (xs (i + 2)), .int (xs (i + 3)), .int (xs (i + 4))]) (rest := [.int r1]) hc (cM_detour g dJ L cnt Y Z (xs (i + 1)) (xs (i + 2)) (xs (i + 3)) (xs (i + 4)) hL) (lw_V q276 q277 q278 q19 q279) (by decide +kernel) (by decide) (by decide) rfl rfl (by simp [Value.category]) dL_law_591 (fun r2 u2 k2 => ?_)
  have heq : r1 = r2 := by
    exact det_eq k1 k2
  refine g_icmp_eq (tgt := 599) hc dL_law_594 (by decide) (fun _ => ?_) (fun hne => absurd heq hne)
  exact next L (kn, fr, to, wc, rc, P, S, W, A, B, R, RW, u1) u2.1 u2.2.1 u2.2.2 hok
end
section
set_option maxRecDepth 100000
set_option maxHeartbeats 4000000
theorem law_loop {Γ : GP} {b Lx : Nat} {xs : Nat → Int32} {h g : Nat → Nat} {dB dS dI dJ : ClassId} (hc : GC Γ cL_law 4 R_law (LT dB dS dI dJ) 8) (hsc : SC Γ b Lx xs) (hLx : Lx ≤ 320) (hE : ∀ (ws : va_W) (pc : Nat) (lv : List (Nat × Value)), decode cL_law pc = .ok (.ireturn, 1) → G Γ ws pc lv [.int 1]) : ∀ (n i : Nat) (L : Nat → Nat) (u : XS) (cnt : Nat) (Y Z : Nat → Nat), i ≤ Lx → Lx + 1 ≤ i + n → XOKu L u → G Γ (XWu h dB dS dI L u ++ MW g dJ L cnt Y Z) 18 [(0, .ref b), (1, .ref (h 0)), (2, .ref (g 0)), (3, .int (nI i))] [] := by
  intro n
  induction n with
  | zero => intro i L u cnt Y Z h1 h2; exact absurd h2 (by omega)
  | succ n ih =>
    intro i L u cnt Y Z hi hn hok
    obtain ⟨kn, fr, to, wc, rc, P, S, W, A, B, R, RW, D⟩ := u
    have hok : XOK L kn fr to wc rc P S W A B R RW := hok
    refine g_world (ws' := XW h dB dS dI L kn fr to wc rc P S W A B R RW D ++ MW g dJ L cnt Y Z) rfl ?_
    refine g_iload_n hc dL_law_18 rfl 3 rfl ?_
    refine g_aload_n hc dL_law_19 rfl 0 rfl ?_
    refine g_slen hc hsc dL_law_20 ?_
    refine g_iconst (v := nI 5) hc dL_law_21 (by decide) ?_
    refine g_isub hc dL_law_22 ?_
    refine g_icmp_gt (tgt := 605) hc dL_law_23 (by decide) (fun _ => ?_) (fun c23 => ?_)
    · refine g_iconst (v := 1) hc dL_law_605 (by decide) ?_
      exact hE _ _ _ dL_law_606
    · have hi5 := len_ok (by omega) hLx c23
      have next : ∀ (L' : Nat → Nat) (u : XS) (cnt' : Nat) (Y' Z' : Nat → Nat), XOKu L' u → G Γ (XWu h dB dS dI L' u ++ MW g dJ L' cnt' Y' Z') 599 [(0, .ref b), (1, .ref (h 0)), (2, .ref (g 0)), (3, .int (nI i))] [] := by
        intro L' u cnt' Y' Z' hok'
        refine n_iinc5 (lv' := [(0, .ref b), (1, .ref (h 0)), (2, .ref (g 0)), (3, .int (nI (i + 5)))]) (q := 3) hc dL_law_599 rfl (by decide) [1, 2, 3, 0] rfl ?_
        refine g_goto (tgt := 18) hc dL_law_602 (by decide) ?_
        exact ih (i + 5) L' u cnt' Y' Z' hi5 (by omega) hok'
      refine g_aload_n hc dL_law_26 rfl 0 rfl ?_
      refine g_iload_n hc dL_law_27 rfl 3 rfl ?_
      refine g_sld hc hsc (by omega) (by omega) dL_law_28 ?_
      refine g_bipush (v := nI 15) hc dL_law_29 (by decide) ?_
      refine g_iand hc dL_law_31 ?_
      obtain ⟨j, hj, e⟩ := mask15 (xs i)
      rw [e]
      match j, hj with
      | 0, _ =>
        refine g_tableIn (off := 68) (tgt := 100) hc dL_law_32 (by decide) (by decide) (by decide) (by decide) ?_
        exact op_build hc hsc hi5 hLx hok next
      | 1, _ =>
        refine g_tableIn (off := 111) (tgt := 143) hc dL_law_32 (by decide) (by decide) (by decide) (by decide) ?_
        exact op_close hc hsc hi5 hLx hok next
      | 2, _ =>
        refine g_tableIn (off := 144) (tgt := 176) hc dL_law_32 (by decide) (by decide) (by decide) (by decide) ?_
        exact op_road hc hsc hi5 hLx hok next
      | 3, _ =>
        refine g_tableIn (off := 177) (tgt := 209) hc dL_law_32 (by decide) (by decide) (by decide) (by decide) ?_
        exact op_roads hc hsc hi5 hLx hok next
      | 4, _ =>
        refine g_tableIn (off := 190) (tgt := 222) hc dL_law_32 (by decide) (by decide) (by decide) (by decide) ?_
        exact op_ways hc hsc hi5 hLx hok next
      | 5, _ =>
        refine g_tableIn (off := 223) (tgt := 255) hc dL_law_32 (by decide) (by decide) (by decide) (by decide) ?_
        exact op_length hc hsc hi5 hLx hok next
      | 6, _ =>
        refine g_tableIn (off := 266) (tgt := 298) hc dL_law_32 (by decide) (by decide) (by decide) (by decide) ?_
        exact op_place hc hsc hi5 hLx hok next
      | 7, _ =>
        refine g_tableIn (off := 319) (tgt := 351) hc dL_law_32 (by decide) (by decide) (by decide) (by decide) ?_
        exact op_size hc hsc hi5 hLx hok next
      | 8, _ =>
        refine g_tableIn (off := 362) (tgt := 394) hc dL_law_32 (by decide) (by decide) (by decide) (by decide) ?_
        exact op_within hc hsc hi5 hLx hok next
      | 9, _ =>
        refine g_tableIn (off := 405) (tgt := 437) hc dL_law_32 (by decide) (by decide) (by decide) (by decide) ?_
        exact op_shortest hc hsc hi5 hLx hok next
      | 10, _ =>
        refine g_tableIn (off := 438) (tgt := 470) hc dL_law_32 (by decide) (by decide) (by decide) (by decide) ?_
        exact op_musts hc hsc hi5 hLx hok next
      | 11, _ =>
        refine g_tableIn (off := 471) (tgt := 503) hc dL_law_32 (by decide) (by decide) (by decide) (by decide) ?_
        exact op_firstAvoiding hc hsc hi5 hLx hok next
      | 12, _ =>
        refine g_tableIn (off := 514) (tgt := 546) hc dL_law_32 (by decide) (by decide) (by decide) (by decide) ?_
        exact op_detour hc hsc hi5 hLx hok next
      | 13, _ =>
        refine g_tableOut (tgt := 599) hc dL_law_32 (by decide) (by decide) ?_
        exact next L (kn, fr, to, wc, rc, P, S, W, A, B, R, RW, D) cnt Y Z hok
      | 14, _ =>
        refine g_tableOut (tgt := 599) hc dL_law_32 (by decide) (by decide) ?_
        exact next L (kn, fr, to, wc, rc, P, S, W, A, B, R, RW, D) cnt Y Z hok
      | 15, _ =>
        refine g_tableOut (tgt := 599) hc dL_law_32 (by decide) (by decide) ?_
        exact next L (kn, fr, to, wc, rc, P, S, W, A, B, R, RW, D) cnt Y Z hok
      | n + 16, hj => exact absurd hj (by omega)
end
section
set_option maxRecDepth 100000
set_option maxHeartbeats 4000000
/-! THE CLAIM OUT OF ONE WALK OF THE LAW'S BODY. Your part is whole_start (and what it stands on); all else here is the same for every law, but numbers. -/
def lw_P (b : Addr) (xs : List Int32) (args : Array Value) (s : State) : Prop := args = #[.ref b] ∧ s.IntsAt b xs ∧ xs.length ≤ 320 ∧ (Jvm.Cond.and given_1 narrow_1).before args s = true
def lw_Q (_ : Array Value) (s : State) (o : Outcome) (t : State) : Prop := o = .returned (some (.int 1)) ∧ Framed s o t [] 600000 7290000
def lw_Z (below : List Frame) (a : Array Value) (s : State) : State → Prop := fun t => ∃ o, t.status = .running ∧ Ended t below o ∧ lw_Q a s o t
/-- the law's own end, with 1 on the stack, nothing written that was there before, its room as the claim has it -/
theorem lw_ret {p : Program} {l : Launch} {e : Env} {s : State} {m : MethodId} {below : List Frame} {meth : Method} {c : Code} {b : Nat} (hx : p.tables.exec = Jvm.exec) (hb : c.code = code) (hr : meth.sig.returnType = ret) (hlocks : meth.locks = false) {pc : Nat} {H : Heap} {ls : Array Slot} (hdg : decode code pc = .ok (.ireturn, 1)) : W p l e room_1 s m #[Value.ref b] below meth c H [] 600000 7290000 (lw_Z below #[Value.ref b] s) (F0 m pc ls [.int 1]) := by
  intro T hT X
  obtain ⟨fs, hret, hrun, hended, hW, hframe⟩ := X.leave (v := some (.int 1)) (hlocks := hlocks) (fun h => by rw [hr] at h; cases h)
  have hmeth' : T.vm.method? m = some meth := X.method'
  refine ⟨T.setFrames fs, ?_, .returned (some (.int 1)), hrun, hended, rfl, ⟨_, rfl⟩, hW, hframe⟩
  jvm_step X.here [X.here.top, hx, hb, hdg, hmeth', hr, ret, narrow_b1]
  (try refine ⟨rfl, ?_⟩); (try refine ⟨rfl, ?_⟩)
  first | (intro acts; rw [hret _ acts rfl rfl rfl]) | rw [hret _ _ rfl rfl rfl]
  exact Steps.refl _
/-- what holds at the law's entry: the machine, the code, the tables' words (any of lw_tbl by 'hts w (by decide +kernel)'), the script of L ints xs at the cell b, what the Statement gives of the start (any of its parts by flat_of_before) -/
def lw_At (p : Program) (s : State) (m : MethodId) (meth : Method) (c : Code) (b L : Nat) (xs : Nat → Int32) : Prop :=
  p.tables.exec = Jvm.exec ∧ c.code = code ∧ meth.sig.returnType = ret ∧ c.maxLocals = 4 ∧ s.vm.findClass R_law = some m.cls ∧ (∀ w ∈ lw_tbl, w.before #[Value.ref b] s = true) ∧ va_X b L xs s s.heap ∧ b < s.heap.size ∧ meth.locks = false ∧ (Jvm.Cond.and given_1 narrow_1).before #[Value.ref b] s = true
theorem classes_ok {s0 : State} {b0 : Addr} (hts : ∀ w ∈ lw_all, w.before #[Value.ref b0] s0 = true) : ∃ (dC : Nat → ClassId) (dF : Nat → Nat → Nat), ∀ (k : Nat) (q : vw_C), vwCl[k]? = some q → u_Kn s0 q.1 q.2.1 q.2.2 (dC k) (dF k) := by
  obtain ⟨c0_, iS0, hKn0⟩ := u_known (C := RX0) (T := TX0) (N := 14) (n := 14) hts in_X0 (hts _ q21)
  obtain ⟨c1_, iS1, hKn1⟩ := u_known (C := RX1) (T := TX1) (N := 4) (n := 4) hts in_X1 (hts _ q172)
  refine ⟨fun k => if k = 0 then c0_ else c1_, fun k => if k = 0 then iS0 else iS1, ?_⟩
  intro k q hq
  match k, hq with
  | 0, hq => cases hq; exact hKn0
  | 1, hq => cases hq; exact hKn1
  | k + 2, hq => simp [vwCl] at hq
theorem XOK_0 : XOKu z0 (0, 0, 0, 0, 0, z0, z0, z0, z0, z0, o1, z0, z0) := ⟨fun _ => Nat.zero_le _, ⟨fun _ => Nat.zero_lt_succ _, fun _ => Nat.zero_le _, fun _ => Nat.zero_le _, fun _ => Nat.zero_le _, fun _ => Nat.zero_lt_succ _, fun _ => (by decide : (1 : Nat) ≤ 66), fun _ => Nat.zero_le _⟩, Nat.zero_le _, Nat.zero_lt_succ _, Nat.zero_lt_succ _, Nat.zero_le _, Nat.zero_le _, fun h => absurd h (by decide)⟩
theorem whole_start {p : Program} {e : Env} {s : State} {m : MethodId} {below : List Frame} {meth : Method} {c : Code} (l : Launch) {b L : Nat} {xs : Nat → Int32} (hL : L ≤ 320) (C0 : lw_At p s m meth c b L xs) : W p l e room_1 s m #[Value.ref b] below meth c s.heap [] 0 0 (lw_Z below #[Value.ref b] s) (entryFrame m ([Value.ref b] : List Value).toArray 4) := by
  obtain ⟨hx, hb, hr, hml, hown, hts0, hX, hbl, hlocks, hgv⟩ := C0
  have hts : ∀ w ∈ lw_all, w.before #[Value.ref b] s = true := fun w h => hts0 w (lw_all_tbl h)
  have hA : ∀ q : Nat, s.heap.size ≤ q → (fun q : Nat => s.heap.size ≤ q) q := fun _ h => h
  have hbA : ¬ (fun q : Nat => s.heap.size ≤ q) b := Nat.not_le.mpr hbl
  obtain ⟨dC, dF, hKc⟩ := classes_ok hts
  have hS : va_S (fun q : Nat => s.heap.size ≤ q) s.heap s.heap [] := va_S.rf
  have hK : va_K (dC, dF) vwCl [] s := ⟨hKc, fun k q h => by simp at h⟩
  have hP : va_P (dC, dF) vwCl [] s.heap := fun k q h => by simp at h
  have hD : va_D (fun q : Nat => s.heap.size ≤ q) [] := ⟨fun i j p q h => by simp at h, fun k q h => by simp at h⟩
  have hl := lv_entry ([.ref b]) (n := 4) (Nat.le_of_ble_eq_true rfl)
  rw [lg_entry_eq]
  generalize (lg_sl ([.ref b]) ++ List.replicate (4 - (lg_sl ([.ref b])).length) Slot.unset).toArray = ls at hl ⊢
  have hl : lv_has ls 4 [(0, .ref b)] := hl
  refine va_new (ci := 0) (fs := fsX) (C := RX0) (T := TX0) (N := 14) hx hb hts in_X0 tyX0 tyX0_ok hown (hts _ q20) (hts _ q21) (hts _ q18) hK hP hD hS hA rfl (fun j hj => by rcases (show j = 0 ∨ j = 1 ∨ j = 2 ∨ j = 3 ∨ j = 4 ∨ j = 5 ∨ j = 6 ∨ j = 7 ∨ j = 8 ∨ j = 9 ∨ j = 10 ∨ j = 11 ∨ j = 12 ∨ j = 13 by omega) with rfl | rfl | rfl | rfl | rfl | rfl | rfl | rfl | rfl | rfl | rfl | rfl | rfl | rfl <;> rfl) (Nat.le_of_ble_eq_true rfl) (Nat.le_of_ble_eq_true rfl) dL_law_0 (fun a0 H hP hD hS => ?_)
  have hP : va_P (dC, dF) vwCl [(a0, .inr (0, fsX))] H := hP
  have hD : va_D (fun q : Nat => s.heap.size ≤ q) [(a0, .inr (0, fsX))] := hD
  refine W.widen (k := 1) (n := 14) (Nat.le_of_ble_eq_true rfl) (Nat.le_of_ble_eq_true rfl) ?_
  refine lv_dup hx hb dL_law_3 rfl ?_
  have hPc := hP.sub (ws' := [(a0, .inr (0, fsX))]) [0] rfl
  have hDc := hD.sub (ws' := [(a0, .inr (0, fsX))]) [0] (by decide) rfl
  have hFc := va_free (wc := [(a0, .inr (0, fsX))]) hD hS hA [0] rfl
  refine va_callv (va_runI (As := []) (rest := [.ref a0]) ⟨hx, hb, hml, hown, hts⟩ (cX_init a0 l (dC, dF) H.size) (cwI 0 hts (lw_meth q24) rfl rfl rfl (hts _ q18) (hts _ q22) (hts _ q23) rfl (by decide +kernel) ⟨Nat.le_of_ble_eq_true rfl, Nat.le_of_ble_eq_true rfl⟩) ⟨gb_blind, fun U hU hW => ⟨rfl, by rw [hU], by rw [hU]; exact hPc, va_K.moved hW.alike hK, hDc.weaken (fun _ _ _ _ => trivial)⟩⟩ rfl rfl hl.1 rfl (lv_room (Nat.le_of_ble_eq_true rfl)) dL_law_4 ⟨Nat.le_of_ble_eq_true rfl, Nat.le_of_ble_eq_true rfl⟩) hS (fun q _ h => hFc q h) hFc (fun u t H1 locs ht hvm hw hB hz1 hk1 hS => ?_)
  obtain ⟨h, dB, dS, dI⟩ := u
  obtain ⟨e0, hP1, hK1, hD1⟩ := hB
  rw [ht] at hP1
  have hK := va_K.moved hvm.symm hK1
  dsimp only at e0 hP1 hK hD1
  subst e0
  obtain ⟨hP, hD⟩ := va_join (wr := []) (w1 := XW0 h dB dS dI) hP hD [0] [] rfl rfl (by decide) (by decide) hk1 hFc hP1 hD1
  have hP : va_P (dC, dF) vwCl (XW0 h dB dS dI) H1 := hP
  have hD : va_D (fun q : Nat => s.heap.size ≤ q) (XW0 h dB dS dI) := hD
  refine W.widen (k := 10) (n := 848) (Nat.le_of_ble_eq_true rfl) (Nat.le_of_ble_eq_true rfl) ?_
  refine lv_astore_n (lv' := [(1, .ref (h 0)), (0, .ref b)]) hx hb dL_law_7 rfl hl (by decide) rfl (fun ls hl => ?_)
  refine va_new (ci := 1) (fs := fsM) (C := RX1) (T := TX1) (N := 4) hx hb hts in_X1 tyX1 tyX1_ok hown (hts _ q171) (hts _ q172) (hts _ q19) hK hP hD hS hA rfl (fun j hj => by rcases (show j = 0 ∨ j = 1 ∨ j = 2 ∨ j = 3 by omega) with rfl | rfl | rfl | rfl <;> rfl) (Nat.le_of_ble_eq_true rfl) (Nat.le_of_ble_eq_true rfl) dL_law_8 (fun a1 H2 hP hD hS => ?_)
  have hP : va_P (dC, dF) vwCl (XW0 h dB dS dI ++ [(a1, .inr (1, fsM))]) H2 := hP
  have hD : va_D (fun q : Nat => s.heap.size ≤ q) (XW0 h dB dS dI ++ [(a1, .inr (1, fsM))]) := hD
  refine W.widen (k := 11) (n := 852) (Nat.le_of_ble_eq_true rfl) (Nat.le_of_ble_eq_true rfl) ?_
  refine lv_dup hx hb dL_law_11 rfl ?_
  have hPc := hP.sub (ws' := [(a1, .inr (1, fsM))]) [10] rfl
  have hDc := hD.sub (ws' := [(a1, .inr (1, fsM))]) [10] (by decide) rfl
  have hK0 := hK.sub (tys' := []) [] rfl
  have hFc := va_free (wc := [(a1, .inr (1, fsM))]) hD hS hA [10] rfl
  refine va_callv (va_runI (As := []) (rest := [.ref a1]) ⟨hx, hb, hml, hown, hts⟩ (cM_init a1 l (dC, dF) H2.size) (cwI 0 hts (lw_meth q175) rfl rfl rfl (hts _ q19) (hts _ q173) (hts _ q174) rfl (by decide +kernel) ⟨Nat.le_of_ble_eq_true rfl, Nat.le_of_ble_eq_true rfl⟩) ⟨gb_blind, fun U hU hW => ⟨rfl, by rw [hU], by rw [hU]; exact hPc, va_K.moved hW.alike hK0, hDc.weaken (fun _ _ _ _ => trivial)⟩⟩ rfl rfl hl.1 rfl (lv_room (Nat.le_of_ble_eq_true rfl)) dL_law_12 ⟨Nat.le_of_ble_eq_true rfl, Nat.le_of_ble_eq_true rfl⟩) hS (fun q _ h => hFc q h) hFc (fun u t H3 locs ht hvm hw hB hz1 hk1 hS => ?_)
  obtain ⟨g, dJ⟩ := u
  obtain ⟨e1, hP1, hK1, hD1⟩ := hB
  rw [ht] at hP1
  have hK1 := va_K.moved hvm.symm hK1
  dsimp only at e1 hP1 hK1 hD1
  subst e1
  obtain ⟨hP, hD⟩ := va_join (wr := XW0 h dB dS dI) (w1 := MW0 g dJ) hP hD [10] [0, 1, 2, 3, 4, 5, 6, 7, 8, 9] rfl rfl (by decide) (by decide) hk1 hFc hP1 hD1
  have hK : va_K (dC, dF) vwCl (LT dB dS dI dJ) s := hK.app hK1
  refine W.widen (k := 14) (n := 1018) (Nat.le_of_ble_eq_true rfl) (Nat.le_of_ble_eq_true rfl) ?_
  refine lv_astore_n (lv' := [(2, .ref (g 0)), (1, .ref (h 0)), (0, .ref b)]) hx hb dL_law_15 rfl hl (by decide) rfl (fun ls hl => ?_)
  refine lv_iconst (v := nI 0) hx hb dL_law_16 (by decide) ?_
  refine lv_istore_n (lv' := [(3, .int (nI 0)), (2, .ref (g 0)), (1, .ref (h 0)), (0, .ref b)]) hx hb dL_law_17 rfl hl (by decide) rfl (fun ls hl => ?_)
  have hGC : GC (p, l, e, room_1, s, m, #[Value.ref b], below, meth, c, 14, 1018, lw_Z below #[Value.ref b] s, (dC, dF), (fun q : Nat => s.heap.size ≤ q)) cL_law 4 R_law (LT dB dS dI dJ) 8 := ⟨hx, hb, hml, hown, hts, hK, hA, ⟨Nat.le_of_ble_eq_true rfl, Nat.le_of_ble_eq_true rfl⟩, Nat.le_of_ble_eq_true rfl, Nat.le_of_ble_eq_true rfl⟩
  have hSC : SC (p, l, e, room_1, s, m, #[Value.ref b], below, meth, c, 14, 1018, lw_Z below #[Value.ref b] s, (dC, dF), (fun q : Nat => s.heap.size ≤ q)) b L xs := ⟨hX, hbl, hbA⟩
  refine law_loop hGC hSC hL ?_ (L + 1) 0 z0 (0, 0, 0, 0, 0, z0, z0, z0, z0, z0, o1, z0, z0) 0 z0 z0 (Nat.zero_le _) (by omega) XOK_0 H3 locs ls hP hD hS (by rw [hml]; exact lv_sub hl [3, 2, 1, 0] rfl)
  intro ws pc lv hd H locs ls hP hD hS hl
  refine va_forget (fun q hq => hS.2.2 q hq) ?_
  refine W.widen (k := 600000) (n := 7290000) (Nat.le_of_ble_eq_true rfl) (Nat.le_of_ble_eq_true rfl) ?_
  exact lw_ret hx hb hr hlocks hd
end
section
set_option maxRecDepth 100000
set_option maxHeartbeats 4000000 in
theorem lw_walk (l : Launch) (b : Addr) (xs : List Int32) : MetFree l x (headSpec (Jvm.Cond.code x code maxLocals ret :: tables_1) room_1) (lw_P b xs) (fun _ _ _ _ _ => True) lw_Q := by
  refine MetFree.of_bodyS (code := code) (maxLocals := maxLocals) (ret := ret) (by decide) ?_ ?_
  · intro args s m h hn
    obtain ⟨meth, c, h1, h2, h3, h4, h5, h6, -, -⟩ := Cond.code_spec hn (atoms_spec (ws := Jvm.Cond.code x code maxLocals ret :: tables_1) h _ List.mem_cons_self)
    exact ⟨meth, c, h1, h2, h3, h4, h5, h6⟩
  · intro p e s m args below meth c s₁ B hml0 hP _
    obtain ⟨rfl, hx, hbd, hgv⟩ := hP
    obtain ⟨scr, harrAt, hlist, hof, hsmall⟩ := hx
    obtain ⟨hcb, hkn, -, -⟩ := State.arrayAt?_spec harrAt
    have hown : s.vm.findClass R_law = some m.cls := findClass_of_methodNamed B.named
    have hts0 : ∀ c ∈ (Jvm.Cond.code x code maxLocals ret :: tables_1), c.before #[Value.ref b] s = true := atoms_spec (ws := Jvm.Cond.code x code maxLocals ret :: tables_1) B.pre
    have hts : ∀ w ∈ lw_tbl, w.before #[Value.ref b] s = true := k2_hts_sels lw_privs (fun w hw => hts0 w (List.mem_cons_of_mem _ hw)) lw_privs_ok
    have hml : c.maxLocals = 4 := B.maxLocals_eq (hts0 _ List.mem_cons_self)
    have X₀ : Stand p l e room_1 s m #[Value.ref b] below meth c s₁ [] 0 0 := Stand.of_body B
    have hh0 : s₁.heap = s.heap := by rw [B.state]; rfl
    have hsz : scr.slots.size = xs.length := by rw [← Array.length_toList, hlist, List.length_map]
    have hval : ∀ j : Nat, j < xs.length → scr.slots[j]? = some (.int (xs.getD j 0)) := fun j hj => by
      rw [← Array.getElem?_toList, hlist]
      simp [hj]
    have hbl : b < s.heap.size := (Array.getElem?_eq_some_iff.mp hcb).1
    have hX : va_X b xs.length (fun j => xs.getD j 0) s s.heap := ⟨scr, hcb, hof, hkn, hsz, hval⟩
    have K : W p l e room_1 s m #[Value.ref b] below meth c s₁.heap [] 0 0 (lw_Z below #[Value.ref b] s) (entryFrame m ([Value.ref b] : List Value).toArray 4) := by
      rw [hh0]
      exact whole_start l hbd ⟨B.exec, B.bytes, B.returns, hml, hown, hts, hX, hbl, B.notSynchronized, hgv⟩
    obtain ⟨t, a1, o, b1, b2, b3⟩ := K s₁ rfl X₀
    exact ⟨t, o, a1, b1, b2, b3⟩
theorem lw_pre_spec {args : Array Value} {s : State} (h : (Jvm.Cond.and given_1 narrow_1).before args s = true) (hr : rest_1_c.before args s = true) : ∃ (b : Addr) (xs : List Int32), lw_P b xs args s := by
  have hs := flat_of_before _ h
  have hq := flat_of_before _ hr
  have hc : (Cond.count 1).before args s = true := hs _ (by decide +kernel)
  have harr : (Cond.arrayOf (.arg 0) .int).before args s = true := hs _ (by decide +kernel)
  have hle : (Cond.le (.length (.arg 0)) (.int 320)).before args s = true := hs _ (by decide +kernel)
  have hlen : (Cond.isInt (.length (.arg 0))).before args s = true := hq _ (by decide +kernel)
  have hall : (Cond.all (.arg 0) (.isInt (.elem (.arg 0) (.index 0)))).before args s = true := hq _ (by decide +kernel)
  obtain ⟨b, xs, hb, hx⟩ := State.ints_of_pre rfl harr hlen hall
  have hsm : xs.length < 2 ^ 31 := hx.choose_spec.2.2.2
  have hev : (Term.length (.arg 0)).eval args s none [] s = some (.int xs.length.toInt32) := hx.length_eval hb
  have hv := Cond.le_ints hev (show (Term.int 320).eval args s none [] s = some (.int 320) from rfl)
  have hd : xs.length.toInt32 ≤ 320 := by
    simpa [Cond.before, Cond.holds, hv] using hle
  have hN : xs.length ≤ 320 := (Int32.ofNat_le_ofNat hsm (by decide)).mp (show Int32.ofNat xs.length ≤ Int32.ofNat 320 from hd)
  exact ⟨b, xs, Cond.one_arg hc (show args[0]? = some (.ref b) from hb), hx, hN, h⟩
theorem lw_comes (l : Launch) : Comes l x (Jvm.Cond.code x code maxLocals ret :: tables_1) room_1 (fun tb e args s => Calls_1 tb e args s ∧ rest_1 tb e args s ∧ Pre_1 tb e args s)
    (fun _ _ args s o t => lw_Q args s o t) := by
  intro p e ha hc hk s m args below hf hfit hheap happ hpre
  obtain ⟨b, xs, hP⟩ := lw_pre_spec hpre.2.2 hpre.2.1
  obtain ⟨k, o, h1, h2, h3, hQ⟩ := lw_walk l b xs p e ha hc hk s m args below hf ((Spec.applies_iff_loose hf).mp happ).1 hP trivial
  exact ⟨k, o, h1, h2, h3, hQ⟩
theorem lw_frame {s t : State} {o : Outcome} {args : Array Value} (h : Framed s o t [] 600000 7290000) :
    Framed s o t (fieldLocs frame_1_writes args s ++ arrayLocs frame_1_arrays args s ++ staticLocs frame_1_statics s) 600000 7290000 := h
theorem lw_limb (L : Cond) (hL : ∀ (args : Array Value) (s t : State), L.after args s (.returned (some (.int 1))) t = true) :
    ArmFor flags0 classFile x code maxLocals ret World_1 tables_1 room_1 Calls_1 rest_1 Pre_1
      (fun tb e a s o t => postC L tb e a s o t ∧ Framed s o t (fieldLocs frame_1_writes a s ++ arrayLocs frame_1_arrays a s ++ staticLocs frame_1_statics s) 600000 7290000) := by
  intro l _ _ _ p e ha hc hk s m args below hf hfit hheap happ hpre
  obtain ⟨k, o, h1, h2, h3, rfl, hF⟩ := lw_comes l p e ha hc hk s m args below hf hfit hheap happ hpre
  exact ⟨k, _, h1, h2, h3, hL args s _, lw_frame hF⟩
theorem i_vc : Claimed_1_1 ∧ Claimed_1_2 := ⟨lw_limb limb_1_1 (fun args s t => by simp [limb_1_1, Cond.after, Cond.holds, Cond.value]), lw_limb limb_1_2 (fun args s t => Cond.after_iff.mpr (by
  first | (rw [show limb_1_2 = Cond.eq .result (.int 1) from rfl, Cond.eq_ints (x := 1) (y := 1) rfl rfl]; simp; done) | (simp [limb_1_2, Cond.value, Term.eval]; done)))⟩
end
