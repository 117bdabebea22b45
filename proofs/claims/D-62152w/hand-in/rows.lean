section
-- ===== PART A: goes FIRST, ahead of the names: the tables' words, and 'selects' of the private methods out of them =====
/-- a private method of a class that the tables say can be made, by its rows of tables_1 -/
def lw_okq (q : MethodName × Nat) : Prop := (q.1.cls ≠ "java/lang/invoke/MethodHandle" ∧ q.1.cls ≠ "java/lang/invoke/VarHandle") ∧ Cond.instantiable q.1.cls q.2 ∈ tables_1 ∧ Cond.privateMethod q.1 ∈ tables_1 ∧ Cond.instanceMethod q.1 ∈ tables_1
set_option maxRecDepth 100000
theorem lw_t1 {w : Cond} (h : w ∈ tables_1_1) : w ∈ tables_1 := List.mem_append_left _ h
theorem lw_t2 {w : Cond} (h : w ∈ tables_1_2) : w ∈ tables_1 := List.mem_append_right _ h
theorem lw_p0 : lw_okq (⟨"TripleJoin", "enter", "(IIII)V"⟩, 14) := ⟨⟨by decide +kernel, by decide +kernel⟩, lw_t1 (List.mem_of_getElem? (i := 4) rfl), lw_t1 (List.mem_of_getElem? (i := 63) rfl), lw_t1 (List.mem_of_getElem? (i := 64) rfl)⟩
theorem lw_p1 : lw_okq (⟨"TripleJoin", "join", "(I)V"⟩, 14) := ⟨⟨by decide +kernel, by decide +kernel⟩, lw_t1 (List.mem_of_getElem? (i := 4) rfl), lw_t1 (List.mem_of_getElem? (i := 83) rfl), lw_t1 (List.mem_of_getElem? (i := 84) rfl)⟩
theorem lw_p2 : lw_okq (⟨"TripleJoin", "prepare", "()V"⟩, 14) := ⟨⟨by decide +kernel, by decide +kernel⟩, lw_t1 (List.mem_of_getElem? (i := 4) rfl), lw_t1 (List.mem_of_getElem? (i := 87) rfl), lw_t1 (List.mem_of_getElem? (i := 88) rfl)⟩
theorem lw_p3 : lw_okq (⟨"TripleJoin", "stands", "(I)Z"⟩, 14) := ⟨⟨by decide +kernel, by decide +kernel⟩, lw_t1 (List.mem_of_getElem? (i := 4) rfl), lw_t1 (List.mem_of_getElem? (i := 91) rfl), lw_t1 (List.mem_of_getElem? (i := 92) rfl)⟩
theorem lw_p4 : lw_okq (⟨"TripleJoin", "groundHolds", "()Z"⟩, 14) := ⟨⟨by decide +kernel, by decide +kernel⟩, lw_t1 (List.mem_of_getElem? (i := 4) rfl), lw_t1 (List.mem_of_getElem? (i := 95) rfl), lw_t1 (List.mem_of_getElem? (i := 96) rfl)⟩
theorem lw_p5 : lw_okq (⟨"TripleJoin", "allowed", "(I)I"⟩, 14) := ⟨⟨by decide +kernel, by decide +kernel⟩, lw_t1 (List.mem_of_getElem? (i := 4) rfl), lw_t1 (List.mem_of_getElem? (i := 99) rfl), lw_t1 (List.mem_of_getElem? (i := 100) rfl)⟩
theorem lw_p6 : lw_okq (⟨"TripleJoin", "known", "(I)I"⟩, 14) := ⟨⟨by decide +kernel, by decide +kernel⟩, lw_t1 (List.mem_of_getElem? (i := 4) rfl), lw_t1 (List.mem_of_getElem? (i := 103) rfl), lw_t1 (List.mem_of_getElem? (i := 104) rfl)⟩
theorem lw_p7 : lw_okq (⟨"TripleJoin", "allowedBy", "(IIIII)I"⟩, 14) := ⟨⟨by decide +kernel, by decide +kernel⟩, lw_t1 (List.mem_of_getElem? (i := 4) rfl), lw_t1 (List.mem_of_getElem? (i := 107) rfl), lw_t1 (List.mem_of_getElem? (i := 108) rfl)⟩
theorem lw_p8 : lw_okq (⟨"TripleJoin", "allowedTwice", "(IIIII)I"⟩, 14) := ⟨⟨by decide +kernel, by decide +kernel⟩, lw_t1 (List.mem_of_getElem? (i := 4) rfl), lw_t1 (List.mem_of_getElem? (i := 111) rfl), lw_t1 (List.mem_of_getElem? (i := 112) rfl)⟩
theorem lw_p9 : lw_okq (⟨"TripleJoin", "ways", "(II)I"⟩, 14) := ⟨⟨by decide +kernel, by decide +kernel⟩, lw_t1 (List.mem_of_getElem? (i := 4) rfl), lw_t1 (List.mem_of_getElem? (i := 122) rfl), lw_t1 (List.mem_of_getElem? (i := 123) rfl)⟩
theorem lw_p10 : lw_okq (⟨"TripleJoin", "alone", "(I)I"⟩, 14) := ⟨⟨by decide +kernel, by decide +kernel⟩, lw_t1 (List.mem_of_getElem? (i := 4) rfl), lw_t1 (List.mem_of_getElem? (i := 126) rfl), lw_t1 (List.mem_of_getElem? (i := 127) rfl)⟩
theorem lw_p11 : lw_okq (⟨"TripleJoin", "countSolution", "()V"⟩, 14) := ⟨⟨by decide +kernel, by decide +kernel⟩, lw_t1 (List.mem_of_getElem? (i := 4) rfl), lw_t1 (List.mem_of_getElem? (i := 130) rfl), lw_t1 (List.mem_of_getElem? (i := 131) rfl)⟩
theorem lw_p12 : lw_okq (⟨"TripleJoinModel", "held", "()I"⟩, 4) := ⟨⟨by decide +kernel, by decide +kernel⟩, lw_t1 (List.mem_of_getElem? (i := 154) rfl), lw_t1 (List.mem_of_getElem? (i := 185) rfl), lw_t1 (List.mem_of_getElem? (i := 186) rfl)⟩
theorem lw_p13 : lw_okq (⟨"TripleJoinModel", "solves", "(I)Z"⟩, 4) := ⟨⟨by decide +kernel, by decide +kernel⟩, lw_t1 (List.mem_of_getElem? (i := 154) rfl), lw_t1 (List.mem_of_getElem? (i := 205) rfl), lw_t1 (List.mem_of_getElem? (i := 206) rfl)⟩
theorem lw_p14 : lw_okq (⟨"TripleJoinModel", "stands", "(I)Z"⟩, 4) := ⟨⟨by decide +kernel, by decide +kernel⟩, lw_t1 (List.mem_of_getElem? (i := 154) rfl), lw_t1 (List.mem_of_getElem? (i := 209) rfl), lw_t1 (List.mem_of_getElem? (i := 210) rfl)⟩
theorem lw_p15 : lw_okq (⟨"TripleJoinModel", "filled", "(I)I"⟩, 4) := ⟨⟨by decide +kernel, by decide +kernel⟩, lw_t1 (List.mem_of_getElem? (i := 154) rfl), lw_t1 (List.mem_of_getElem? (i := 213) rfl), lw_t1 (List.mem_of_getElem? (i := 214) rfl)⟩
def lw_privs_1 : List (MethodName × Nat) := [(⟨"TripleJoin", "enter", "(IIII)V"⟩, 14), (⟨"TripleJoin", "join", "(I)V"⟩, 14), (⟨"TripleJoin", "prepare", "()V"⟩, 14), (⟨"TripleJoin", "stands", "(I)Z"⟩, 14), (⟨"TripleJoin", "groundHolds", "()Z"⟩, 14), (⟨"TripleJoin", "allowed", "(I)I"⟩, 14), (⟨"TripleJoin", "known", "(I)I"⟩, 14), (⟨"TripleJoin", "allowedBy", "(IIIII)I"⟩, 14), (⟨"TripleJoin", "allowedTwice", "(IIIII)I"⟩, 14), (⟨"TripleJoin", "ways", "(II)I"⟩, 14), (⟨"TripleJoin", "alone", "(I)I"⟩, 14), (⟨"TripleJoin", "countSolution", "()V"⟩, 14), (⟨"TripleJoinModel", "held", "()I"⟩, 4), (⟨"TripleJoinModel", "solves", "(I)Z"⟩, 4), (⟨"TripleJoinModel", "stands", "(I)Z"⟩, 4), (⟨"TripleJoinModel", "filled", "(I)I"⟩, 4)]
theorem lw_r1 : ∀ q ∈ lw_privs_1, lw_okq q := List.forall_mem_cons.mpr ⟨lw_p0, List.forall_mem_cons.mpr ⟨lw_p1, List.forall_mem_cons.mpr ⟨lw_p2, List.forall_mem_cons.mpr ⟨lw_p3, List.forall_mem_cons.mpr ⟨lw_p4, List.forall_mem_cons.mpr ⟨lw_p5, List.forall_mem_cons.mpr ⟨lw_p6, List.forall_mem_cons.mpr ⟨lw_p7, List.forall_mem_cons.mpr ⟨lw_p8, List.forall_mem_cons.mpr ⟨lw_p9, List.forall_mem_cons.mpr ⟨lw_p10, List.forall_mem_cons.mpr ⟨lw_p11, List.forall_mem_cons.mpr ⟨lw_p12, List.forall_mem_cons.mpr ⟨lw_p13, List.forall_mem_cons.mpr ⟨lw_p14, List.forall_mem_cons.mpr ⟨lw_p15, fun _ h => absurd h List.not_mem_nil⟩⟩⟩⟩⟩⟩⟩⟩⟩⟩⟩⟩⟩⟩⟩⟩
theorem lw_p16 : lw_okq (⟨"TripleJoinModel", "missing", "(I)Z"⟩, 4) := ⟨⟨by decide +kernel, by decide +kernel⟩, lw_t1 (List.mem_of_getElem? (i := 154) rfl), lw_t1 (List.mem_of_getElem? (i := 221) rfl), lw_t1 (List.mem_of_getElem? (i := 222) rfl)⟩
def lw_privs_2 : List (MethodName × Nat) := [(⟨"TripleJoinModel", "missing", "(I)Z"⟩, 4)]
theorem lw_r2 : ∀ q ∈ lw_privs_2, lw_okq q := List.forall_mem_cons.mpr ⟨lw_p16, fun _ h => absurd h List.not_mem_nil⟩
def lw_privs : List (MethodName × Nat) := lw_privs_1 ++ (lw_privs_2)
def lw_tbl : List Cond := k2_sels lw_privs ++ tables_1
theorem lw_privs_ok : ∀ q ∈ lw_privs, lw_okq q := by
  show ∀ q ∈ lw_privs_1 ++ (lw_privs_2), lw_okq q
  exact List.forall_mem_append.mpr ⟨lw_r1, lw_r2⟩
-- ===== ONE list of words for every method: the tables' words that hold all through a run =====
def lw_all : List Cond := lw_tbl.filter goodWord
/-- a word of the tables by its place: claim/WORDS.tsv -/
theorem lw_w {w : Cond} (i : Nat) (h : lw_tbl[i]? = some w) (g : goodWord w = true) : w ∈ lw_all := List.mem_filter.mpr ⟨List.mem_of_getElem? h, g⟩
theorem lw_all_tbl {w : Cond} (h : w ∈ lw_all) : w ∈ lw_tbl := (List.mem_filter.mp h).1
theorem lw_self : GoodIn lw_all lw_all := fun w h => ⟨h, good_of_word (List.mem_filter.mp h).2⟩
/-- a class's field words, by their places -/
theorem lw_in (ws : List Cond) (ps : List Nat) (hp : ws = ps.filterMap (fun i => lw_tbl[i]?)) (hg : ws.all goodWord = true) : ∀ w ∈ ws, w ∈ lw_all := by
  intro w h
  have h1 := List.all_eq_true.mp hg w h
  rw [hp] at h
  obtain ⟨i, -, hi⟩ := List.mem_filterMap.mp h
  exact lw_w i hi h1
/-- the words of a contract for the method y with code b, L locals, answer r -/
abbrev ws_ (y : MethodName) (b : ByteArray) (L : Nat) (r : Option FieldType) : List Cond := Cond.code y b L r :: lw_all
theorem lw_meth {y : MethodName} {b : ByteArray} {L : Nat} {r : Option FieldType} (h : Cond.code y b L r ∈ lw_all) : GoodIn lw_all (ws_ y b L r) := by
  intro w hw
  rcases List.mem_cons.mp hw with e | e
  · rw [e]
    exact lw_self _ h
  · exact lw_self _ e
theorem lw_app {a c : List Cond} (ha : ∀ w ∈ a, w ∈ lw_all) (hc : GoodIn lw_all c) : GoodIn lw_all (a ++ c) := by
  intro w hw
  rcases List.mem_append.mp hw with e | e
  · exact lw_self w (ha w e)
  · exact hc w e
/-- what a call through an object asks: cwV n hts (lw_V ..) -/
theorem lw_V {own : String} {idx : Nat} {C : String} {y : MethodName} {b : ByteArray} {L : Nat} {r : Option FieldType} (h1 : Cond.methodLink own idx y ∈ lw_all) (h2 : Cond.instanceMethod y ∈ lw_all) (h3 : Cond.selects C y y ∈ lw_all) (h4 : Cond.initialized C ∈ lw_all) (h5 : Cond.code y b L r ∈ lw_all) : GoodIn lw_all (wsV own idx C y (ws_ y b L r)) := by
  refine lw_app ?_ (lw_meth h5)
  intro w hw
  simp only [List.mem_cons, List.not_mem_nil, or_false] at hw
  rcases hw with e | e | e | e
  · rw [e]; exact h1
  · rw [e]; exact h2
  · rw [e]; exact h3
  · rw [e]; exact h4
/-- what a static call asks: va_cwS n hts (lw_S ..) -/
theorem lw_S {own : String} {idx : Nat} {y : MethodName} {b : ByteArray} {L : Nat} {r : Option FieldType} (h1 : Cond.methodLink own idx y ∈ lw_all) (h2 : Cond.static y ∈ lw_all) (h3 : Cond.initialized y.cls ∈ lw_all) (h4 : Cond.code y b L r ∈ lw_all) : GoodIn lw_all (va_wsS own idx y (ws_ y b L r)) := by
  refine lw_app ?_ (lw_meth h4)
  intro w hw
  simp only [List.mem_cons, List.not_mem_nil, or_false] at hw
  rcases hw with e | e | e
  · rw [e]; exact h1
  · rw [e]; exact h2
  · rw [e]; exact h3
/-- the words of a contract for a method WITH HANDLERS (hh: its table) -/
abbrev wsW_ (y : MethodName) (b : ByteArray) (L : Nat) (r : Option FieldType) (hh : List (Nat × Nat × Nat × Nat)) : List Cond := Cond.codeWith y b L r hh :: lw_all
theorem lw_methW {y : MethodName} {b : ByteArray} {L : Nat} {r : Option FieldType} {hh : List (Nat × Nat × Nat × Nat)} (h : Cond.codeWith y b L r hh ∈ lw_all) : GoodIn lw_all (wsW_ y b L r hh) := by
  intro w hw
  rcases List.mem_cons.mp hw with e | e
  · rw [e]
    exact lw_self _ h
  · exact lw_self _ e
/-- any list of words by their places (lw_in), good -/
theorem lw_good {ws : List Cond} (h : ∀ w ∈ ws, w ∈ lw_all) : GoodIn lw_all ws := fun w hw => lw_self w (h w hw)
/-- what a call of a method with handlers asks: vx_cwVW n hts (lw_VW ..), vx_cwSW n hts (lw_SW ..) -/
theorem lw_VW {own : String} {idx : Nat} {C : String} {y : MethodName} {b : ByteArray} {L : Nat} {r : Option FieldType} {hh : List (Nat × Nat × Nat × Nat)} (h1 : Cond.methodLink own idx y ∈ lw_all) (h2 : Cond.instanceMethod y ∈ lw_all) (h3 : Cond.selects C y y ∈ lw_all) (h4 : Cond.initialized C ∈ lw_all) (h5 : Cond.codeWith y b L r hh ∈ lw_all) : GoodIn lw_all (wsV own idx C y (wsW_ y b L r hh)) := by
  refine lw_app ?_ (lw_methW h5)
  intro w hw
  simp only [List.mem_cons, List.not_mem_nil, or_false] at hw
  rcases hw with e | e | e | e
  · rw [e]; exact h1
  · rw [e]; exact h2
  · rw [e]; exact h3
  · rw [e]; exact h4
theorem lw_SW {own : String} {idx : Nat} {y : MethodName} {b : ByteArray} {L : Nat} {r : Option FieldType} {hh : List (Nat × Nat × Nat × Nat)} (h1 : Cond.methodLink own idx y ∈ lw_all) (h2 : Cond.static y ∈ lw_all) (h3 : Cond.initialized y.cls ∈ lw_all) (h4 : Cond.codeWith y b L r hh ∈ lw_all) : GoodIn lw_all (va_wsS own idx y (wsW_ y b L r hh)) := by
  refine lw_app ?_ (lw_methW h4)
  intro w hw
  simp only [List.mem_cons, List.not_mem_nil, or_false] at hw
  rcases hw with e | e | e
  · rw [e]; exact h1
  · rw [e]; exact h2
  · rw [e]; exact h3
/-- a word by its place in its run of the tables -/
theorem lw_at {r : List Cond} (hr : ∀ w ∈ r, w ∈ lw_tbl) {w : Cond} (i : Nat) (h : r[i]? = some w) : w ∈ lw_tbl := hr w (List.mem_of_getElem? h)
theorem lw_g {w : Cond} (h : w ∈ lw_tbl) (g : goodWord w = true) : w ∈ lw_all := List.mem_filter.mpr ⟨h, g⟩
theorem lw_ms : ∀ w ∈ k2_sels lw_privs, w ∈ lw_tbl := fun w h => show w ∈ k2_sels lw_privs ++ tables_1 from List.mem_append_left _ h
theorem lw_m1 : ∀ w ∈ tables_1_1, w ∈ lw_tbl := fun w h => show w ∈ k2_sels lw_privs ++ tables_1 from List.mem_append_right (k2_sels lw_privs) (show w ∈ tables_1 from List.mem_append_left _ h)
theorem lw_m2 : ∀ w ∈ tables_1_2, w ∈ lw_tbl := fun w h => show w ∈ k2_sels lw_privs ++ tables_1 from List.mem_append_right (k2_sels lw_privs) (show w ∈ tables_1 from List.mem_append_right _ h)
theorem qs0 : (Cond.selects "TripleJoin" ⟨"TripleJoin", "enter", "(IIII)V"⟩ ⟨"TripleJoin", "enter", "(IIII)V"⟩) ∈ lw_all := lw_g (lw_at lw_ms 0 rfl) rfl
theorem qs1 : (Cond.selects "TripleJoin" ⟨"TripleJoin", "join", "(I)V"⟩ ⟨"TripleJoin", "join", "(I)V"⟩) ∈ lw_all := lw_g (lw_at lw_ms 1 rfl) rfl
theorem qs2 : (Cond.selects "TripleJoin" ⟨"TripleJoin", "prepare", "()V"⟩ ⟨"TripleJoin", "prepare", "()V"⟩) ∈ lw_all := lw_g (lw_at lw_ms 2 rfl) rfl
theorem qs3 : (Cond.selects "TripleJoin" ⟨"TripleJoin", "stands", "(I)Z"⟩ ⟨"TripleJoin", "stands", "(I)Z"⟩) ∈ lw_all := lw_g (lw_at lw_ms 3 rfl) rfl
theorem qs4 : (Cond.selects "TripleJoin" ⟨"TripleJoin", "groundHolds", "()Z"⟩ ⟨"TripleJoin", "groundHolds", "()Z"⟩) ∈ lw_all := lw_g (lw_at lw_ms 4 rfl) rfl
theorem qs5 : (Cond.selects "TripleJoin" ⟨"TripleJoin", "allowed", "(I)I"⟩ ⟨"TripleJoin", "allowed", "(I)I"⟩) ∈ lw_all := lw_g (lw_at lw_ms 5 rfl) rfl
theorem qs6 : (Cond.selects "TripleJoin" ⟨"TripleJoin", "known", "(I)I"⟩ ⟨"TripleJoin", "known", "(I)I"⟩) ∈ lw_all := lw_g (lw_at lw_ms 6 rfl) rfl
theorem qs7 : (Cond.selects "TripleJoin" ⟨"TripleJoin", "allowedBy", "(IIIII)I"⟩ ⟨"TripleJoin", "allowedBy", "(IIIII)I"⟩) ∈ lw_all := lw_g (lw_at lw_ms 7 rfl) rfl
theorem qs8 : (Cond.selects "TripleJoin" ⟨"TripleJoin", "allowedTwice", "(IIIII)I"⟩ ⟨"TripleJoin", "allowedTwice", "(IIIII)I"⟩) ∈ lw_all := lw_g (lw_at lw_ms 8 rfl) rfl
theorem qs9 : (Cond.selects "TripleJoin" ⟨"TripleJoin", "ways", "(II)I"⟩ ⟨"TripleJoin", "ways", "(II)I"⟩) ∈ lw_all := lw_g (lw_at lw_ms 9 rfl) rfl
theorem qs10 : (Cond.selects "TripleJoin" ⟨"TripleJoin", "alone", "(I)I"⟩ ⟨"TripleJoin", "alone", "(I)I"⟩) ∈ lw_all := lw_g (lw_at lw_ms 10 rfl) rfl
theorem qs11 : (Cond.selects "TripleJoin" ⟨"TripleJoin", "countSolution", "()V"⟩ ⟨"TripleJoin", "countSolution", "()V"⟩) ∈ lw_all := lw_g (lw_at lw_ms 11 rfl) rfl
theorem qs12 : (Cond.selects "TripleJoinModel" ⟨"TripleJoinModel", "held", "()I"⟩ ⟨"TripleJoinModel", "held", "()I"⟩) ∈ lw_all := lw_g (lw_at lw_ms 12 rfl) rfl
theorem qs13 : (Cond.selects "TripleJoinModel" ⟨"TripleJoinModel", "solves", "(I)Z"⟩ ⟨"TripleJoinModel", "solves", "(I)Z"⟩) ∈ lw_all := lw_g (lw_at lw_ms 13 rfl) rfl
theorem qs14 : (Cond.selects "TripleJoinModel" ⟨"TripleJoinModel", "stands", "(I)Z"⟩ ⟨"TripleJoinModel", "stands", "(I)Z"⟩) ∈ lw_all := lw_g (lw_at lw_ms 14 rfl) rfl
theorem qs15 : (Cond.selects "TripleJoinModel" ⟨"TripleJoinModel", "filled", "(I)I"⟩ ⟨"TripleJoinModel", "filled", "(I)I"⟩) ∈ lw_all := lw_g (lw_at lw_ms 15 rfl) rfl
theorem qs16 : (Cond.selects "TripleJoinModel" ⟨"TripleJoinModel", "missing", "(I)Z"⟩ ⟨"TripleJoinModel", "missing", "(I)Z"⟩) ∈ lw_all := lw_g (lw_at lw_ms 16 rfl) rfl
end
section
/-! TripleJoin -/
set_option maxRecDepth 100000
def RX0 : String := "TripleJoin"
def TX0 : u_T := fun k => match k with
  | 0 => ("TripleJoin", "held", "I", false)
  | 1 => ("TripleJoin", "objects", "[I", true)
  | 2 => ("TripleJoin", "predicates", "[I", true)
  | 3 => ("TripleJoin", "subjects", "[I", true)
  | 4 => ("TripleJoin", "goOn", "[I", true)
  | 5 => ("TripleJoin", "single", "[I", true)
  | 6 => ("TripleJoin", "patterns", "I", false)
  | 7 => ("TripleJoin", "place", "[I", true)
  | 8 => ("TripleJoin", "variables", "I", false)
  | 9 => ("TripleJoin", "variable", "[I", true)
  | 10 => ("TripleJoin", "bound", "[I", true)
  | 11 => ("TripleJoin", "candidates", "[I", true)
  | 12 => ("TripleJoin", "valueCount", "[I", true)
  | _ => ("TripleJoin", "solutionCount", "I", false)
def tyX0 : Nat → FieldType := fun k => match k with
  | 0 => .int
  | 1 => .array .int
  | 2 => .array .int
  | 3 => .array .int
  | 4 => .array .int
  | 5 => .array .int
  | 6 => .int
  | 7 => .array .int
  | 8 => .int
  | 9 => .array .int
  | 10 => .array .int
  | 11 => .array .int
  | 12 => .array .int
  | _ => .int
abbrev wsX00 : List Cond := u_ws RX0 TX0 14
set_option maxRecDepth 100000 in
theorem nmX0 : ∀ a, a < 14 → ∀ b, b < 14 → a ≠ b → (TX0 a).2.1 ≠ (TX0 b).2.1 := by decide +kernel
set_option maxRecDepth 100000 in
theorem tyX0_ok : ∀ k, k < 14 → parseFieldDescriptor (TX0 k).2.2.1 = some (tyX0 k) := by decide +kernel
abbrev cX0_init : ByteArray := prog_1_method_1_code
def yX0_init : MethodName := ⟨RX0, "<init>", "()V"⟩
theorem dX0_init_0 : decode cX0_init 0 = .ok (.aload_n 0, 1) := by decide +kernel
theorem dX0_init_1 : decode cX0_init 1 = .ok (.invokespecial 1, 3) := by decide +kernel
theorem dX0_init_4 : decode cX0_init 4 = .ok (.aload_n 0, 1) := by decide +kernel
theorem dX0_init_5 : decode cX0_init 5 = .ok (.bipush 64, 2) := by decide +kernel
theorem dX0_init_7 : decode cX0_init 7 = .ok (.newarray .int, 2) := by decide +kernel
theorem dX0_init_9 : decode cX0_init 9 = .ok (.putfield 7, 3) := by decide +kernel
theorem dX0_init_12 : decode cX0_init 12 = .ok (.aload_n 0, 1) := by decide +kernel
theorem dX0_init_13 : decode cX0_init 13 = .ok (.bipush 64, 2) := by decide +kernel
theorem dX0_init_15 : decode cX0_init 15 = .ok (.newarray .int, 2) := by decide +kernel
theorem dX0_init_17 : decode cX0_init 17 = .ok (.putfield 13, 3) := by decide +kernel
theorem dX0_init_20 : decode cX0_init 20 = .ok (.aload_n 0, 1) := by decide +kernel
theorem dX0_init_21 : decode cX0_init 21 = .ok (.bipush 64, 2) := by decide +kernel
theorem dX0_init_23 : decode cX0_init 23 = .ok (.newarray .int, 2) := by decide +kernel
theorem dX0_init_25 : decode cX0_init 25 = .ok (.putfield 16, 3) := by decide +kernel
theorem dX0_init_28 : decode cX0_init 28 = .ok (.aload_n 0, 1) := by decide +kernel
theorem dX0_init_29 : decode cX0_init 29 = .ok (.sipush 384, 3) := by decide +kernel
theorem dX0_init_32 : decode cX0_init 32 = .ok (.newarray .int, 2) := by decide +kernel
theorem dX0_init_34 : decode cX0_init 34 = .ok (.putfield 19, 3) := by decide +kernel
theorem dX0_init_37 : decode cX0_init 37 = .ok (.aload_n 0, 1) := by decide +kernel
theorem dX0_init_38 : decode cX0_init 38 = .ok (.bipush 24, 2) := by decide +kernel
theorem dX0_init_40 : decode cX0_init 40 = .ok (.newarray .int, 2) := by decide +kernel
theorem dX0_init_42 : decode cX0_init 42 = .ok (.putfield 22, 3) := by decide +kernel
theorem dX0_init_45 : decode cX0_init 45 = .ok (.aload_n 0, 1) := by decide +kernel
theorem dX0_init_46 : decode cX0_init 46 = .ok (.bipush 12, 2) := by decide +kernel
theorem dX0_init_48 : decode cX0_init 48 = .ok (.newarray .int, 2) := by decide +kernel
theorem dX0_init_50 : decode cX0_init 50 = .ok (.putfield 25, 3) := by decide +kernel
theorem dX0_init_53 : decode cX0_init 53 = .ok (.aload_n 0, 1) := by decide +kernel
theorem dX0_init_54 : decode cX0_init 54 = .ok (.iconst 4, 1) := by decide +kernel
theorem dX0_init_55 : decode cX0_init 55 = .ok (.newarray .int, 2) := by decide +kernel
theorem dX0_init_57 : decode cX0_init 57 = .ok (.putfield 28, 3) := by decide +kernel
theorem dX0_init_60 : decode cX0_init 60 = .ok (.aload_n 0, 1) := by decide +kernel
theorem dX0_init_61 : decode cX0_init 61 = .ok (.iconst 4, 1) := by decide +kernel
theorem dX0_init_62 : decode cX0_init 62 = .ok (.newarray .int, 2) := by decide +kernel
theorem dX0_init_64 : decode cX0_init 64 = .ok (.putfield 31, 3) := by decide +kernel
theorem dX0_init_67 : decode cX0_init 67 = .ok (.aload_n 0, 1) := by decide +kernel
theorem dX0_init_68 : decode cX0_init 68 = .ok (.iconst 5, 1) := by decide +kernel
theorem dX0_init_69 : decode cX0_init 69 = .ok (.newarray .int, 2) := by decide +kernel
theorem dX0_init_71 : decode cX0_init 71 = .ok (.putfield 34, 3) := by decide +kernel
theorem dX0_init_74 : decode cX0_init 74 = .ok (.aload_n 0, 1) := by decide +kernel
theorem dX0_init_75 : decode cX0_init 75 = .ok (.bipush 32, 2) := by decide +kernel
theorem dX0_init_77 : decode cX0_init 77 = .ok (.newarray .int, 2) := by decide +kernel
theorem dX0_init_79 : decode cX0_init 79 = .ok (.putfield 37, 3) := by decide +kernel
theorem dX0_init_82 : decode cX0_init 82 = .ok (.return_, 1) := by decide +kernel
abbrev cX0_add : ByteArray := prog_1_method_2_code
def yX0_add : MethodName := ⟨RX0, "add", "(III)I"⟩
theorem dX0_add_0 : decode cX0_add 0 = .ok (.iload_n 1, 1) := by decide +kernel
theorem dX0_add_1 : decode cX0_add 1 = .ok (.invokestatic 40, 3) := by decide +kernel
theorem dX0_add_4 : decode cX0_add 4 = .ok (.ifCond .eq 44, 3) := by decide +kernel
theorem dX0_add_7 : decode cX0_add 7 = .ok (.iload_n 2, 1) := by decide +kernel
theorem dX0_add_8 : decode cX0_add 8 = .ok (.invokestatic 40, 3) := by decide +kernel
theorem dX0_add_11 : decode cX0_add 11 = .ok (.ifCond .eq 37, 3) := by decide +kernel
theorem dX0_add_14 : decode cX0_add 14 = .ok (.iload_n 3, 1) := by decide +kernel
theorem dX0_add_15 : decode cX0_add 15 = .ok (.invokestatic 40, 3) := by decide +kernel
theorem dX0_add_18 : decode cX0_add 18 = .ok (.ifCond .eq 30, 3) := by decide +kernel
theorem dX0_add_21 : decode cX0_add 21 = .ok (.aload_n 0, 1) := by decide +kernel
theorem dX0_add_22 : decode cX0_add 22 = .ok (.getfield 44, 3) := by decide +kernel
theorem dX0_add_25 : decode cX0_add 25 = .ok (.bipush 48, 2) := by decide +kernel
theorem dX0_add_27 : decode cX0_add 27 = .ok (.if_icmp .ge 21, 3) := by decide +kernel
theorem dX0_add_30 : decode cX0_add 30 = .ok (.aload_n 0, 1) := by decide +kernel
theorem dX0_add_31 : decode cX0_add 31 = .ok (.getfield 7, 3) := by decide +kernel
theorem dX0_add_34 : decode cX0_add 34 = .ok (.bipush 8, 2) := by decide +kernel
theorem dX0_add_36 : decode cX0_add 36 = .ok (.iload_n 1, 1) := by decide +kernel
theorem dX0_add_37 : decode cX0_add 37 = .ok (.imul, 1) := by decide +kernel
theorem dX0_add_38 : decode cX0_add 38 = .ok (.iload_n 2, 1) := by decide +kernel
theorem dX0_add_39 : decode cX0_add 39 = .ok (.iadd, 1) := by decide +kernel
theorem dX0_add_40 : decode cX0_add 40 = .ok (.iaload, 1) := by decide +kernel
theorem dX0_add_41 : decode cX0_add 41 = .ok (.iload_n 3, 1) := by decide +kernel
theorem dX0_add_42 : decode cX0_add 42 = .ok (.iushr, 1) := by decide +kernel
theorem dX0_add_43 : decode cX0_add 43 = .ok (.iconst 1, 1) := by decide +kernel
theorem dX0_add_44 : decode cX0_add 44 = .ok (.iand, 1) := by decide +kernel
theorem dX0_add_45 : decode cX0_add 45 = .ok (.ifCond .eq 5, 3) := by decide +kernel
theorem dX0_add_48 : decode cX0_add 48 = .ok (.iconst (-1), 1) := by decide +kernel
theorem dX0_add_49 : decode cX0_add 49 = .ok (.ireturn, 1) := by decide +kernel
theorem dX0_add_50 : decode cX0_add 50 = .ok (.aload_n 0, 1) := by decide +kernel
theorem dX0_add_51 : decode cX0_add 51 = .ok (.iload_n 1, 1) := by decide +kernel
theorem dX0_add_52 : decode cX0_add 52 = .ok (.iload_n 2, 1) := by decide +kernel
theorem dX0_add_53 : decode cX0_add 53 = .ok (.iload_n 3, 1) := by decide +kernel
theorem dX0_add_54 : decode cX0_add 54 = .ok (.iconst 1, 1) := by decide +kernel
theorem dX0_add_55 : decode cX0_add 55 = .ok (.invokevirtual 48, 3) := by decide +kernel
theorem dX0_add_58 : decode cX0_add 58 = .ok (.aload_n 0, 1) := by decide +kernel
theorem dX0_add_59 : decode cX0_add 59 = .ok (.dup, 1) := by decide +kernel
theorem dX0_add_60 : decode cX0_add 60 = .ok (.getfield 44, 3) := by decide +kernel
theorem dX0_add_63 : decode cX0_add 63 = .ok (.iconst 1, 1) := by decide +kernel
theorem dX0_add_64 : decode cX0_add 64 = .ok (.iadd, 1) := by decide +kernel
theorem dX0_add_65 : decode cX0_add 65 = .ok (.putfield 44, 3) := by decide +kernel
theorem dX0_add_68 : decode cX0_add 68 = .ok (.aload_n 0, 1) := by decide +kernel
theorem dX0_add_69 : decode cX0_add 69 = .ok (.getfield 44, 3) := by decide +kernel
theorem dX0_add_72 : decode cX0_add 72 = .ok (.ireturn, 1) := by decide +kernel
abbrev cX0_isPart : ByteArray := prog_1_method_4_code
def yX0_isPart : MethodName := ⟨RX0, "isPart", "(I)Z"⟩
theorem dX0_isPart_0 : decode cX0_isPart 0 = .ok (.iload_n 0, 1) := by decide +kernel
theorem dX0_isPart_1 : decode cX0_isPart 1 = .ok (.ifCond .lt 13, 3) := by decide +kernel
theorem dX0_isPart_4 : decode cX0_isPart 4 = .ok (.iload_n 0, 1) := by decide +kernel
theorem dX0_isPart_5 : decode cX0_isPart 5 = .ok (.bipush 7, 2) := by decide +kernel
theorem dX0_isPart_7 : decode cX0_isPart 7 = .ok (.if_icmp .gt 7, 3) := by decide +kernel
theorem dX0_isPart_10 : decode cX0_isPart 10 = .ok (.iconst 1, 1) := by decide +kernel
theorem dX0_isPart_11 : decode cX0_isPart 11 = .ok (.goto 4, 3) := by decide +kernel
theorem dX0_isPart_14 : decode cX0_isPart 14 = .ok (.iconst 0, 1) := by decide +kernel
theorem dX0_isPart_15 : decode cX0_isPart 15 = .ok (.ireturn, 1) := by decide +kernel
abbrev cX0_enter : ByteArray := prog_1_method_6_code
def yX0_enter : MethodName := ⟨RX0, "enter", "(IIII)V"⟩
theorem dX0_enter_0 : decode cX0_enter 0 = .ok (.aload_n 0, 1) := by decide +kernel
theorem dX0_enter_1 : decode cX0_enter 1 = .ok (.getfield 7, 3) := by decide +kernel
theorem dX0_enter_4 : decode cX0_enter 4 = .ok (.bipush 8, 2) := by decide +kernel
theorem dX0_enter_6 : decode cX0_enter 6 = .ok (.iload_n 1, 1) := by decide +kernel
theorem dX0_enter_7 : decode cX0_enter 7 = .ok (.imul, 1) := by decide +kernel
theorem dX0_enter_8 : decode cX0_enter 8 = .ok (.iload_n 2, 1) := by decide +kernel
theorem dX0_enter_9 : decode cX0_enter 9 = .ok (.iadd, 1) := by decide +kernel
theorem dX0_enter_10 : decode cX0_enter 10 = .ok (.dup2, 1) := by decide +kernel
theorem dX0_enter_11 : decode cX0_enter 11 = .ok (.iaload, 1) := by decide +kernel
theorem dX0_enter_12 : decode cX0_enter 12 = .ok (.iconst 1, 1) := by decide +kernel
theorem dX0_enter_13 : decode cX0_enter 13 = .ok (.iload_n 3, 1) := by decide +kernel
theorem dX0_enter_14 : decode cX0_enter 14 = .ok (.ishl, 1) := by decide +kernel
theorem dX0_enter_15 : decode cX0_enter 15 = .ok (.ixor, 1) := by decide +kernel
theorem dX0_enter_16 : decode cX0_enter 16 = .ok (.iastore, 1) := by decide +kernel
theorem dX0_enter_17 : decode cX0_enter 17 = .ok (.aload_n 0, 1) := by decide +kernel
theorem dX0_enter_18 : decode cX0_enter 18 = .ok (.getfield 13, 3) := by decide +kernel
theorem dX0_enter_21 : decode cX0_enter 21 = .ok (.bipush 8, 2) := by decide +kernel
theorem dX0_enter_23 : decode cX0_enter 23 = .ok (.iload_n 1, 1) := by decide +kernel
theorem dX0_enter_24 : decode cX0_enter 24 = .ok (.imul, 1) := by decide +kernel
theorem dX0_enter_25 : decode cX0_enter 25 = .ok (.iload_n 3, 1) := by decide +kernel
theorem dX0_enter_26 : decode cX0_enter 26 = .ok (.iadd, 1) := by decide +kernel
theorem dX0_enter_27 : decode cX0_enter 27 = .ok (.dup2, 1) := by decide +kernel
theorem dX0_enter_28 : decode cX0_enter 28 = .ok (.iaload, 1) := by decide +kernel
theorem dX0_enter_29 : decode cX0_enter 29 = .ok (.iconst 1, 1) := by decide +kernel
theorem dX0_enter_30 : decode cX0_enter 30 = .ok (.iload_n 2, 1) := by decide +kernel
theorem dX0_enter_31 : decode cX0_enter 31 = .ok (.ishl, 1) := by decide +kernel
theorem dX0_enter_32 : decode cX0_enter 32 = .ok (.ixor, 1) := by decide +kernel
theorem dX0_enter_33 : decode cX0_enter 33 = .ok (.iastore, 1) := by decide +kernel
theorem dX0_enter_34 : decode cX0_enter 34 = .ok (.aload_n 0, 1) := by decide +kernel
theorem dX0_enter_35 : decode cX0_enter 35 = .ok (.getfield 16, 3) := by decide +kernel
theorem dX0_enter_38 : decode cX0_enter 38 = .ok (.bipush 8, 2) := by decide +kernel
theorem dX0_enter_40 : decode cX0_enter 40 = .ok (.iload_n 2, 1) := by decide +kernel
theorem dX0_enter_41 : decode cX0_enter 41 = .ok (.imul, 1) := by decide +kernel
theorem dX0_enter_42 : decode cX0_enter 42 = .ok (.iload_n 3, 1) := by decide +kernel
theorem dX0_enter_43 : decode cX0_enter 43 = .ok (.iadd, 1) := by decide +kernel
theorem dX0_enter_44 : decode cX0_enter 44 = .ok (.dup2, 1) := by decide +kernel
theorem dX0_enter_45 : decode cX0_enter 45 = .ok (.iaload, 1) := by decide +kernel
theorem dX0_enter_46 : decode cX0_enter 46 = .ok (.iconst 1, 1) := by decide +kernel
theorem dX0_enter_47 : decode cX0_enter 47 = .ok (.iload_n 1, 1) := by decide +kernel
theorem dX0_enter_48 : decode cX0_enter 48 = .ok (.ishl, 1) := by decide +kernel
theorem dX0_enter_49 : decode cX0_enter 49 = .ok (.ixor, 1) := by decide +kernel
theorem dX0_enter_50 : decode cX0_enter 50 = .ok (.iastore, 1) := by decide +kernel
theorem dX0_enter_51 : decode cX0_enter 51 = .ok (.aload_n 0, 1) := by decide +kernel
theorem dX0_enter_52 : decode cX0_enter 52 = .ok (.getfield 19, 3) := by decide +kernel
theorem dX0_enter_55 : decode cX0_enter 55 = .ok (.bipush 8, 2) := by decide +kernel
theorem dX0_enter_57 : decode cX0_enter 57 = .ok (.iload_n 1, 1) := by decide +kernel
theorem dX0_enter_58 : decode cX0_enter 58 = .ok (.imul, 1) := by decide +kernel
theorem dX0_enter_59 : decode cX0_enter 59 = .ok (.iload_n 2, 1) := by decide +kernel
theorem dX0_enter_60 : decode cX0_enter 60 = .ok (.iadd, 1) := by decide +kernel
theorem dX0_enter_61 : decode cX0_enter 61 = .ok (.dup2, 1) := by decide +kernel
theorem dX0_enter_62 : decode cX0_enter 62 = .ok (.iaload, 1) := by decide +kernel
theorem dX0_enter_63 : decode cX0_enter 63 = .ok (.iload 4, 2) := by decide +kernel
theorem dX0_enter_65 : decode cX0_enter 65 = .ok (.iadd, 1) := by decide +kernel
theorem dX0_enter_66 : decode cX0_enter 66 = .ok (.iastore, 1) := by decide +kernel
theorem dX0_enter_67 : decode cX0_enter 67 = .ok (.aload_n 0, 1) := by decide +kernel
theorem dX0_enter_68 : decode cX0_enter 68 = .ok (.getfield 19, 3) := by decide +kernel
theorem dX0_enter_71 : decode cX0_enter 71 = .ok (.bipush 64, 2) := by decide +kernel
theorem dX0_enter_73 : decode cX0_enter 73 = .ok (.bipush 8, 2) := by decide +kernel
theorem dX0_enter_75 : decode cX0_enter 75 = .ok (.iload_n 1, 1) := by decide +kernel
theorem dX0_enter_76 : decode cX0_enter 76 = .ok (.imul, 1) := by decide +kernel
theorem dX0_enter_77 : decode cX0_enter 77 = .ok (.iadd, 1) := by decide +kernel
theorem dX0_enter_78 : decode cX0_enter 78 = .ok (.iload_n 3, 1) := by decide +kernel
theorem dX0_enter_79 : decode cX0_enter 79 = .ok (.iadd, 1) := by decide +kernel
theorem dX0_enter_80 : decode cX0_enter 80 = .ok (.dup2, 1) := by decide +kernel
theorem dX0_enter_81 : decode cX0_enter 81 = .ok (.iaload, 1) := by decide +kernel
theorem dX0_enter_82 : decode cX0_enter 82 = .ok (.iload 4, 2) := by decide +kernel
theorem dX0_enter_84 : decode cX0_enter 84 = .ok (.iadd, 1) := by decide +kernel
theorem dX0_enter_85 : decode cX0_enter 85 = .ok (.iastore, 1) := by decide +kernel
theorem dX0_enter_86 : decode cX0_enter 86 = .ok (.aload_n 0, 1) := by decide +kernel
theorem dX0_enter_87 : decode cX0_enter 87 = .ok (.getfield 19, 3) := by decide +kernel
theorem dX0_enter_90 : decode cX0_enter 90 = .ok (.sipush 128, 3) := by decide +kernel
theorem dX0_enter_93 : decode cX0_enter 93 = .ok (.bipush 8, 2) := by decide +kernel
theorem dX0_enter_95 : decode cX0_enter 95 = .ok (.iload_n 2, 1) := by decide +kernel
theorem dX0_enter_96 : decode cX0_enter 96 = .ok (.imul, 1) := by decide +kernel
theorem dX0_enter_97 : decode cX0_enter 97 = .ok (.iadd, 1) := by decide +kernel
theorem dX0_enter_98 : decode cX0_enter 98 = .ok (.iload_n 1, 1) := by decide +kernel
theorem dX0_enter_99 : decode cX0_enter 99 = .ok (.iadd, 1) := by decide +kernel
theorem dX0_enter_100 : decode cX0_enter 100 = .ok (.dup2, 1) := by decide +kernel
theorem dX0_enter_101 : decode cX0_enter 101 = .ok (.iaload, 1) := by decide +kernel
theorem dX0_enter_102 : decode cX0_enter 102 = .ok (.iload 4, 2) := by decide +kernel
theorem dX0_enter_104 : decode cX0_enter 104 = .ok (.iadd, 1) := by decide +kernel
theorem dX0_enter_105 : decode cX0_enter 105 = .ok (.iastore, 1) := by decide +kernel
theorem dX0_enter_106 : decode cX0_enter 106 = .ok (.aload_n 0, 1) := by decide +kernel
theorem dX0_enter_107 : decode cX0_enter 107 = .ok (.getfield 19, 3) := by decide +kernel
theorem dX0_enter_110 : decode cX0_enter 110 = .ok (.sipush 192, 3) := by decide +kernel
theorem dX0_enter_113 : decode cX0_enter 113 = .ok (.bipush 8, 2) := by decide +kernel
theorem dX0_enter_115 : decode cX0_enter 115 = .ok (.iload_n 2, 1) := by decide +kernel
theorem dX0_enter_116 : decode cX0_enter 116 = .ok (.imul, 1) := by decide +kernel
theorem dX0_enter_117 : decode cX0_enter 117 = .ok (.iadd, 1) := by decide +kernel
theorem dX0_enter_118 : decode cX0_enter 118 = .ok (.iload_n 3, 1) := by decide +kernel
theorem dX0_enter_119 : decode cX0_enter 119 = .ok (.iadd, 1) := by decide +kernel
theorem dX0_enter_120 : decode cX0_enter 120 = .ok (.dup2, 1) := by decide +kernel
theorem dX0_enter_121 : decode cX0_enter 121 = .ok (.iaload, 1) := by decide +kernel
theorem dX0_enter_122 : decode cX0_enter 122 = .ok (.iload 4, 2) := by decide +kernel
theorem dX0_enter_124 : decode cX0_enter 124 = .ok (.iadd, 1) := by decide +kernel
theorem dX0_enter_125 : decode cX0_enter 125 = .ok (.iastore, 1) := by decide +kernel
theorem dX0_enter_126 : decode cX0_enter 126 = .ok (.aload_n 0, 1) := by decide +kernel
theorem dX0_enter_127 : decode cX0_enter 127 = .ok (.getfield 19, 3) := by decide +kernel
theorem dX0_enter_130 : decode cX0_enter 130 = .ok (.sipush 256, 3) := by decide +kernel
theorem dX0_enter_133 : decode cX0_enter 133 = .ok (.bipush 8, 2) := by decide +kernel
theorem dX0_enter_135 : decode cX0_enter 135 = .ok (.iload_n 3, 1) := by decide +kernel
theorem dX0_enter_136 : decode cX0_enter 136 = .ok (.imul, 1) := by decide +kernel
theorem dX0_enter_137 : decode cX0_enter 137 = .ok (.iadd, 1) := by decide +kernel
theorem dX0_enter_138 : decode cX0_enter 138 = .ok (.iload_n 1, 1) := by decide +kernel
theorem dX0_enter_139 : decode cX0_enter 139 = .ok (.iadd, 1) := by decide +kernel
theorem dX0_enter_140 : decode cX0_enter 140 = .ok (.dup2, 1) := by decide +kernel
theorem dX0_enter_141 : decode cX0_enter 141 = .ok (.iaload, 1) := by decide +kernel
theorem dX0_enter_142 : decode cX0_enter 142 = .ok (.iload 4, 2) := by decide +kernel
theorem dX0_enter_144 : decode cX0_enter 144 = .ok (.iadd, 1) := by decide +kernel
theorem dX0_enter_145 : decode cX0_enter 145 = .ok (.iastore, 1) := by decide +kernel
theorem dX0_enter_146 : decode cX0_enter 146 = .ok (.aload_n 0, 1) := by decide +kernel
theorem dX0_enter_147 : decode cX0_enter 147 = .ok (.getfield 19, 3) := by decide +kernel
theorem dX0_enter_150 : decode cX0_enter 150 = .ok (.sipush 320, 3) := by decide +kernel
theorem dX0_enter_153 : decode cX0_enter 153 = .ok (.bipush 8, 2) := by decide +kernel
theorem dX0_enter_155 : decode cX0_enter 155 = .ok (.iload_n 3, 1) := by decide +kernel
theorem dX0_enter_156 : decode cX0_enter 156 = .ok (.imul, 1) := by decide +kernel
theorem dX0_enter_157 : decode cX0_enter 157 = .ok (.iadd, 1) := by decide +kernel
theorem dX0_enter_158 : decode cX0_enter 158 = .ok (.iload_n 2, 1) := by decide +kernel
theorem dX0_enter_159 : decode cX0_enter 159 = .ok (.iadd, 1) := by decide +kernel
theorem dX0_enter_160 : decode cX0_enter 160 = .ok (.dup2, 1) := by decide +kernel
theorem dX0_enter_161 : decode cX0_enter 161 = .ok (.iaload, 1) := by decide +kernel
theorem dX0_enter_162 : decode cX0_enter 162 = .ok (.iload 4, 2) := by decide +kernel
theorem dX0_enter_164 : decode cX0_enter 164 = .ok (.iadd, 1) := by decide +kernel
theorem dX0_enter_165 : decode cX0_enter 165 = .ok (.iastore, 1) := by decide +kernel
theorem dX0_enter_166 : decode cX0_enter 166 = .ok (.aload_n 0, 1) := by decide +kernel
theorem dX0_enter_167 : decode cX0_enter 167 = .ok (.getfield 22, 3) := by decide +kernel
theorem dX0_enter_170 : decode cX0_enter 170 = .ok (.iload_n 1, 1) := by decide +kernel
theorem dX0_enter_171 : decode cX0_enter 171 = .ok (.dup2, 1) := by decide +kernel
theorem dX0_enter_172 : decode cX0_enter 172 = .ok (.iaload, 1) := by decide +kernel
theorem dX0_enter_173 : decode cX0_enter 173 = .ok (.iload 4, 2) := by decide +kernel
theorem dX0_enter_175 : decode cX0_enter 175 = .ok (.iadd, 1) := by decide +kernel
theorem dX0_enter_176 : decode cX0_enter 176 = .ok (.iastore, 1) := by decide +kernel
theorem dX0_enter_177 : decode cX0_enter 177 = .ok (.aload_n 0, 1) := by decide +kernel
theorem dX0_enter_178 : decode cX0_enter 178 = .ok (.getfield 22, 3) := by decide +kernel
theorem dX0_enter_181 : decode cX0_enter 181 = .ok (.bipush 8, 2) := by decide +kernel
theorem dX0_enter_183 : decode cX0_enter 183 = .ok (.iload_n 2, 1) := by decide +kernel
theorem dX0_enter_184 : decode cX0_enter 184 = .ok (.iadd, 1) := by decide +kernel
theorem dX0_enter_185 : decode cX0_enter 185 = .ok (.dup2, 1) := by decide +kernel
theorem dX0_enter_186 : decode cX0_enter 186 = .ok (.iaload, 1) := by decide +kernel
theorem dX0_enter_187 : decode cX0_enter 187 = .ok (.iload 4, 2) := by decide +kernel
theorem dX0_enter_189 : decode cX0_enter 189 = .ok (.iadd, 1) := by decide +kernel
theorem dX0_enter_190 : decode cX0_enter 190 = .ok (.iastore, 1) := by decide +kernel
theorem dX0_enter_191 : decode cX0_enter 191 = .ok (.aload_n 0, 1) := by decide +kernel
theorem dX0_enter_192 : decode cX0_enter 192 = .ok (.getfield 22, 3) := by decide +kernel
theorem dX0_enter_195 : decode cX0_enter 195 = .ok (.bipush 16, 2) := by decide +kernel
theorem dX0_enter_197 : decode cX0_enter 197 = .ok (.iload_n 3, 1) := by decide +kernel
theorem dX0_enter_198 : decode cX0_enter 198 = .ok (.iadd, 1) := by decide +kernel
theorem dX0_enter_199 : decode cX0_enter 199 = .ok (.dup2, 1) := by decide +kernel
theorem dX0_enter_200 : decode cX0_enter 200 = .ok (.iaload, 1) := by decide +kernel
theorem dX0_enter_201 : decode cX0_enter 201 = .ok (.iload 4, 2) := by decide +kernel
theorem dX0_enter_203 : decode cX0_enter 203 = .ok (.iadd, 1) := by decide +kernel
theorem dX0_enter_204 : decode cX0_enter 204 = .ok (.iastore, 1) := by decide +kernel
theorem dX0_enter_205 : decode cX0_enter 205 = .ok (.return_, 1) := by decide +kernel
abbrev cX0_remove : ByteArray := prog_1_method_3_code
def yX0_remove : MethodName := ⟨RX0, "remove", "(III)I"⟩
theorem dX0_remove_0 : decode cX0_remove 0 = .ok (.iload_n 1, 1) := by decide +kernel
theorem dX0_remove_1 : decode cX0_remove 1 = .ok (.invokestatic 40, 3) := by decide +kernel
theorem dX0_remove_4 : decode cX0_remove 4 = .ok (.ifCond .eq 35, 3) := by decide +kernel
theorem dX0_remove_7 : decode cX0_remove 7 = .ok (.iload_n 2, 1) := by decide +kernel
theorem dX0_remove_8 : decode cX0_remove 8 = .ok (.invokestatic 40, 3) := by decide +kernel
theorem dX0_remove_11 : decode cX0_remove 11 = .ok (.ifCond .eq 28, 3) := by decide +kernel
theorem dX0_remove_14 : decode cX0_remove 14 = .ok (.iload_n 3, 1) := by decide +kernel
theorem dX0_remove_15 : decode cX0_remove 15 = .ok (.invokestatic 40, 3) := by decide +kernel
theorem dX0_remove_18 : decode cX0_remove 18 = .ok (.ifCond .eq 21, 3) := by decide +kernel
theorem dX0_remove_21 : decode cX0_remove 21 = .ok (.aload_n 0, 1) := by decide +kernel
theorem dX0_remove_22 : decode cX0_remove 22 = .ok (.getfield 7, 3) := by decide +kernel
theorem dX0_remove_25 : decode cX0_remove 25 = .ok (.bipush 8, 2) := by decide +kernel
theorem dX0_remove_27 : decode cX0_remove 27 = .ok (.iload_n 1, 1) := by decide +kernel
theorem dX0_remove_28 : decode cX0_remove 28 = .ok (.imul, 1) := by decide +kernel
theorem dX0_remove_29 : decode cX0_remove 29 = .ok (.iload_n 2, 1) := by decide +kernel
theorem dX0_remove_30 : decode cX0_remove 30 = .ok (.iadd, 1) := by decide +kernel
theorem dX0_remove_31 : decode cX0_remove 31 = .ok (.iaload, 1) := by decide +kernel
theorem dX0_remove_32 : decode cX0_remove 32 = .ok (.iload_n 3, 1) := by decide +kernel
theorem dX0_remove_33 : decode cX0_remove 33 = .ok (.iushr, 1) := by decide +kernel
theorem dX0_remove_34 : decode cX0_remove 34 = .ok (.iconst 1, 1) := by decide +kernel
theorem dX0_remove_35 : decode cX0_remove 35 = .ok (.iand, 1) := by decide +kernel
theorem dX0_remove_36 : decode cX0_remove 36 = .ok (.ifCond .ne 5, 3) := by decide +kernel
theorem dX0_remove_39 : decode cX0_remove 39 = .ok (.iconst (-1), 1) := by decide +kernel
theorem dX0_remove_40 : decode cX0_remove 40 = .ok (.ireturn, 1) := by decide +kernel
theorem dX0_remove_41 : decode cX0_remove 41 = .ok (.aload_n 0, 1) := by decide +kernel
theorem dX0_remove_42 : decode cX0_remove 42 = .ok (.iload_n 1, 1) := by decide +kernel
theorem dX0_remove_43 : decode cX0_remove 43 = .ok (.iload_n 2, 1) := by decide +kernel
theorem dX0_remove_44 : decode cX0_remove 44 = .ok (.iload_n 3, 1) := by decide +kernel
theorem dX0_remove_45 : decode cX0_remove 45 = .ok (.iconst (-1), 1) := by decide +kernel
theorem dX0_remove_46 : decode cX0_remove 46 = .ok (.invokevirtual 48, 3) := by decide +kernel
theorem dX0_remove_49 : decode cX0_remove 49 = .ok (.aload_n 0, 1) := by decide +kernel
theorem dX0_remove_50 : decode cX0_remove 50 = .ok (.dup, 1) := by decide +kernel
theorem dX0_remove_51 : decode cX0_remove 51 = .ok (.getfield 44, 3) := by decide +kernel
theorem dX0_remove_54 : decode cX0_remove 54 = .ok (.iconst 1, 1) := by decide +kernel
theorem dX0_remove_55 : decode cX0_remove 55 = .ok (.isub, 1) := by decide +kernel
theorem dX0_remove_56 : decode cX0_remove 56 = .ok (.putfield 44, 3) := by decide +kernel
theorem dX0_remove_59 : decode cX0_remove 59 = .ok (.aload_n 0, 1) := by decide +kernel
theorem dX0_remove_60 : decode cX0_remove 60 = .ok (.getfield 44, 3) := by decide +kernel
theorem dX0_remove_63 : decode cX0_remove 63 = .ok (.ireturn, 1) := by decide +kernel
abbrev cX0_pattern : ByteArray := prog_1_method_7_code
def yX0_pattern : MethodName := ⟨RX0, "pattern", "(III)I"⟩
theorem dX0_pattern_0 : decode cX0_pattern 0 = .ok (.iload_n 1, 1) := by decide +kernel
theorem dX0_pattern_1 : decode cX0_pattern 1 = .ok (.bipush (-4), 2) := by decide +kernel
theorem dX0_pattern_3 : decode cX0_pattern 3 = .ok (.if_icmp .lt 41, 3) := by decide +kernel
theorem dX0_pattern_6 : decode cX0_pattern 6 = .ok (.iload_n 1, 1) := by decide +kernel
theorem dX0_pattern_7 : decode cX0_pattern 7 = .ok (.bipush 7, 2) := by decide +kernel
theorem dX0_pattern_9 : decode cX0_pattern 9 = .ok (.if_icmp .gt 35, 3) := by decide +kernel
theorem dX0_pattern_12 : decode cX0_pattern 12 = .ok (.iload_n 2, 1) := by decide +kernel
theorem dX0_pattern_13 : decode cX0_pattern 13 = .ok (.bipush (-4), 2) := by decide +kernel
theorem dX0_pattern_15 : decode cX0_pattern 15 = .ok (.if_icmp .lt 29, 3) := by decide +kernel
theorem dX0_pattern_18 : decode cX0_pattern 18 = .ok (.iload_n 2, 1) := by decide +kernel
theorem dX0_pattern_19 : decode cX0_pattern 19 = .ok (.bipush 7, 2) := by decide +kernel
theorem dX0_pattern_21 : decode cX0_pattern 21 = .ok (.if_icmp .gt 23, 3) := by decide +kernel
theorem dX0_pattern_24 : decode cX0_pattern 24 = .ok (.iload_n 3, 1) := by decide +kernel
theorem dX0_pattern_25 : decode cX0_pattern 25 = .ok (.bipush (-4), 2) := by decide +kernel
theorem dX0_pattern_27 : decode cX0_pattern 27 = .ok (.if_icmp .lt 17, 3) := by decide +kernel
theorem dX0_pattern_30 : decode cX0_pattern 30 = .ok (.iload_n 3, 1) := by decide +kernel
theorem dX0_pattern_31 : decode cX0_pattern 31 = .ok (.bipush 7, 2) := by decide +kernel
theorem dX0_pattern_33 : decode cX0_pattern 33 = .ok (.if_icmp .gt 11, 3) := by decide +kernel
theorem dX0_pattern_36 : decode cX0_pattern 36 = .ok (.aload_n 0, 1) := by decide +kernel
theorem dX0_pattern_37 : decode cX0_pattern 37 = .ok (.getfield 52, 3) := by decide +kernel
theorem dX0_pattern_40 : decode cX0_pattern 40 = .ok (.iconst 4, 1) := by decide +kernel
theorem dX0_pattern_41 : decode cX0_pattern 41 = .ok (.if_icmp .lt 5, 3) := by decide +kernel
theorem dX0_pattern_44 : decode cX0_pattern 44 = .ok (.iconst (-1), 1) := by decide +kernel
theorem dX0_pattern_45 : decode cX0_pattern 45 = .ok (.ireturn, 1) := by decide +kernel
theorem dX0_pattern_46 : decode cX0_pattern 46 = .ok (.aload_n 0, 1) := by decide +kernel
theorem dX0_pattern_47 : decode cX0_pattern 47 = .ok (.getfield 25, 3) := by decide +kernel
theorem dX0_pattern_50 : decode cX0_pattern 50 = .ok (.iconst 3, 1) := by decide +kernel
theorem dX0_pattern_51 : decode cX0_pattern 51 = .ok (.aload_n 0, 1) := by decide +kernel
theorem dX0_pattern_52 : decode cX0_pattern 52 = .ok (.getfield 52, 3) := by decide +kernel
theorem dX0_pattern_55 : decode cX0_pattern 55 = .ok (.imul, 1) := by decide +kernel
theorem dX0_pattern_56 : decode cX0_pattern 56 = .ok (.iload_n 1, 1) := by decide +kernel
theorem dX0_pattern_57 : decode cX0_pattern 57 = .ok (.iastore, 1) := by decide +kernel
theorem dX0_pattern_58 : decode cX0_pattern 58 = .ok (.aload_n 0, 1) := by decide +kernel
theorem dX0_pattern_59 : decode cX0_pattern 59 = .ok (.getfield 25, 3) := by decide +kernel
theorem dX0_pattern_62 : decode cX0_pattern 62 = .ok (.iconst 3, 1) := by decide +kernel
theorem dX0_pattern_63 : decode cX0_pattern 63 = .ok (.aload_n 0, 1) := by decide +kernel
theorem dX0_pattern_64 : decode cX0_pattern 64 = .ok (.getfield 52, 3) := by decide +kernel
theorem dX0_pattern_67 : decode cX0_pattern 67 = .ok (.imul, 1) := by decide +kernel
theorem dX0_pattern_68 : decode cX0_pattern 68 = .ok (.iconst 1, 1) := by decide +kernel
theorem dX0_pattern_69 : decode cX0_pattern 69 = .ok (.iadd, 1) := by decide +kernel
theorem dX0_pattern_70 : decode cX0_pattern 70 = .ok (.iload_n 2, 1) := by decide +kernel
theorem dX0_pattern_71 : decode cX0_pattern 71 = .ok (.iastore, 1) := by decide +kernel
theorem dX0_pattern_72 : decode cX0_pattern 72 = .ok (.aload_n 0, 1) := by decide +kernel
theorem dX0_pattern_73 : decode cX0_pattern 73 = .ok (.getfield 25, 3) := by decide +kernel
theorem dX0_pattern_76 : decode cX0_pattern 76 = .ok (.iconst 3, 1) := by decide +kernel
theorem dX0_pattern_77 : decode cX0_pattern 77 = .ok (.aload_n 0, 1) := by decide +kernel
theorem dX0_pattern_78 : decode cX0_pattern 78 = .ok (.getfield 52, 3) := by decide +kernel
theorem dX0_pattern_81 : decode cX0_pattern 81 = .ok (.imul, 1) := by decide +kernel
theorem dX0_pattern_82 : decode cX0_pattern 82 = .ok (.iconst 2, 1) := by decide +kernel
theorem dX0_pattern_83 : decode cX0_pattern 83 = .ok (.iadd, 1) := by decide +kernel
theorem dX0_pattern_84 : decode cX0_pattern 84 = .ok (.iload_n 3, 1) := by decide +kernel
theorem dX0_pattern_85 : decode cX0_pattern 85 = .ok (.iastore, 1) := by decide +kernel
theorem dX0_pattern_86 : decode cX0_pattern 86 = .ok (.aload_n 0, 1) := by decide +kernel
theorem dX0_pattern_87 : decode cX0_pattern 87 = .ok (.dup, 1) := by decide +kernel
theorem dX0_pattern_88 : decode cX0_pattern 88 = .ok (.getfield 52, 3) := by decide +kernel
theorem dX0_pattern_91 : decode cX0_pattern 91 = .ok (.iconst 1, 1) := by decide +kernel
theorem dX0_pattern_92 : decode cX0_pattern 92 = .ok (.iadd, 1) := by decide +kernel
theorem dX0_pattern_93 : decode cX0_pattern 93 = .ok (.putfield 52, 3) := by decide +kernel
theorem dX0_pattern_96 : decode cX0_pattern 96 = .ok (.aload_n 0, 1) := by decide +kernel
theorem dX0_pattern_97 : decode cX0_pattern 97 = .ok (.getfield 52, 3) := by decide +kernel
theorem dX0_pattern_100 : decode cX0_pattern 100 = .ok (.ireturn, 1) := by decide +kernel
abbrev cX0_clear : ByteArray := prog_1_method_8_code
def yX0_clear : MethodName := ⟨RX0, "clear", "()V"⟩
theorem dX0_clear_0 : decode cX0_clear 0 = .ok (.aload_n 0, 1) := by decide +kernel
theorem dX0_clear_1 : decode cX0_clear 1 = .ok (.iconst 0, 1) := by decide +kernel
theorem dX0_clear_2 : decode cX0_clear 2 = .ok (.putfield 52, 3) := by decide +kernel
theorem dX0_clear_5 : decode cX0_clear 5 = .ok (.return_, 1) := by decide +kernel
abbrev cX0_solutions : ByteArray := prog_1_method_9_code
def yX0_solutions : MethodName := ⟨RX0, "solutions", "()I"⟩
theorem dX0_solutions_0 : decode cX0_solutions 0 = .ok (.aload_n 0, 1) := by decide +kernel
theorem dX0_solutions_1 : decode cX0_solutions 1 = .ok (.iconst (-1), 1) := by decide +kernel
theorem dX0_solutions_2 : decode cX0_solutions 2 = .ok (.invokevirtual 55, 3) := by decide +kernel
theorem dX0_solutions_5 : decode cX0_solutions 5 = .ok (.aload_n 0, 1) := by decide +kernel
theorem dX0_solutions_6 : decode cX0_solutions 6 = .ok (.getfield 59, 3) := by decide +kernel
theorem dX0_solutions_9 : decode cX0_solutions 9 = .ok (.ireturn, 1) := by decide +kernel
abbrev cX0_join : ByteArray := prog_1_method_16_code
def yX0_join : MethodName := ⟨RX0, "join", "(I)V"⟩
theorem dX0_join_0 : decode cX0_join 0 = .ok (.aload_n 0, 1) := by decide +kernel
theorem dX0_join_1 : decode cX0_join 1 = .ok (.invokevirtual 69, 3) := by decide +kernel
theorem dX0_join_4 : decode cX0_join 4 = .ok (.iconst 0, 1) := by decide +kernel
theorem dX0_join_5 : decode cX0_join 5 = .ok (.istore_n 2, 1) := by decide +kernel
theorem dX0_join_6 : decode cX0_join 6 = .ok (.aload_n 0, 1) := by decide +kernel
theorem dX0_join_7 : decode cX0_join 7 = .ok (.invokevirtual 72, 3) := by decide +kernel
theorem dX0_join_10 : decode cX0_join 10 = .ok (.istore_n 3, 1) := by decide +kernel
theorem dX0_join_11 : decode cX0_join 11 = .ok (.iload_n 3, 1) := by decide +kernel
theorem dX0_join_12 : decode cX0_join 12 = .ok (.ifCond .eq 26, 3) := by decide +kernel
theorem dX0_join_15 : decode cX0_join 15 = .ok (.aload_n 0, 1) := by decide +kernel
theorem dX0_join_16 : decode cX0_join 16 = .ok (.getfield 76, 3) := by decide +kernel
theorem dX0_join_19 : decode cX0_join 19 = .ok (.ifCond .le 19, 3) := by decide +kernel
theorem dX0_join_22 : decode cX0_join 22 = .ok (.aload_n 0, 1) := by decide +kernel
theorem dX0_join_23 : decode cX0_join 23 = .ok (.getfield 34, 3) := by decide +kernel
theorem dX0_join_26 : decode cX0_join 26 = .ok (.iconst 0, 1) := by decide +kernel
theorem dX0_join_27 : decode cX0_join 27 = .ok (.aload_n 0, 1) := by decide +kernel
theorem dX0_join_28 : decode cX0_join 28 = .ok (.aload_n 0, 1) := by decide +kernel
theorem dX0_join_29 : decode cX0_join 29 = .ok (.getfield 28, 3) := by decide +kernel
theorem dX0_join_32 : decode cX0_join 32 = .ok (.iconst 0, 1) := by decide +kernel
theorem dX0_join_33 : decode cX0_join 33 = .ok (.iaload, 1) := by decide +kernel
theorem dX0_join_34 : decode cX0_join 34 = .ok (.invokevirtual 79, 3) := by decide +kernel
theorem dX0_join_37 : decode cX0_join 37 = .ok (.iastore, 1) := by decide +kernel
theorem dX0_join_38 : decode cX0_join 38 = .ok (.iconst 0, 1) := by decide +kernel
theorem dX0_join_39 : decode cX0_join 39 = .ok (.istore 4, 2) := by decide +kernel
theorem dX0_join_41 : decode cX0_join 41 = .ok (.iload 4, 2) := by decide +kernel
theorem dX0_join_43 : decode cX0_join 43 = .ok (.sipush 10000, 3) := by decide +kernel
theorem dX0_join_46 : decode cX0_join 46 = .ok (.if_icmp .ge 178, 3) := by decide +kernel
theorem dX0_join_49 : decode cX0_join 49 = .ok (.iload_n 3, 1) := by decide +kernel
theorem dX0_join_50 : decode cX0_join 50 = .ok (.ifCond .eq 174, 3) := by decide +kernel
theorem dX0_join_53 : decode cX0_join 53 = .ok (.iload_n 2, 1) := by decide +kernel
theorem dX0_join_54 : decode cX0_join 54 = .ok (.aload_n 0, 1) := by decide +kernel
theorem dX0_join_55 : decode cX0_join 55 = .ok (.getfield 76, 3) := by decide +kernel
theorem dX0_join_58 : decode cX0_join 58 = .ok (.if_icmp .ne 45, 3) := by decide +kernel
theorem dX0_join_61 : decode cX0_join 61 = .ok (.aload_n 0, 1) := by decide +kernel
theorem dX0_join_62 : decode cX0_join 62 = .ok (.invokevirtual 82, 3) := by decide +kernel
theorem dX0_join_65 : decode cX0_join 65 = .ok (.aload_n 0, 1) := by decide +kernel
theorem dX0_join_66 : decode cX0_join 66 = .ok (.getfield 59, 3) := by decide +kernel
theorem dX0_join_69 : decode cX0_join 69 = .ok (.iload_n 1, 1) := by decide +kernel
theorem dX0_join_70 : decode cX0_join 70 = .ok (.if_icmp .le 7, 3) := by decide +kernel
theorem dX0_join_73 : decode cX0_join 73 = .ok (.iload_n 1, 1) := by decide +kernel
theorem dX0_join_74 : decode cX0_join 74 = .ok (.ifCond .ge 7, 3) := by decide +kernel
theorem dX0_join_77 : decode cX0_join 77 = .ok (.iconst 1, 1) := by decide +kernel
theorem dX0_join_78 : decode cX0_join 78 = .ok (.goto 4, 3) := by decide +kernel
theorem dX0_join_81 : decode cX0_join 81 = .ok (.iconst 0, 1) := by decide +kernel
theorem dX0_join_82 : decode cX0_join 82 = .ok (.istore_n 3, 1) := by decide +kernel
theorem dX0_join_83 : decode cX0_join 83 = .ok (.iinc 2 (-1), 3) := by decide +kernel
theorem dX0_join_86 : decode cX0_join 86 = .ok (.iload_n 3, 1) := by decide +kernel
theorem dX0_join_87 : decode cX0_join 87 = .ok (.ifCond .eq 11, 3) := by decide +kernel
theorem dX0_join_90 : decode cX0_join 90 = .ok (.iload_n 2, 1) := by decide +kernel
theorem dX0_join_91 : decode cX0_join 91 = .ok (.ifCond .lt 7, 3) := by decide +kernel
theorem dX0_join_94 : decode cX0_join 94 = .ok (.iconst 1, 1) := by decide +kernel
theorem dX0_join_95 : decode cX0_join 95 = .ok (.goto 4, 3) := by decide +kernel
theorem dX0_join_98 : decode cX0_join 98 = .ok (.iconst 0, 1) := by decide +kernel
theorem dX0_join_99 : decode cX0_join 99 = .ok (.istore_n 3, 1) := by decide +kernel
theorem dX0_join_100 : decode cX0_join 100 = .ok (.goto 118, 3) := by decide +kernel
theorem dX0_join_103 : decode cX0_join 103 = .ok (.aload_n 0, 1) := by decide +kernel
theorem dX0_join_104 : decode cX0_join 104 = .ok (.getfield 34, 3) := by decide +kernel
theorem dX0_join_107 : decode cX0_join 107 = .ok (.iload_n 2, 1) := by decide +kernel
theorem dX0_join_108 : decode cX0_join 108 = .ok (.iaload, 1) := by decide +kernel
theorem dX0_join_109 : decode cX0_join 109 = .ok (.ifCond .ne 31, 3) := by decide +kernel
theorem dX0_join_112 : decode cX0_join 112 = .ok (.aload_n 0, 1) := by decide +kernel
theorem dX0_join_113 : decode cX0_join 113 = .ok (.getfield 31, 3) := by decide +kernel
theorem dX0_join_116 : decode cX0_join 116 = .ok (.aload_n 0, 1) := by decide +kernel
theorem dX0_join_117 : decode cX0_join 117 = .ok (.getfield 28, 3) := by decide +kernel
theorem dX0_join_120 : decode cX0_join 120 = .ok (.iload_n 2, 1) := by decide +kernel
theorem dX0_join_121 : decode cX0_join 121 = .ok (.iaload, 1) := by decide +kernel
theorem dX0_join_122 : decode cX0_join 122 = .ok (.iconst (-1), 1) := by decide +kernel
theorem dX0_join_123 : decode cX0_join 123 = .ok (.iastore, 1) := by decide +kernel
theorem dX0_join_124 : decode cX0_join 124 = .ok (.iinc 2 (-1), 3) := by decide +kernel
theorem dX0_join_127 : decode cX0_join 127 = .ok (.iload_n 2, 1) := by decide +kernel
theorem dX0_join_128 : decode cX0_join 128 = .ok (.ifCond .lt 7, 3) := by decide +kernel
theorem dX0_join_131 : decode cX0_join 131 = .ok (.iconst 1, 1) := by decide +kernel
theorem dX0_join_132 : decode cX0_join 132 = .ok (.goto 4, 3) := by decide +kernel
theorem dX0_join_135 : decode cX0_join 135 = .ok (.iconst 0, 1) := by decide +kernel
theorem dX0_join_136 : decode cX0_join 136 = .ok (.istore_n 3, 1) := by decide +kernel
theorem dX0_join_137 : decode cX0_join 137 = .ok (.goto 81, 3) := by decide +kernel
theorem dX0_join_140 : decode cX0_join 140 = .ok (.aload_n 0, 1) := by decide +kernel
theorem dX0_join_141 : decode cX0_join 141 = .ok (.getfield 34, 3) := by decide +kernel
theorem dX0_join_144 : decode cX0_join 144 = .ok (.iload_n 2, 1) := by decide +kernel
theorem dX0_join_145 : decode cX0_join 145 = .ok (.iaload, 1) := by decide +kernel
theorem dX0_join_146 : decode cX0_join 146 = .ok (.invokestatic 85, 3) := by decide +kernel
theorem dX0_join_149 : decode cX0_join 149 = .ok (.istore 5, 2) := by decide +kernel
theorem dX0_join_151 : decode cX0_join 151 = .ok (.aload_n 0, 1) := by decide +kernel
theorem dX0_join_152 : decode cX0_join 152 = .ok (.getfield 34, 3) := by decide +kernel
theorem dX0_join_155 : decode cX0_join 155 = .ok (.iload_n 2, 1) := by decide +kernel
theorem dX0_join_156 : decode cX0_join 156 = .ok (.dup2, 1) := by decide +kernel
theorem dX0_join_157 : decode cX0_join 157 = .ok (.iaload, 1) := by decide +kernel
theorem dX0_join_158 : decode cX0_join 158 = .ok (.iconst 1, 1) := by decide +kernel
theorem dX0_join_159 : decode cX0_join 159 = .ok (.iload 5, 2) := by decide +kernel
theorem dX0_join_161 : decode cX0_join 161 = .ok (.ishl, 1) := by decide +kernel
theorem dX0_join_162 : decode cX0_join 162 = .ok (.iconst (-1), 1) := by decide +kernel
theorem dX0_join_163 : decode cX0_join 163 = .ok (.ixor, 1) := by decide +kernel
theorem dX0_join_164 : decode cX0_join 164 = .ok (.iand, 1) := by decide +kernel
theorem dX0_join_165 : decode cX0_join 165 = .ok (.iastore, 1) := by decide +kernel
theorem dX0_join_166 : decode cX0_join 166 = .ok (.aload_n 0, 1) := by decide +kernel
theorem dX0_join_167 : decode cX0_join 167 = .ok (.getfield 31, 3) := by decide +kernel
theorem dX0_join_170 : decode cX0_join 170 = .ok (.aload_n 0, 1) := by decide +kernel
theorem dX0_join_171 : decode cX0_join 171 = .ok (.getfield 28, 3) := by decide +kernel
theorem dX0_join_174 : decode cX0_join 174 = .ok (.iload_n 2, 1) := by decide +kernel
theorem dX0_join_175 : decode cX0_join 175 = .ok (.iaload, 1) := by decide +kernel
theorem dX0_join_176 : decode cX0_join 176 = .ok (.iload 5, 2) := by decide +kernel
theorem dX0_join_178 : decode cX0_join 178 = .ok (.iastore, 1) := by decide +kernel
theorem dX0_join_179 : decode cX0_join 179 = .ok (.iinc 2 1, 3) := by decide +kernel
theorem dX0_join_182 : decode cX0_join 182 = .ok (.iload_n 2, 1) := by decide +kernel
theorem dX0_join_183 : decode cX0_join 183 = .ok (.aload_n 0, 1) := by decide +kernel
theorem dX0_join_184 : decode cX0_join 184 = .ok (.getfield 76, 3) := by decide +kernel
theorem dX0_join_187 : decode cX0_join 187 = .ok (.if_icmp .ge 31, 3) := by decide +kernel
theorem dX0_join_190 : decode cX0_join 190 = .ok (.aload_n 0, 1) := by decide +kernel
theorem dX0_join_191 : decode cX0_join 191 = .ok (.getfield 31, 3) := by decide +kernel
theorem dX0_join_194 : decode cX0_join 194 = .ok (.aload_n 0, 1) := by decide +kernel
theorem dX0_join_195 : decode cX0_join 195 = .ok (.getfield 28, 3) := by decide +kernel
theorem dX0_join_198 : decode cX0_join 198 = .ok (.iload_n 2, 1) := by decide +kernel
theorem dX0_join_199 : decode cX0_join 199 = .ok (.iaload, 1) := by decide +kernel
theorem dX0_join_200 : decode cX0_join 200 = .ok (.iconst (-1), 1) := by decide +kernel
theorem dX0_join_201 : decode cX0_join 201 = .ok (.iastore, 1) := by decide +kernel
theorem dX0_join_202 : decode cX0_join 202 = .ok (.aload_n 0, 1) := by decide +kernel
theorem dX0_join_203 : decode cX0_join 203 = .ok (.getfield 34, 3) := by decide +kernel
theorem dX0_join_206 : decode cX0_join 206 = .ok (.iload_n 2, 1) := by decide +kernel
theorem dX0_join_207 : decode cX0_join 207 = .ok (.aload_n 0, 1) := by decide +kernel
theorem dX0_join_208 : decode cX0_join 208 = .ok (.aload_n 0, 1) := by decide +kernel
theorem dX0_join_209 : decode cX0_join 209 = .ok (.getfield 28, 3) := by decide +kernel
theorem dX0_join_212 : decode cX0_join 212 = .ok (.iload_n 2, 1) := by decide +kernel
theorem dX0_join_213 : decode cX0_join 213 = .ok (.iaload, 1) := by decide +kernel
theorem dX0_join_214 : decode cX0_join 214 = .ok (.invokevirtual 79, 3) := by decide +kernel
theorem dX0_join_217 : decode cX0_join 217 = .ok (.iastore, 1) := by decide +kernel
theorem dX0_join_218 : decode cX0_join 218 = .ok (.iinc 4 1, 3) := by decide +kernel
theorem dX0_join_221 : decode cX0_join 221 = .ok (.goto (-180), 3) := by decide +kernel
theorem dX0_join_224 : decode cX0_join 224 = .ok (.return_, 1) := by decide +kernel
end
section
set_option maxRecDepth 100000
abbrev cX0_prepare : ByteArray := prog_1_method_17_code
def yX0_prepare : MethodName := ⟨RX0, "prepare", "()V"⟩
theorem dX0_prepare_0 : decode cX0_prepare 0 = .ok (.aload_n 0, 1) := by decide +kernel
theorem dX0_prepare_1 : decode cX0_prepare 1 = .ok (.iconst 0, 1) := by decide +kernel
theorem dX0_prepare_2 : decode cX0_prepare 2 = .ok (.putfield 76, 3) := by decide +kernel
theorem dX0_prepare_5 : decode cX0_prepare 5 = .ok (.aload_n 0, 1) := by decide +kernel
theorem dX0_prepare_6 : decode cX0_prepare 6 = .ok (.iconst 0, 1) := by decide +kernel
theorem dX0_prepare_7 : decode cX0_prepare 7 = .ok (.putfield 59, 3) := by decide +kernel
theorem dX0_prepare_10 : decode cX0_prepare 10 = .ok (.iconst 0, 1) := by decide +kernel
theorem dX0_prepare_11 : decode cX0_prepare 11 = .ok (.istore_n 1, 1) := by decide +kernel
theorem dX0_prepare_12 : decode cX0_prepare 12 = .ok (.iload_n 1, 1) := by decide +kernel
theorem dX0_prepare_13 : decode cX0_prepare 13 = .ok (.iconst 4, 1) := by decide +kernel
theorem dX0_prepare_14 : decode cX0_prepare 14 = .ok (.if_icmp .ge 46, 3) := by decide +kernel
theorem dX0_prepare_17 : decode cX0_prepare 17 = .ok (.aload_n 0, 1) := by decide +kernel
theorem dX0_prepare_18 : decode cX0_prepare 18 = .ok (.getfield 31, 3) := by decide +kernel
theorem dX0_prepare_21 : decode cX0_prepare 21 = .ok (.iload_n 1, 1) := by decide +kernel
theorem dX0_prepare_22 : decode cX0_prepare 22 = .ok (.iconst (-1), 1) := by decide +kernel
theorem dX0_prepare_23 : decode cX0_prepare 23 = .ok (.iastore, 1) := by decide +kernel
theorem dX0_prepare_24 : decode cX0_prepare 24 = .ok (.aload_n 0, 1) := by decide +kernel
theorem dX0_prepare_25 : decode cX0_prepare 25 = .ok (.iconst (-1), 1) := by decide +kernel
theorem dX0_prepare_26 : decode cX0_prepare 26 = .ok (.iload_n 1, 1) := by decide +kernel
theorem dX0_prepare_27 : decode cX0_prepare 27 = .ok (.isub, 1) := by decide +kernel
theorem dX0_prepare_28 : decode cX0_prepare 28 = .ok (.invokevirtual 62, 3) := by decide +kernel
theorem dX0_prepare_31 : decode cX0_prepare 31 = .ok (.ifCond .eq 23, 3) := by decide +kernel
theorem dX0_prepare_34 : decode cX0_prepare 34 = .ok (.aload_n 0, 1) := by decide +kernel
theorem dX0_prepare_35 : decode cX0_prepare 35 = .ok (.getfield 28, 3) := by decide +kernel
theorem dX0_prepare_38 : decode cX0_prepare 38 = .ok (.aload_n 0, 1) := by decide +kernel
theorem dX0_prepare_39 : decode cX0_prepare 39 = .ok (.getfield 76, 3) := by decide +kernel
theorem dX0_prepare_42 : decode cX0_prepare 42 = .ok (.iload_n 1, 1) := by decide +kernel
theorem dX0_prepare_43 : decode cX0_prepare 43 = .ok (.iastore, 1) := by decide +kernel
theorem dX0_prepare_44 : decode cX0_prepare 44 = .ok (.aload_n 0, 1) := by decide +kernel
theorem dX0_prepare_45 : decode cX0_prepare 45 = .ok (.dup, 1) := by decide +kernel
theorem dX0_prepare_46 : decode cX0_prepare 46 = .ok (.getfield 76, 3) := by decide +kernel
theorem dX0_prepare_49 : decode cX0_prepare 49 = .ok (.iconst 1, 1) := by decide +kernel
theorem dX0_prepare_50 : decode cX0_prepare 50 = .ok (.iadd, 1) := by decide +kernel
theorem dX0_prepare_51 : decode cX0_prepare 51 = .ok (.putfield 76, 3) := by decide +kernel
theorem dX0_prepare_54 : decode cX0_prepare 54 = .ok (.iinc 1 1, 3) := by decide +kernel
theorem dX0_prepare_57 : decode cX0_prepare 57 = .ok (.goto (-45), 3) := by decide +kernel
theorem dX0_prepare_60 : decode cX0_prepare 60 = .ok (.iconst 0, 1) := by decide +kernel
theorem dX0_prepare_61 : decode cX0_prepare 61 = .ok (.istore_n 1, 1) := by decide +kernel
theorem dX0_prepare_62 : decode cX0_prepare 62 = .ok (.iload_n 1, 1) := by decide +kernel
theorem dX0_prepare_63 : decode cX0_prepare 63 = .ok (.bipush 32, 2) := by decide +kernel
theorem dX0_prepare_65 : decode cX0_prepare 65 = .ok (.if_icmp .ge 16, 3) := by decide +kernel
theorem dX0_prepare_68 : decode cX0_prepare 68 = .ok (.aload_n 0, 1) := by decide +kernel
theorem dX0_prepare_69 : decode cX0_prepare 69 = .ok (.getfield 37, 3) := by decide +kernel
theorem dX0_prepare_72 : decode cX0_prepare 72 = .ok (.iload_n 1, 1) := by decide +kernel
theorem dX0_prepare_73 : decode cX0_prepare 73 = .ok (.iconst 0, 1) := by decide +kernel
theorem dX0_prepare_74 : decode cX0_prepare 74 = .ok (.iastore, 1) := by decide +kernel
theorem dX0_prepare_75 : decode cX0_prepare 75 = .ok (.iinc 1 1, 3) := by decide +kernel
theorem dX0_prepare_78 : decode cX0_prepare 78 = .ok (.goto (-16), 3) := by decide +kernel
theorem dX0_prepare_81 : decode cX0_prepare 81 = .ok (.return_, 1) := by decide +kernel
abbrev cX0_stands : ByteArray := prog_1_method_15_code
def yX0_stands : MethodName := ⟨RX0, "stands", "(I)Z"⟩
theorem dX0_stands_0 : decode cX0_stands 0 = .ok (.iload_n 1, 1) := by decide +kernel
theorem dX0_stands_1 : decode cX0_stands 1 = .ok (.bipush (-4), 2) := by decide +kernel
theorem dX0_stands_3 : decode cX0_stands 3 = .ok (.if_icmp .lt 8, 3) := by decide +kernel
theorem dX0_stands_6 : decode cX0_stands 6 = .ok (.iload_n 1, 1) := by decide +kernel
theorem dX0_stands_7 : decode cX0_stands 7 = .ok (.iconst (-1), 1) := by decide +kernel
theorem dX0_stands_8 : decode cX0_stands 8 = .ok (.if_icmp .le 5, 3) := by decide +kernel
theorem dX0_stands_11 : decode cX0_stands 11 = .ok (.iconst 0, 1) := by decide +kernel
theorem dX0_stands_12 : decode cX0_stands 12 = .ok (.ireturn, 1) := by decide +kernel
theorem dX0_stands_13 : decode cX0_stands 13 = .ok (.iconst 0, 1) := by decide +kernel
theorem dX0_stands_14 : decode cX0_stands 14 = .ok (.istore_n 2, 1) := by decide +kernel
theorem dX0_stands_15 : decode cX0_stands 15 = .ok (.iload_n 2, 1) := by decide +kernel
theorem dX0_stands_16 : decode cX0_stands 16 = .ok (.iconst 3, 1) := by decide +kernel
theorem dX0_stands_17 : decode cX0_stands 17 = .ok (.aload_n 0, 1) := by decide +kernel
theorem dX0_stands_18 : decode cX0_stands 18 = .ok (.getfield 52, 3) := by decide +kernel
theorem dX0_stands_21 : decode cX0_stands 21 = .ok (.imul, 1) := by decide +kernel
theorem dX0_stands_22 : decode cX0_stands 22 = .ok (.if_icmp .ge 21, 3) := by decide +kernel
theorem dX0_stands_25 : decode cX0_stands 25 = .ok (.aload_n 0, 1) := by decide +kernel
theorem dX0_stands_26 : decode cX0_stands 26 = .ok (.getfield 25, 3) := by decide +kernel
theorem dX0_stands_29 : decode cX0_stands 29 = .ok (.iload_n 2, 1) := by decide +kernel
theorem dX0_stands_30 : decode cX0_stands 30 = .ok (.iaload, 1) := by decide +kernel
theorem dX0_stands_31 : decode cX0_stands 31 = .ok (.iload_n 1, 1) := by decide +kernel
theorem dX0_stands_32 : decode cX0_stands 32 = .ok (.if_icmp .ne 5, 3) := by decide +kernel
theorem dX0_stands_35 : decode cX0_stands 35 = .ok (.iconst 1, 1) := by decide +kernel
theorem dX0_stands_36 : decode cX0_stands 36 = .ok (.ireturn, 1) := by decide +kernel
theorem dX0_stands_37 : decode cX0_stands 37 = .ok (.iinc 2 1, 3) := by decide +kernel
theorem dX0_stands_40 : decode cX0_stands 40 = .ok (.goto (-25), 3) := by decide +kernel
theorem dX0_stands_43 : decode cX0_stands 43 = .ok (.iconst 0, 1) := by decide +kernel
theorem dX0_stands_44 : decode cX0_stands 44 = .ok (.ireturn, 1) := by decide +kernel
abbrev cX0_groundHolds : ByteArray := prog_1_method_20_code
def yX0_groundHolds : MethodName := ⟨RX0, "groundHolds", "()Z"⟩
theorem dX0_groundHolds_0 : decode cX0_groundHolds 0 = .ok (.iconst 0, 1) := by decide +kernel
theorem dX0_groundHolds_1 : decode cX0_groundHolds 1 = .ok (.istore_n 1, 1) := by decide +kernel
theorem dX0_groundHolds_2 : decode cX0_groundHolds 2 = .ok (.iload_n 1, 1) := by decide +kernel
theorem dX0_groundHolds_3 : decode cX0_groundHolds 3 = .ok (.aload_n 0, 1) := by decide +kernel
theorem dX0_groundHolds_4 : decode cX0_groundHolds 4 = .ok (.getfield 52, 3) := by decide +kernel
theorem dX0_groundHolds_7 : decode cX0_groundHolds 7 = .ok (.if_icmp .ge 101, 3) := by decide +kernel
theorem dX0_groundHolds_10 : decode cX0_groundHolds 10 = .ok (.aload_n 0, 1) := by decide +kernel
theorem dX0_groundHolds_11 : decode cX0_groundHolds 11 = .ok (.getfield 25, 3) := by decide +kernel
theorem dX0_groundHolds_14 : decode cX0_groundHolds 14 = .ok (.iconst 3, 1) := by decide +kernel
theorem dX0_groundHolds_15 : decode cX0_groundHolds 15 = .ok (.iload_n 1, 1) := by decide +kernel
theorem dX0_groundHolds_16 : decode cX0_groundHolds 16 = .ok (.imul, 1) := by decide +kernel
theorem dX0_groundHolds_17 : decode cX0_groundHolds 17 = .ok (.iaload, 1) := by decide +kernel
theorem dX0_groundHolds_18 : decode cX0_groundHolds 18 = .ok (.ifCond .lt 33, 3) := by decide +kernel
theorem dX0_groundHolds_21 : decode cX0_groundHolds 21 = .ok (.aload_n 0, 1) := by decide +kernel
theorem dX0_groundHolds_22 : decode cX0_groundHolds 22 = .ok (.getfield 25, 3) := by decide +kernel
theorem dX0_groundHolds_25 : decode cX0_groundHolds 25 = .ok (.iconst 3, 1) := by decide +kernel
theorem dX0_groundHolds_26 : decode cX0_groundHolds 26 = .ok (.iload_n 1, 1) := by decide +kernel
theorem dX0_groundHolds_27 : decode cX0_groundHolds 27 = .ok (.imul, 1) := by decide +kernel
theorem dX0_groundHolds_28 : decode cX0_groundHolds 28 = .ok (.iconst 1, 1) := by decide +kernel
theorem dX0_groundHolds_29 : decode cX0_groundHolds 29 = .ok (.iadd, 1) := by decide +kernel
theorem dX0_groundHolds_30 : decode cX0_groundHolds 30 = .ok (.iaload, 1) := by decide +kernel
theorem dX0_groundHolds_31 : decode cX0_groundHolds 31 = .ok (.ifCond .lt 20, 3) := by decide +kernel
theorem dX0_groundHolds_34 : decode cX0_groundHolds 34 = .ok (.aload_n 0, 1) := by decide +kernel
theorem dX0_groundHolds_35 : decode cX0_groundHolds 35 = .ok (.getfield 25, 3) := by decide +kernel
theorem dX0_groundHolds_38 : decode cX0_groundHolds 38 = .ok (.iconst 3, 1) := by decide +kernel
theorem dX0_groundHolds_39 : decode cX0_groundHolds 39 = .ok (.iload_n 1, 1) := by decide +kernel
theorem dX0_groundHolds_40 : decode cX0_groundHolds 40 = .ok (.imul, 1) := by decide +kernel
theorem dX0_groundHolds_41 : decode cX0_groundHolds 41 = .ok (.iconst 2, 1) := by decide +kernel
theorem dX0_groundHolds_42 : decode cX0_groundHolds 42 = .ok (.iadd, 1) := by decide +kernel
theorem dX0_groundHolds_43 : decode cX0_groundHolds 43 = .ok (.iaload, 1) := by decide +kernel
theorem dX0_groundHolds_44 : decode cX0_groundHolds 44 = .ok (.ifCond .lt 7, 3) := by decide +kernel
theorem dX0_groundHolds_47 : decode cX0_groundHolds 47 = .ok (.iconst 1, 1) := by decide +kernel
theorem dX0_groundHolds_48 : decode cX0_groundHolds 48 = .ok (.goto 4, 3) := by decide +kernel
theorem dX0_groundHolds_51 : decode cX0_groundHolds 51 = .ok (.iconst 0, 1) := by decide +kernel
theorem dX0_groundHolds_52 : decode cX0_groundHolds 52 = .ok (.istore_n 2, 1) := by decide +kernel
theorem dX0_groundHolds_53 : decode cX0_groundHolds 53 = .ok (.iload_n 2, 1) := by decide +kernel
theorem dX0_groundHolds_54 : decode cX0_groundHolds 54 = .ok (.ifCond .eq 48, 3) := by decide +kernel
theorem dX0_groundHolds_57 : decode cX0_groundHolds 57 = .ok (.aload_n 0, 1) := by decide +kernel
theorem dX0_groundHolds_58 : decode cX0_groundHolds 58 = .ok (.getfield 7, 3) := by decide +kernel
theorem dX0_groundHolds_61 : decode cX0_groundHolds 61 = .ok (.bipush 8, 2) := by decide +kernel
theorem dX0_groundHolds_63 : decode cX0_groundHolds 63 = .ok (.aload_n 0, 1) := by decide +kernel
theorem dX0_groundHolds_64 : decode cX0_groundHolds 64 = .ok (.getfield 25, 3) := by decide +kernel
theorem dX0_groundHolds_67 : decode cX0_groundHolds 67 = .ok (.iconst 3, 1) := by decide +kernel
theorem dX0_groundHolds_68 : decode cX0_groundHolds 68 = .ok (.iload_n 1, 1) := by decide +kernel
theorem dX0_groundHolds_69 : decode cX0_groundHolds 69 = .ok (.imul, 1) := by decide +kernel
theorem dX0_groundHolds_70 : decode cX0_groundHolds 70 = .ok (.iaload, 1) := by decide +kernel
theorem dX0_groundHolds_71 : decode cX0_groundHolds 71 = .ok (.imul, 1) := by decide +kernel
theorem dX0_groundHolds_72 : decode cX0_groundHolds 72 = .ok (.aload_n 0, 1) := by decide +kernel
theorem dX0_groundHolds_73 : decode cX0_groundHolds 73 = .ok (.getfield 25, 3) := by decide +kernel
theorem dX0_groundHolds_76 : decode cX0_groundHolds 76 = .ok (.iconst 3, 1) := by decide +kernel
theorem dX0_groundHolds_77 : decode cX0_groundHolds 77 = .ok (.iload_n 1, 1) := by decide +kernel
theorem dX0_groundHolds_78 : decode cX0_groundHolds 78 = .ok (.imul, 1) := by decide +kernel
theorem dX0_groundHolds_79 : decode cX0_groundHolds 79 = .ok (.iconst 1, 1) := by decide +kernel
theorem dX0_groundHolds_80 : decode cX0_groundHolds 80 = .ok (.iadd, 1) := by decide +kernel
theorem dX0_groundHolds_81 : decode cX0_groundHolds 81 = .ok (.iaload, 1) := by decide +kernel
theorem dX0_groundHolds_82 : decode cX0_groundHolds 82 = .ok (.iadd, 1) := by decide +kernel
theorem dX0_groundHolds_83 : decode cX0_groundHolds 83 = .ok (.iaload, 1) := by decide +kernel
theorem dX0_groundHolds_84 : decode cX0_groundHolds 84 = .ok (.aload_n 0, 1) := by decide +kernel
theorem dX0_groundHolds_85 : decode cX0_groundHolds 85 = .ok (.getfield 25, 3) := by decide +kernel
theorem dX0_groundHolds_88 : decode cX0_groundHolds 88 = .ok (.iconst 3, 1) := by decide +kernel
theorem dX0_groundHolds_89 : decode cX0_groundHolds 89 = .ok (.iload_n 1, 1) := by decide +kernel
theorem dX0_groundHolds_90 : decode cX0_groundHolds 90 = .ok (.imul, 1) := by decide +kernel
theorem dX0_groundHolds_91 : decode cX0_groundHolds 91 = .ok (.iconst 2, 1) := by decide +kernel
theorem dX0_groundHolds_92 : decode cX0_groundHolds 92 = .ok (.iadd, 1) := by decide +kernel
theorem dX0_groundHolds_93 : decode cX0_groundHolds 93 = .ok (.iaload, 1) := by decide +kernel
theorem dX0_groundHolds_94 : decode cX0_groundHolds 94 = .ok (.iushr, 1) := by decide +kernel
theorem dX0_groundHolds_95 : decode cX0_groundHolds 95 = .ok (.iconst 1, 1) := by decide +kernel
theorem dX0_groundHolds_96 : decode cX0_groundHolds 96 = .ok (.iand, 1) := by decide +kernel
theorem dX0_groundHolds_97 : decode cX0_groundHolds 97 = .ok (.ifCond .ne 5, 3) := by decide +kernel
theorem dX0_groundHolds_100 : decode cX0_groundHolds 100 = .ok (.iconst 0, 1) := by decide +kernel
theorem dX0_groundHolds_101 : decode cX0_groundHolds 101 = .ok (.ireturn, 1) := by decide +kernel
theorem dX0_groundHolds_102 : decode cX0_groundHolds 102 = .ok (.iinc 1 1, 3) := by decide +kernel
theorem dX0_groundHolds_105 : decode cX0_groundHolds 105 = .ok (.goto (-103), 3) := by decide +kernel
theorem dX0_groundHolds_108 : decode cX0_groundHolds 108 = .ok (.iconst 1, 1) := by decide +kernel
theorem dX0_groundHolds_109 : decode cX0_groundHolds 109 = .ok (.ireturn, 1) := by decide +kernel
abbrev cX0_allowed : ByteArray := prog_1_method_21_code
def yX0_allowed : MethodName := ⟨RX0, "allowed", "(I)I"⟩
theorem dX0_allowed_0 : decode cX0_allowed 0 = .ok (.sipush 255, 3) := by decide +kernel
theorem dX0_allowed_3 : decode cX0_allowed 3 = .ok (.istore_n 2, 1) := by decide +kernel
theorem dX0_allowed_4 : decode cX0_allowed 4 = .ok (.iconst 0, 1) := by decide +kernel
theorem dX0_allowed_5 : decode cX0_allowed 5 = .ok (.istore_n 3, 1) := by decide +kernel
theorem dX0_allowed_6 : decode cX0_allowed 6 = .ok (.iload_n 3, 1) := by decide +kernel
theorem dX0_allowed_7 : decode cX0_allowed 7 = .ok (.aload_n 0, 1) := by decide +kernel
theorem dX0_allowed_8 : decode cX0_allowed 8 = .ok (.getfield 52, 3) := by decide +kernel
theorem dX0_allowed_11 : decode cX0_allowed 11 = .ok (.if_icmp .ge 106, 3) := by decide +kernel
theorem dX0_allowed_14 : decode cX0_allowed 14 = .ok (.aload_n 0, 1) := by decide +kernel
theorem dX0_allowed_15 : decode cX0_allowed 15 = .ok (.getfield 25, 3) := by decide +kernel
theorem dX0_allowed_18 : decode cX0_allowed 18 = .ok (.iconst 3, 1) := by decide +kernel
theorem dX0_allowed_19 : decode cX0_allowed 19 = .ok (.iload_n 3, 1) := by decide +kernel
theorem dX0_allowed_20 : decode cX0_allowed 20 = .ok (.imul, 1) := by decide +kernel
theorem dX0_allowed_21 : decode cX0_allowed 21 = .ok (.iaload, 1) := by decide +kernel
theorem dX0_allowed_22 : decode cX0_allowed 22 = .ok (.istore 4, 2) := by decide +kernel
theorem dX0_allowed_24 : decode cX0_allowed 24 = .ok (.aload_n 0, 1) := by decide +kernel
theorem dX0_allowed_25 : decode cX0_allowed 25 = .ok (.getfield 25, 3) := by decide +kernel
theorem dX0_allowed_28 : decode cX0_allowed 28 = .ok (.iconst 3, 1) := by decide +kernel
theorem dX0_allowed_29 : decode cX0_allowed 29 = .ok (.iload_n 3, 1) := by decide +kernel
theorem dX0_allowed_30 : decode cX0_allowed 30 = .ok (.imul, 1) := by decide +kernel
theorem dX0_allowed_31 : decode cX0_allowed 31 = .ok (.iconst 1, 1) := by decide +kernel
theorem dX0_allowed_32 : decode cX0_allowed 32 = .ok (.iadd, 1) := by decide +kernel
theorem dX0_allowed_33 : decode cX0_allowed 33 = .ok (.iaload, 1) := by decide +kernel
theorem dX0_allowed_34 : decode cX0_allowed 34 = .ok (.istore 5, 2) := by decide +kernel
theorem dX0_allowed_36 : decode cX0_allowed 36 = .ok (.aload_n 0, 1) := by decide +kernel
theorem dX0_allowed_37 : decode cX0_allowed 37 = .ok (.getfield 25, 3) := by decide +kernel
theorem dX0_allowed_40 : decode cX0_allowed 40 = .ok (.iconst 3, 1) := by decide +kernel
theorem dX0_allowed_41 : decode cX0_allowed 41 = .ok (.iload_n 3, 1) := by decide +kernel
theorem dX0_allowed_42 : decode cX0_allowed 42 = .ok (.imul, 1) := by decide +kernel
theorem dX0_allowed_43 : decode cX0_allowed 43 = .ok (.iconst 2, 1) := by decide +kernel
theorem dX0_allowed_44 : decode cX0_allowed 44 = .ok (.iadd, 1) := by decide +kernel
theorem dX0_allowed_45 : decode cX0_allowed 45 = .ok (.iaload, 1) := by decide +kernel
theorem dX0_allowed_46 : decode cX0_allowed 46 = .ok (.istore 6, 2) := by decide +kernel
theorem dX0_allowed_48 : decode cX0_allowed 48 = .ok (.iload 4, 2) := by decide +kernel
theorem dX0_allowed_50 : decode cX0_allowed 50 = .ok (.iconst (-1), 1) := by decide +kernel
theorem dX0_allowed_51 : decode cX0_allowed 51 = .ok (.iload_n 1, 1) := by decide +kernel
theorem dX0_allowed_52 : decode cX0_allowed 52 = .ok (.isub, 1) := by decide +kernel
theorem dX0_allowed_53 : decode cX0_allowed 53 = .ok (.if_icmp .eq 19, 3) := by decide +kernel
theorem dX0_allowed_56 : decode cX0_allowed 56 = .ok (.iload 5, 2) := by decide +kernel
theorem dX0_allowed_58 : decode cX0_allowed 58 = .ok (.iconst (-1), 1) := by decide +kernel
theorem dX0_allowed_59 : decode cX0_allowed 59 = .ok (.iload_n 1, 1) := by decide +kernel
theorem dX0_allowed_60 : decode cX0_allowed 60 = .ok (.isub, 1) := by decide +kernel
theorem dX0_allowed_61 : decode cX0_allowed 61 = .ok (.if_icmp .eq 11, 3) := by decide +kernel
theorem dX0_allowed_64 : decode cX0_allowed 64 = .ok (.iload 6, 2) := by decide +kernel
theorem dX0_allowed_66 : decode cX0_allowed 66 = .ok (.iconst (-1), 1) := by decide +kernel
theorem dX0_allowed_67 : decode cX0_allowed 67 = .ok (.iload_n 1, 1) := by decide +kernel
theorem dX0_allowed_68 : decode cX0_allowed 68 = .ok (.isub, 1) := by decide +kernel
theorem dX0_allowed_69 : decode cX0_allowed 69 = .ok (.if_icmp .ne 42, 3) := by decide +kernel
theorem dX0_allowed_72 : decode cX0_allowed 72 = .ok (.aload_n 0, 1) := by decide +kernel
theorem dX0_allowed_73 : decode cX0_allowed 73 = .ok (.iload 4, 2) := by decide +kernel
theorem dX0_allowed_75 : decode cX0_allowed 75 = .ok (.invokevirtual 88, 3) := by decide +kernel
theorem dX0_allowed_78 : decode cX0_allowed 78 = .ok (.istore 7, 2) := by decide +kernel
theorem dX0_allowed_80 : decode cX0_allowed 80 = .ok (.aload_n 0, 1) := by decide +kernel
theorem dX0_allowed_81 : decode cX0_allowed 81 = .ok (.iload 5, 2) := by decide +kernel
theorem dX0_allowed_83 : decode cX0_allowed 83 = .ok (.invokevirtual 88, 3) := by decide +kernel
theorem dX0_allowed_86 : decode cX0_allowed 86 = .ok (.istore 8, 2) := by decide +kernel
theorem dX0_allowed_88 : decode cX0_allowed 88 = .ok (.aload_n 0, 1) := by decide +kernel
theorem dX0_allowed_89 : decode cX0_allowed 89 = .ok (.iload 6, 2) := by decide +kernel
theorem dX0_allowed_91 : decode cX0_allowed 91 = .ok (.invokevirtual 88, 3) := by decide +kernel
theorem dX0_allowed_94 : decode cX0_allowed 94 = .ok (.istore 9, 2) := by decide +kernel
theorem dX0_allowed_96 : decode cX0_allowed 96 = .ok (.iload_n 2, 1) := by decide +kernel
theorem dX0_allowed_97 : decode cX0_allowed 97 = .ok (.aload_n 0, 1) := by decide +kernel
theorem dX0_allowed_98 : decode cX0_allowed 98 = .ok (.iload 7, 2) := by decide +kernel
theorem dX0_allowed_100 : decode cX0_allowed 100 = .ok (.iload 8, 2) := by decide +kernel
theorem dX0_allowed_102 : decode cX0_allowed 102 = .ok (.iload 9, 2) := by decide +kernel
theorem dX0_allowed_104 : decode cX0_allowed 104 = .ok (.iload_n 1, 1) := by decide +kernel
theorem dX0_allowed_105 : decode cX0_allowed 105 = .ok (.iload_n 3, 1) := by decide +kernel
theorem dX0_allowed_106 : decode cX0_allowed 106 = .ok (.invokevirtual 91, 3) := by decide +kernel
theorem dX0_allowed_109 : decode cX0_allowed 109 = .ok (.iand, 1) := by decide +kernel
theorem dX0_allowed_110 : decode cX0_allowed 110 = .ok (.istore_n 2, 1) := by decide +kernel
theorem dX0_allowed_111 : decode cX0_allowed 111 = .ok (.iinc 3 1, 3) := by decide +kernel
theorem dX0_allowed_114 : decode cX0_allowed 114 = .ok (.goto (-108), 3) := by decide +kernel
theorem dX0_allowed_117 : decode cX0_allowed 117 = .ok (.iload_n 2, 1) := by decide +kernel
theorem dX0_allowed_118 : decode cX0_allowed 118 = .ok (.ireturn, 1) := by decide +kernel
abbrev cX0_known : ByteArray := prog_1_method_22_code
def yX0_known : MethodName := ⟨RX0, "known", "(I)I"⟩
theorem dX0_known_0 : decode cX0_known 0 = .ok (.iload_n 1, 1) := by decide +kernel
theorem dX0_known_1 : decode cX0_known 1 = .ok (.ifCond .lt 7, 3) := by decide +kernel
theorem dX0_known_4 : decode cX0_known 4 = .ok (.iload_n 1, 1) := by decide +kernel
theorem dX0_known_5 : decode cX0_known 5 = .ok (.goto 11, 3) := by decide +kernel
theorem dX0_known_8 : decode cX0_known 8 = .ok (.aload_n 0, 1) := by decide +kernel
theorem dX0_known_9 : decode cX0_known 9 = .ok (.getfield 31, 3) := by decide +kernel
theorem dX0_known_12 : decode cX0_known 12 = .ok (.iconst (-1), 1) := by decide +kernel
theorem dX0_known_13 : decode cX0_known 13 = .ok (.iload_n 1, 1) := by decide +kernel
theorem dX0_known_14 : decode cX0_known 14 = .ok (.isub, 1) := by decide +kernel
theorem dX0_known_15 : decode cX0_known 15 = .ok (.iaload, 1) := by decide +kernel
theorem dX0_known_16 : decode cX0_known 16 = .ok (.ireturn, 1) := by decide +kernel
abbrev cX0_allowedBy : ByteArray := prog_1_method_23_code
def yX0_allowedBy : MethodName := ⟨RX0, "allowedBy", "(IIIII)I"⟩
theorem dX0_allowedBy_0 : decode cX0_allowedBy 0 = .ok (.iconst 3, 1) := by decide +kernel
theorem dX0_allowedBy_1 : decode cX0_allowedBy 1 = .ok (.iload 5, 2) := by decide +kernel
theorem dX0_allowedBy_3 : decode cX0_allowedBy 3 = .ok (.imul, 1) := by decide +kernel
theorem dX0_allowedBy_4 : decode cX0_allowedBy 4 = .ok (.istore 6, 2) := by decide +kernel
theorem dX0_allowedBy_6 : decode cX0_allowedBy 6 = .ok (.aload_n 0, 1) := by decide +kernel
theorem dX0_allowedBy_7 : decode cX0_allowedBy 7 = .ok (.getfield 25, 3) := by decide +kernel
theorem dX0_allowedBy_10 : decode cX0_allowedBy 10 = .ok (.iload 6, 2) := by decide +kernel
theorem dX0_allowedBy_12 : decode cX0_allowedBy 12 = .ok (.iaload, 1) := by decide +kernel
theorem dX0_allowedBy_13 : decode cX0_allowedBy 13 = .ok (.iconst (-1), 1) := by decide +kernel
theorem dX0_allowedBy_14 : decode cX0_allowedBy 14 = .ok (.iload 4, 2) := by decide +kernel
theorem dX0_allowedBy_16 : decode cX0_allowedBy 16 = .ok (.isub, 1) := by decide +kernel
theorem dX0_allowedBy_17 : decode cX0_allowedBy 17 = .ok (.if_icmp .ne 7, 3) := by decide +kernel
theorem dX0_allowedBy_20 : decode cX0_allowedBy 20 = .ok (.iconst 1, 1) := by decide +kernel
theorem dX0_allowedBy_21 : decode cX0_allowedBy 21 = .ok (.goto 4, 3) := by decide +kernel
theorem dX0_allowedBy_24 : decode cX0_allowedBy 24 = .ok (.iconst 0, 1) := by decide +kernel
theorem dX0_allowedBy_25 : decode cX0_allowedBy 25 = .ok (.aload_n 0, 1) := by decide +kernel
theorem dX0_allowedBy_26 : decode cX0_allowedBy 26 = .ok (.getfield 25, 3) := by decide +kernel
theorem dX0_allowedBy_29 : decode cX0_allowedBy 29 = .ok (.iload 6, 2) := by decide +kernel
theorem dX0_allowedBy_31 : decode cX0_allowedBy 31 = .ok (.iconst 1, 1) := by decide +kernel
theorem dX0_allowedBy_32 : decode cX0_allowedBy 32 = .ok (.iadd, 1) := by decide +kernel
theorem dX0_allowedBy_33 : decode cX0_allowedBy 33 = .ok (.iaload, 1) := by decide +kernel
theorem dX0_allowedBy_34 : decode cX0_allowedBy 34 = .ok (.iconst (-1), 1) := by decide +kernel
theorem dX0_allowedBy_35 : decode cX0_allowedBy 35 = .ok (.iload 4, 2) := by decide +kernel
theorem dX0_allowedBy_37 : decode cX0_allowedBy 37 = .ok (.isub, 1) := by decide +kernel
theorem dX0_allowedBy_38 : decode cX0_allowedBy 38 = .ok (.if_icmp .ne 7, 3) := by decide +kernel
theorem dX0_allowedBy_41 : decode cX0_allowedBy 41 = .ok (.iconst 1, 1) := by decide +kernel
theorem dX0_allowedBy_42 : decode cX0_allowedBy 42 = .ok (.goto 4, 3) := by decide +kernel
theorem dX0_allowedBy_45 : decode cX0_allowedBy 45 = .ok (.iconst 0, 1) := by decide +kernel
theorem dX0_allowedBy_46 : decode cX0_allowedBy 46 = .ok (.iadd, 1) := by decide +kernel
theorem dX0_allowedBy_47 : decode cX0_allowedBy 47 = .ok (.aload_n 0, 1) := by decide +kernel
theorem dX0_allowedBy_48 : decode cX0_allowedBy 48 = .ok (.getfield 25, 3) := by decide +kernel
theorem dX0_allowedBy_51 : decode cX0_allowedBy 51 = .ok (.iload 6, 2) := by decide +kernel
theorem dX0_allowedBy_53 : decode cX0_allowedBy 53 = .ok (.iconst 2, 1) := by decide +kernel
theorem dX0_allowedBy_54 : decode cX0_allowedBy 54 = .ok (.iadd, 1) := by decide +kernel
theorem dX0_allowedBy_55 : decode cX0_allowedBy 55 = .ok (.iaload, 1) := by decide +kernel
theorem dX0_allowedBy_56 : decode cX0_allowedBy 56 = .ok (.iconst (-1), 1) := by decide +kernel
theorem dX0_allowedBy_57 : decode cX0_allowedBy 57 = .ok (.iload 4, 2) := by decide +kernel
theorem dX0_allowedBy_59 : decode cX0_allowedBy 59 = .ok (.isub, 1) := by decide +kernel
theorem dX0_allowedBy_60 : decode cX0_allowedBy 60 = .ok (.if_icmp .ne 7, 3) := by decide +kernel
theorem dX0_allowedBy_63 : decode cX0_allowedBy 63 = .ok (.iconst 1, 1) := by decide +kernel
theorem dX0_allowedBy_64 : decode cX0_allowedBy 64 = .ok (.goto 4, 3) := by decide +kernel
theorem dX0_allowedBy_67 : decode cX0_allowedBy 67 = .ok (.iconst 0, 1) := by decide +kernel
theorem dX0_allowedBy_68 : decode cX0_allowedBy 68 = .ok (.iadd, 1) := by decide +kernel
theorem dX0_allowedBy_69 : decode cX0_allowedBy 69 = .ok (.istore 7, 2) := by decide +kernel
theorem dX0_allowedBy_71 : decode cX0_allowedBy 71 = .ok (.iload 7, 2) := by decide +kernel
theorem dX0_allowedBy_73 : decode cX0_allowedBy 73 = .ok (.iconst 1, 1) := by decide +kernel
theorem dX0_allowedBy_74 : decode cX0_allowedBy 74 = .ok (.if_icmp .le 15, 3) := by decide +kernel
theorem dX0_allowedBy_77 : decode cX0_allowedBy 77 = .ok (.aload_n 0, 1) := by decide +kernel
theorem dX0_allowedBy_78 : decode cX0_allowedBy 78 = .ok (.iload_n 1, 1) := by decide +kernel
theorem dX0_allowedBy_79 : decode cX0_allowedBy 79 = .ok (.iload_n 2, 1) := by decide +kernel
theorem dX0_allowedBy_80 : decode cX0_allowedBy 80 = .ok (.iload_n 3, 1) := by decide +kernel
theorem dX0_allowedBy_81 : decode cX0_allowedBy 81 = .ok (.iload 4, 2) := by decide +kernel
theorem dX0_allowedBy_83 : decode cX0_allowedBy 83 = .ok (.iload 6, 2) := by decide +kernel
theorem dX0_allowedBy_85 : decode cX0_allowedBy 85 = .ok (.invokevirtual 95, 3) := by decide +kernel
theorem dX0_allowedBy_88 : decode cX0_allowedBy 88 = .ok (.ireturn, 1) := by decide +kernel
theorem dX0_allowedBy_89 : decode cX0_allowedBy 89 = .ok (.aload_n 0, 1) := by decide +kernel
theorem dX0_allowedBy_90 : decode cX0_allowedBy 90 = .ok (.getfield 25, 3) := by decide +kernel
theorem dX0_allowedBy_93 : decode cX0_allowedBy 93 = .ok (.iload 6, 2) := by decide +kernel
theorem dX0_allowedBy_95 : decode cX0_allowedBy 95 = .ok (.iaload, 1) := by decide +kernel
theorem dX0_allowedBy_96 : decode cX0_allowedBy 96 = .ok (.iconst (-1), 1) := by decide +kernel
theorem dX0_allowedBy_97 : decode cX0_allowedBy 97 = .ok (.iload 4, 2) := by decide +kernel
theorem dX0_allowedBy_99 : decode cX0_allowedBy 99 = .ok (.isub, 1) := by decide +kernel
theorem dX0_allowedBy_100 : decode cX0_allowedBy 100 = .ok (.if_icmp .ne 57, 3) := by decide +kernel
theorem dX0_allowedBy_103 : decode cX0_allowedBy 103 = .ok (.iload_n 2, 1) := by decide +kernel
theorem dX0_allowedBy_104 : decode cX0_allowedBy 104 = .ok (.ifCond .lt 21, 3) := by decide +kernel
theorem dX0_allowedBy_107 : decode cX0_allowedBy 107 = .ok (.iload_n 3, 1) := by decide +kernel
theorem dX0_allowedBy_108 : decode cX0_allowedBy 108 = .ok (.ifCond .lt 17, 3) := by decide +kernel
theorem dX0_allowedBy_111 : decode cX0_allowedBy 111 = .ok (.aload_n 0, 1) := by decide +kernel
theorem dX0_allowedBy_112 : decode cX0_allowedBy 112 = .ok (.getfield 16, 3) := by decide +kernel
theorem dX0_allowedBy_115 : decode cX0_allowedBy 115 = .ok (.bipush 8, 2) := by decide +kernel
theorem dX0_allowedBy_117 : decode cX0_allowedBy 117 = .ok (.iload_n 2, 1) := by decide +kernel
theorem dX0_allowedBy_118 : decode cX0_allowedBy 118 = .ok (.imul, 1) := by decide +kernel
theorem dX0_allowedBy_119 : decode cX0_allowedBy 119 = .ok (.iload_n 3, 1) := by decide +kernel
theorem dX0_allowedBy_120 : decode cX0_allowedBy 120 = .ok (.iadd, 1) := by decide +kernel
theorem dX0_allowedBy_121 : decode cX0_allowedBy 121 = .ok (.iaload, 1) := by decide +kernel
theorem dX0_allowedBy_122 : decode cX0_allowedBy 122 = .ok (.goto 34, 3) := by decide +kernel
theorem dX0_allowedBy_125 : decode cX0_allowedBy 125 = .ok (.iload_n 2, 1) := by decide +kernel
theorem dX0_allowedBy_126 : decode cX0_allowedBy 126 = .ok (.ifCond .lt 12, 3) := by decide +kernel
theorem dX0_allowedBy_129 : decode cX0_allowedBy 129 = .ok (.aload_n 0, 1) := by decide +kernel
theorem dX0_allowedBy_130 : decode cX0_allowedBy 130 = .ok (.iconst 2, 1) := by decide +kernel
theorem dX0_allowedBy_131 : decode cX0_allowedBy 131 = .ok (.iload_n 2, 1) := by decide +kernel
theorem dX0_allowedBy_132 : decode cX0_allowedBy 132 = .ok (.invokevirtual 98, 3) := by decide +kernel
theorem dX0_allowedBy_135 : decode cX0_allowedBy 135 = .ok (.goto 21, 3) := by decide +kernel
theorem dX0_allowedBy_138 : decode cX0_allowedBy 138 = .ok (.iload_n 3, 1) := by decide +kernel
theorem dX0_allowedBy_139 : decode cX0_allowedBy 139 = .ok (.ifCond .lt 12, 3) := by decide +kernel
theorem dX0_allowedBy_142 : decode cX0_allowedBy 142 = .ok (.aload_n 0, 1) := by decide +kernel
theorem dX0_allowedBy_143 : decode cX0_allowedBy 143 = .ok (.iconst 4, 1) := by decide +kernel
theorem dX0_allowedBy_144 : decode cX0_allowedBy 144 = .ok (.iload_n 3, 1) := by decide +kernel
theorem dX0_allowedBy_145 : decode cX0_allowedBy 145 = .ok (.invokevirtual 98, 3) := by decide +kernel
theorem dX0_allowedBy_148 : decode cX0_allowedBy 148 = .ok (.goto 8, 3) := by decide +kernel
theorem dX0_allowedBy_151 : decode cX0_allowedBy 151 = .ok (.aload_n 0, 1) := by decide +kernel
theorem dX0_allowedBy_152 : decode cX0_allowedBy 152 = .ok (.iconst 0, 1) := by decide +kernel
theorem dX0_allowedBy_153 : decode cX0_allowedBy 153 = .ok (.invokevirtual 102, 3) := by decide +kernel
theorem dX0_allowedBy_156 : decode cX0_allowedBy 156 = .ok (.ireturn, 1) := by decide +kernel
theorem dX0_allowedBy_157 : decode cX0_allowedBy 157 = .ok (.aload_n 0, 1) := by decide +kernel
theorem dX0_allowedBy_158 : decode cX0_allowedBy 158 = .ok (.getfield 25, 3) := by decide +kernel
theorem dX0_allowedBy_161 : decode cX0_allowedBy 161 = .ok (.iload 6, 2) := by decide +kernel
theorem dX0_allowedBy_163 : decode cX0_allowedBy 163 = .ok (.iconst 1, 1) := by decide +kernel
theorem dX0_allowedBy_164 : decode cX0_allowedBy 164 = .ok (.iadd, 1) := by decide +kernel
theorem dX0_allowedBy_165 : decode cX0_allowedBy 165 = .ok (.iaload, 1) := by decide +kernel
theorem dX0_allowedBy_166 : decode cX0_allowedBy 166 = .ok (.iconst (-1), 1) := by decide +kernel
theorem dX0_allowedBy_167 : decode cX0_allowedBy 167 = .ok (.iload 4, 2) := by decide +kernel
theorem dX0_allowedBy_169 : decode cX0_allowedBy 169 = .ok (.isub, 1) := by decide +kernel
theorem dX0_allowedBy_170 : decode cX0_allowedBy 170 = .ok (.if_icmp .ne 57, 3) := by decide +kernel
theorem dX0_allowedBy_173 : decode cX0_allowedBy 173 = .ok (.iload_n 1, 1) := by decide +kernel
theorem dX0_allowedBy_174 : decode cX0_allowedBy 174 = .ok (.ifCond .lt 21, 3) := by decide +kernel
theorem dX0_allowedBy_177 : decode cX0_allowedBy 177 = .ok (.iload_n 3, 1) := by decide +kernel
theorem dX0_allowedBy_178 : decode cX0_allowedBy 178 = .ok (.ifCond .lt 17, 3) := by decide +kernel
theorem dX0_allowedBy_181 : decode cX0_allowedBy 181 = .ok (.aload_n 0, 1) := by decide +kernel
theorem dX0_allowedBy_182 : decode cX0_allowedBy 182 = .ok (.getfield 13, 3) := by decide +kernel
theorem dX0_allowedBy_185 : decode cX0_allowedBy 185 = .ok (.bipush 8, 2) := by decide +kernel
theorem dX0_allowedBy_187 : decode cX0_allowedBy 187 = .ok (.iload_n 1, 1) := by decide +kernel
theorem dX0_allowedBy_188 : decode cX0_allowedBy 188 = .ok (.imul, 1) := by decide +kernel
theorem dX0_allowedBy_189 : decode cX0_allowedBy 189 = .ok (.iload_n 3, 1) := by decide +kernel
theorem dX0_allowedBy_190 : decode cX0_allowedBy 190 = .ok (.iadd, 1) := by decide +kernel
theorem dX0_allowedBy_191 : decode cX0_allowedBy 191 = .ok (.iaload, 1) := by decide +kernel
theorem dX0_allowedBy_192 : decode cX0_allowedBy 192 = .ok (.goto 34, 3) := by decide +kernel
theorem dX0_allowedBy_195 : decode cX0_allowedBy 195 = .ok (.iload_n 1, 1) := by decide +kernel
theorem dX0_allowedBy_196 : decode cX0_allowedBy 196 = .ok (.ifCond .lt 12, 3) := by decide +kernel
theorem dX0_allowedBy_199 : decode cX0_allowedBy 199 = .ok (.aload_n 0, 1) := by decide +kernel
theorem dX0_allowedBy_200 : decode cX0_allowedBy 200 = .ok (.iconst 0, 1) := by decide +kernel
theorem dX0_allowedBy_201 : decode cX0_allowedBy 201 = .ok (.iload_n 1, 1) := by decide +kernel
theorem dX0_allowedBy_202 : decode cX0_allowedBy 202 = .ok (.invokevirtual 98, 3) := by decide +kernel
theorem dX0_allowedBy_205 : decode cX0_allowedBy 205 = .ok (.goto 21, 3) := by decide +kernel
theorem dX0_allowedBy_208 : decode cX0_allowedBy 208 = .ok (.iload_n 3, 1) := by decide +kernel
theorem dX0_allowedBy_209 : decode cX0_allowedBy 209 = .ok (.ifCond .lt 12, 3) := by decide +kernel
theorem dX0_allowedBy_212 : decode cX0_allowedBy 212 = .ok (.aload_n 0, 1) := by decide +kernel
theorem dX0_allowedBy_213 : decode cX0_allowedBy 213 = .ok (.iconst 5, 1) := by decide +kernel
theorem dX0_allowedBy_214 : decode cX0_allowedBy 214 = .ok (.iload_n 3, 1) := by decide +kernel
theorem dX0_allowedBy_215 : decode cX0_allowedBy 215 = .ok (.invokevirtual 98, 3) := by decide +kernel
theorem dX0_allowedBy_218 : decode cX0_allowedBy 218 = .ok (.goto 8, 3) := by decide +kernel
theorem dX0_allowedBy_221 : decode cX0_allowedBy 221 = .ok (.aload_n 0, 1) := by decide +kernel
theorem dX0_allowedBy_222 : decode cX0_allowedBy 222 = .ok (.iconst 1, 1) := by decide +kernel
theorem dX0_allowedBy_223 : decode cX0_allowedBy 223 = .ok (.invokevirtual 102, 3) := by decide +kernel
theorem dX0_allowedBy_226 : decode cX0_allowedBy 226 = .ok (.ireturn, 1) := by decide +kernel
theorem dX0_allowedBy_227 : decode cX0_allowedBy 227 = .ok (.iload_n 1, 1) := by decide +kernel
theorem dX0_allowedBy_228 : decode cX0_allowedBy 228 = .ok (.ifCond .lt 21, 3) := by decide +kernel
theorem dX0_allowedBy_231 : decode cX0_allowedBy 231 = .ok (.iload_n 2, 1) := by decide +kernel
theorem dX0_allowedBy_232 : decode cX0_allowedBy 232 = .ok (.ifCond .lt 17, 3) := by decide +kernel
theorem dX0_allowedBy_235 : decode cX0_allowedBy 235 = .ok (.aload_n 0, 1) := by decide +kernel
theorem dX0_allowedBy_236 : decode cX0_allowedBy 236 = .ok (.getfield 7, 3) := by decide +kernel
theorem dX0_allowedBy_239 : decode cX0_allowedBy 239 = .ok (.bipush 8, 2) := by decide +kernel
theorem dX0_allowedBy_241 : decode cX0_allowedBy 241 = .ok (.iload_n 1, 1) := by decide +kernel
theorem dX0_allowedBy_242 : decode cX0_allowedBy 242 = .ok (.imul, 1) := by decide +kernel
theorem dX0_allowedBy_243 : decode cX0_allowedBy 243 = .ok (.iload_n 2, 1) := by decide +kernel
theorem dX0_allowedBy_244 : decode cX0_allowedBy 244 = .ok (.iadd, 1) := by decide +kernel
theorem dX0_allowedBy_245 : decode cX0_allowedBy 245 = .ok (.iaload, 1) := by decide +kernel
theorem dX0_allowedBy_246 : decode cX0_allowedBy 246 = .ok (.goto 34, 3) := by decide +kernel
theorem dX0_allowedBy_249 : decode cX0_allowedBy 249 = .ok (.iload_n 1, 1) := by decide +kernel
theorem dX0_allowedBy_250 : decode cX0_allowedBy 250 = .ok (.ifCond .lt 12, 3) := by decide +kernel
theorem dX0_allowedBy_253 : decode cX0_allowedBy 253 = .ok (.aload_n 0, 1) := by decide +kernel
theorem dX0_allowedBy_254 : decode cX0_allowedBy 254 = .ok (.iconst 1, 1) := by decide +kernel
theorem dX0_allowedBy_255 : decode cX0_allowedBy 255 = .ok (.iload_n 1, 1) := by decide +kernel
theorem dX0_allowedBy_256 : decode cX0_allowedBy 256 = .ok (.invokevirtual 98, 3) := by decide +kernel
theorem dX0_allowedBy_259 : decode cX0_allowedBy 259 = .ok (.goto 21, 3) := by decide +kernel
theorem dX0_allowedBy_262 : decode cX0_allowedBy 262 = .ok (.iload_n 2, 1) := by decide +kernel
theorem dX0_allowedBy_263 : decode cX0_allowedBy 263 = .ok (.ifCond .lt 12, 3) := by decide +kernel
theorem dX0_allowedBy_266 : decode cX0_allowedBy 266 = .ok (.aload_n 0, 1) := by decide +kernel
theorem dX0_allowedBy_267 : decode cX0_allowedBy 267 = .ok (.iconst 3, 1) := by decide +kernel
theorem dX0_allowedBy_268 : decode cX0_allowedBy 268 = .ok (.iload_n 2, 1) := by decide +kernel
theorem dX0_allowedBy_269 : decode cX0_allowedBy 269 = .ok (.invokevirtual 98, 3) := by decide +kernel
theorem dX0_allowedBy_272 : decode cX0_allowedBy 272 = .ok (.goto 8, 3) := by decide +kernel
theorem dX0_allowedBy_275 : decode cX0_allowedBy 275 = .ok (.aload_n 0, 1) := by decide +kernel
theorem dX0_allowedBy_276 : decode cX0_allowedBy 276 = .ok (.iconst 2, 1) := by decide +kernel
theorem dX0_allowedBy_277 : decode cX0_allowedBy 277 = .ok (.invokevirtual 102, 3) := by decide +kernel
theorem dX0_allowedBy_280 : decode cX0_allowedBy 280 = .ok (.ireturn, 1) := by decide +kernel
abbrev cX0_allowedTwice : ByteArray := prog_1_method_24_code
def yX0_allowedTwice : MethodName := ⟨RX0, "allowedTwice", "(IIIII)I"⟩
theorem dX0_allowedTwice_0 : decode cX0_allowedTwice 0 = .ok (.iconst 0, 1) := by decide +kernel
theorem dX0_allowedTwice_1 : decode cX0_allowedTwice 1 = .ok (.istore 6, 2) := by decide +kernel
theorem dX0_allowedTwice_3 : decode cX0_allowedTwice 3 = .ok (.iconst 0, 1) := by decide +kernel
theorem dX0_allowedTwice_4 : decode cX0_allowedTwice 4 = .ok (.istore 7, 2) := by decide +kernel
theorem dX0_allowedTwice_6 : decode cX0_allowedTwice 6 = .ok (.iload 7, 2) := by decide +kernel
theorem dX0_allowedTwice_8 : decode cX0_allowedTwice 8 = .ok (.bipush 8, 2) := by decide +kernel
theorem dX0_allowedTwice_10 : decode cX0_allowedTwice 10 = .ok (.if_icmp .ge 97, 3) := by decide +kernel
theorem dX0_allowedTwice_13 : decode cX0_allowedTwice 13 = .ok (.aload_n 0, 1) := by decide +kernel
theorem dX0_allowedTwice_14 : decode cX0_allowedTwice 14 = .ok (.aload_n 0, 1) := by decide +kernel
theorem dX0_allowedTwice_15 : decode cX0_allowedTwice 15 = .ok (.getfield 25, 3) := by decide +kernel
theorem dX0_allowedTwice_18 : decode cX0_allowedTwice 18 = .ok (.iload 5, 2) := by decide +kernel
theorem dX0_allowedTwice_20 : decode cX0_allowedTwice 20 = .ok (.iaload, 1) := by decide +kernel
theorem dX0_allowedTwice_21 : decode cX0_allowedTwice 21 = .ok (.iconst (-1), 1) := by decide +kernel
theorem dX0_allowedTwice_22 : decode cX0_allowedTwice 22 = .ok (.iload 4, 2) := by decide +kernel
theorem dX0_allowedTwice_24 : decode cX0_allowedTwice 24 = .ok (.isub, 1) := by decide +kernel
theorem dX0_allowedTwice_25 : decode cX0_allowedTwice 25 = .ok (.if_icmp .ne 8, 3) := by decide +kernel
theorem dX0_allowedTwice_28 : decode cX0_allowedTwice 28 = .ok (.iload 7, 2) := by decide +kernel
theorem dX0_allowedTwice_30 : decode cX0_allowedTwice 30 = .ok (.goto 4, 3) := by decide +kernel
theorem dX0_allowedTwice_33 : decode cX0_allowedTwice 33 = .ok (.iload_n 1, 1) := by decide +kernel
theorem dX0_allowedTwice_34 : decode cX0_allowedTwice 34 = .ok (.aload_n 0, 1) := by decide +kernel
theorem dX0_allowedTwice_35 : decode cX0_allowedTwice 35 = .ok (.getfield 25, 3) := by decide +kernel
theorem dX0_allowedTwice_38 : decode cX0_allowedTwice 38 = .ok (.iload 5, 2) := by decide +kernel
theorem dX0_allowedTwice_40 : decode cX0_allowedTwice 40 = .ok (.iconst 1, 1) := by decide +kernel
theorem dX0_allowedTwice_41 : decode cX0_allowedTwice 41 = .ok (.iadd, 1) := by decide +kernel
theorem dX0_allowedTwice_42 : decode cX0_allowedTwice 42 = .ok (.iaload, 1) := by decide +kernel
theorem dX0_allowedTwice_43 : decode cX0_allowedTwice 43 = .ok (.iconst (-1), 1) := by decide +kernel
theorem dX0_allowedTwice_44 : decode cX0_allowedTwice 44 = .ok (.iload 4, 2) := by decide +kernel
theorem dX0_allowedTwice_46 : decode cX0_allowedTwice 46 = .ok (.isub, 1) := by decide +kernel
theorem dX0_allowedTwice_47 : decode cX0_allowedTwice 47 = .ok (.if_icmp .ne 8, 3) := by decide +kernel
theorem dX0_allowedTwice_50 : decode cX0_allowedTwice 50 = .ok (.iload 7, 2) := by decide +kernel
theorem dX0_allowedTwice_52 : decode cX0_allowedTwice 52 = .ok (.goto 4, 3) := by decide +kernel
theorem dX0_allowedTwice_55 : decode cX0_allowedTwice 55 = .ok (.iload_n 2, 1) := by decide +kernel
theorem dX0_allowedTwice_56 : decode cX0_allowedTwice 56 = .ok (.aload_n 0, 1) := by decide +kernel
theorem dX0_allowedTwice_57 : decode cX0_allowedTwice 57 = .ok (.getfield 25, 3) := by decide +kernel
theorem dX0_allowedTwice_60 : decode cX0_allowedTwice 60 = .ok (.iload 5, 2) := by decide +kernel
theorem dX0_allowedTwice_62 : decode cX0_allowedTwice 62 = .ok (.iconst 2, 1) := by decide +kernel
theorem dX0_allowedTwice_63 : decode cX0_allowedTwice 63 = .ok (.iadd, 1) := by decide +kernel
theorem dX0_allowedTwice_64 : decode cX0_allowedTwice 64 = .ok (.iaload, 1) := by decide +kernel
theorem dX0_allowedTwice_65 : decode cX0_allowedTwice 65 = .ok (.iconst (-1), 1) := by decide +kernel
theorem dX0_allowedTwice_66 : decode cX0_allowedTwice 66 = .ok (.iload 4, 2) := by decide +kernel
theorem dX0_allowedTwice_68 : decode cX0_allowedTwice 68 = .ok (.isub, 1) := by decide +kernel
theorem dX0_allowedTwice_69 : decode cX0_allowedTwice 69 = .ok (.if_icmp .ne 8, 3) := by decide +kernel
theorem dX0_allowedTwice_72 : decode cX0_allowedTwice 72 = .ok (.iload 7, 2) := by decide +kernel
theorem dX0_allowedTwice_74 : decode cX0_allowedTwice 74 = .ok (.goto 4, 3) := by decide +kernel
theorem dX0_allowedTwice_77 : decode cX0_allowedTwice 77 = .ok (.iload_n 3, 1) := by decide +kernel
theorem dX0_allowedTwice_78 : decode cX0_allowedTwice 78 = .ok (.invokevirtual 105, 3) := by decide +kernel
theorem dX0_allowedTwice_81 : decode cX0_allowedTwice 81 = .ok (.istore 8, 2) := by decide +kernel
theorem dX0_allowedTwice_83 : decode cX0_allowedTwice 83 = .ok (.iload 6, 2) := by decide +kernel
theorem dX0_allowedTwice_85 : decode cX0_allowedTwice 85 = .ok (.iload 8, 2) := by decide +kernel
theorem dX0_allowedTwice_87 : decode cX0_allowedTwice 87 = .ok (.ifCond .le 10, 3) := by decide +kernel
theorem dX0_allowedTwice_90 : decode cX0_allowedTwice 90 = .ok (.iconst 1, 1) := by decide +kernel
theorem dX0_allowedTwice_91 : decode cX0_allowedTwice 91 = .ok (.iload 7, 2) := by decide +kernel
theorem dX0_allowedTwice_93 : decode cX0_allowedTwice 93 = .ok (.ishl, 1) := by decide +kernel
theorem dX0_allowedTwice_94 : decode cX0_allowedTwice 94 = .ok (.goto 4, 3) := by decide +kernel
theorem dX0_allowedTwice_97 : decode cX0_allowedTwice 97 = .ok (.iconst 0, 1) := by decide +kernel
theorem dX0_allowedTwice_98 : decode cX0_allowedTwice 98 = .ok (.ior, 1) := by decide +kernel
theorem dX0_allowedTwice_99 : decode cX0_allowedTwice 99 = .ok (.istore 6, 2) := by decide +kernel
theorem dX0_allowedTwice_101 : decode cX0_allowedTwice 101 = .ok (.iinc 7 1, 3) := by decide +kernel
theorem dX0_allowedTwice_104 : decode cX0_allowedTwice 104 = .ok (.goto (-98), 3) := by decide +kernel
theorem dX0_allowedTwice_107 : decode cX0_allowedTwice 107 = .ok (.iload 6, 2) := by decide +kernel
theorem dX0_allowedTwice_109 : decode cX0_allowedTwice 109 = .ok (.ireturn, 1) := by decide +kernel
end
section
set_option maxRecDepth 100000
abbrev cX0_count : ByteArray := prog_1_method_13_code
def yX0_count : MethodName := ⟨RX0, "count", "(III)I"⟩
theorem dX0_count_0 : decode cX0_count 0 = .ok (.iload_n 1, 1) := by decide +kernel
theorem dX0_count_1 : decode cX0_count 1 = .ok (.invokestatic 40, 3) := by decide +kernel
theorem dX0_count_4 : decode cX0_count 4 = .ok (.istore 4, 2) := by decide +kernel
theorem dX0_count_6 : decode cX0_count 6 = .ok (.iload_n 2, 1) := by decide +kernel
theorem dX0_count_7 : decode cX0_count 7 = .ok (.invokestatic 40, 3) := by decide +kernel
theorem dX0_count_10 : decode cX0_count 10 = .ok (.istore 5, 2) := by decide +kernel
theorem dX0_count_12 : decode cX0_count 12 = .ok (.iload_n 3, 1) := by decide +kernel
theorem dX0_count_13 : decode cX0_count 13 = .ok (.invokestatic 40, 3) := by decide +kernel
theorem dX0_count_16 : decode cX0_count 16 = .ok (.istore 6, 2) := by decide +kernel
theorem dX0_count_18 : decode cX0_count 18 = .ok (.iload 4, 2) := by decide +kernel
theorem dX0_count_20 : decode cX0_count 20 = .ok (.ifCond .eq 7, 3) := by decide +kernel
theorem dX0_count_23 : decode cX0_count 23 = .ok (.iconst 1, 1) := by decide +kernel
theorem dX0_count_24 : decode cX0_count 24 = .ok (.goto 4, 3) := by decide +kernel
theorem dX0_count_27 : decode cX0_count 27 = .ok (.iconst 0, 1) := by decide +kernel
theorem dX0_count_28 : decode cX0_count 28 = .ok (.iload 5, 2) := by decide +kernel
theorem dX0_count_30 : decode cX0_count 30 = .ok (.ifCond .eq 7, 3) := by decide +kernel
theorem dX0_count_33 : decode cX0_count 33 = .ok (.iconst 1, 1) := by decide +kernel
theorem dX0_count_34 : decode cX0_count 34 = .ok (.goto 4, 3) := by decide +kernel
theorem dX0_count_37 : decode cX0_count 37 = .ok (.iconst 0, 1) := by decide +kernel
theorem dX0_count_38 : decode cX0_count 38 = .ok (.iadd, 1) := by decide +kernel
theorem dX0_count_39 : decode cX0_count 39 = .ok (.iload 6, 2) := by decide +kernel
theorem dX0_count_41 : decode cX0_count 41 = .ok (.ifCond .eq 7, 3) := by decide +kernel
theorem dX0_count_44 : decode cX0_count 44 = .ok (.iconst 1, 1) := by decide +kernel
theorem dX0_count_45 : decode cX0_count 45 = .ok (.goto 4, 3) := by decide +kernel
theorem dX0_count_48 : decode cX0_count 48 = .ok (.iconst 0, 1) := by decide +kernel
theorem dX0_count_49 : decode cX0_count 49 = .ok (.iadd, 1) := by decide +kernel
theorem dX0_count_50 : decode cX0_count 50 = .ok (.istore 7, 2) := by decide +kernel
theorem dX0_count_52 : decode cX0_count 52 = .ok (.iload 7, 2) := by decide +kernel
theorem dX0_count_54 : decode cX0_count 54 = .ok (.iconst 3, 1) := by decide +kernel
theorem dX0_count_55 : decode cX0_count 55 = .ok (.if_icmp .ne 19, 3) := by decide +kernel
theorem dX0_count_58 : decode cX0_count 58 = .ok (.aload_n 0, 1) := by decide +kernel
theorem dX0_count_59 : decode cX0_count 59 = .ok (.getfield 7, 3) := by decide +kernel
theorem dX0_count_62 : decode cX0_count 62 = .ok (.bipush 8, 2) := by decide +kernel
theorem dX0_count_64 : decode cX0_count 64 = .ok (.iload_n 1, 1) := by decide +kernel
theorem dX0_count_65 : decode cX0_count 65 = .ok (.imul, 1) := by decide +kernel
theorem dX0_count_66 : decode cX0_count 66 = .ok (.iload_n 2, 1) := by decide +kernel
theorem dX0_count_67 : decode cX0_count 67 = .ok (.iadd, 1) := by decide +kernel
theorem dX0_count_68 : decode cX0_count 68 = .ok (.iaload, 1) := by decide +kernel
theorem dX0_count_69 : decode cX0_count 69 = .ok (.iload_n 3, 1) := by decide +kernel
theorem dX0_count_70 : decode cX0_count 70 = .ok (.iushr, 1) := by decide +kernel
theorem dX0_count_71 : decode cX0_count 71 = .ok (.iconst 1, 1) := by decide +kernel
theorem dX0_count_72 : decode cX0_count 72 = .ok (.iand, 1) := by decide +kernel
theorem dX0_count_73 : decode cX0_count 73 = .ok (.ireturn, 1) := by decide +kernel
theorem dX0_count_74 : decode cX0_count 74 = .ok (.iload 7, 2) := by decide +kernel
theorem dX0_count_76 : decode cX0_count 76 = .ok (.iconst 2, 1) := by decide +kernel
theorem dX0_count_77 : decode cX0_count 77 = .ok (.if_icmp .ne 56, 3) := by decide +kernel
theorem dX0_count_80 : decode cX0_count 80 = .ok (.iload 6, 2) := by decide +kernel
theorem dX0_count_82 : decode cX0_count 82 = .ok (.ifCond .ne 17, 3) := by decide +kernel
theorem dX0_count_85 : decode cX0_count 85 = .ok (.aload_n 0, 1) := by decide +kernel
theorem dX0_count_86 : decode cX0_count 86 = .ok (.getfield 7, 3) := by decide +kernel
theorem dX0_count_89 : decode cX0_count 89 = .ok (.bipush 8, 2) := by decide +kernel
theorem dX0_count_91 : decode cX0_count 91 = .ok (.iload_n 1, 1) := by decide +kernel
theorem dX0_count_92 : decode cX0_count 92 = .ok (.imul, 1) := by decide +kernel
theorem dX0_count_93 : decode cX0_count 93 = .ok (.iload_n 2, 1) := by decide +kernel
theorem dX0_count_94 : decode cX0_count 94 = .ok (.iadd, 1) := by decide +kernel
theorem dX0_count_95 : decode cX0_count 95 = .ok (.iaload, 1) := by decide +kernel
theorem dX0_count_96 : decode cX0_count 96 = .ok (.goto 33, 3) := by decide +kernel
theorem dX0_count_99 : decode cX0_count 99 = .ok (.iload 5, 2) := by decide +kernel
theorem dX0_count_101 : decode cX0_count 101 = .ok (.ifCond .ne 17, 3) := by decide +kernel
theorem dX0_count_104 : decode cX0_count 104 = .ok (.aload_n 0, 1) := by decide +kernel
theorem dX0_count_105 : decode cX0_count 105 = .ok (.getfield 13, 3) := by decide +kernel
theorem dX0_count_108 : decode cX0_count 108 = .ok (.bipush 8, 2) := by decide +kernel
theorem dX0_count_110 : decode cX0_count 110 = .ok (.iload_n 1, 1) := by decide +kernel
theorem dX0_count_111 : decode cX0_count 111 = .ok (.imul, 1) := by decide +kernel
theorem dX0_count_112 : decode cX0_count 112 = .ok (.iload_n 3, 1) := by decide +kernel
theorem dX0_count_113 : decode cX0_count 113 = .ok (.iadd, 1) := by decide +kernel
theorem dX0_count_114 : decode cX0_count 114 = .ok (.iaload, 1) := by decide +kernel
theorem dX0_count_115 : decode cX0_count 115 = .ok (.goto 14, 3) := by decide +kernel
theorem dX0_count_118 : decode cX0_count 118 = .ok (.aload_n 0, 1) := by decide +kernel
theorem dX0_count_119 : decode cX0_count 119 = .ok (.getfield 16, 3) := by decide +kernel
theorem dX0_count_122 : decode cX0_count 122 = .ok (.bipush 8, 2) := by decide +kernel
theorem dX0_count_124 : decode cX0_count 124 = .ok (.iload_n 2, 1) := by decide +kernel
theorem dX0_count_125 : decode cX0_count 125 = .ok (.imul, 1) := by decide +kernel
theorem dX0_count_126 : decode cX0_count 126 = .ok (.iload_n 3, 1) := by decide +kernel
theorem dX0_count_127 : decode cX0_count 127 = .ok (.iadd, 1) := by decide +kernel
theorem dX0_count_128 : decode cX0_count 128 = .ok (.iaload, 1) := by decide +kernel
theorem dX0_count_129 : decode cX0_count 129 = .ok (.invokestatic 65, 3) := by decide +kernel
theorem dX0_count_132 : decode cX0_count 132 = .ok (.ireturn, 1) := by decide +kernel
theorem dX0_count_133 : decode cX0_count 133 = .ok (.iload 7, 2) := by decide +kernel
theorem dX0_count_135 : decode cX0_count 135 = .ok (.iconst 1, 1) := by decide +kernel
theorem dX0_count_136 : decode cX0_count 136 = .ok (.if_icmp .ne 44, 3) := by decide +kernel
theorem dX0_count_139 : decode cX0_count 139 = .ok (.iload 4, 2) := by decide +kernel
theorem dX0_count_141 : decode cX0_count 141 = .ok (.ifCond .eq 12, 3) := by decide +kernel
theorem dX0_count_144 : decode cX0_count 144 = .ok (.aload_n 0, 1) := by decide +kernel
theorem dX0_count_145 : decode cX0_count 145 = .ok (.getfield 22, 3) := by decide +kernel
theorem dX0_count_148 : decode cX0_count 148 = .ok (.iload_n 1, 1) := by decide +kernel
theorem dX0_count_149 : decode cX0_count 149 = .ok (.iaload, 1) := by decide +kernel
theorem dX0_count_150 : decode cX0_count 150 = .ok (.goto 29, 3) := by decide +kernel
theorem dX0_count_153 : decode cX0_count 153 = .ok (.iload 5, 2) := by decide +kernel
theorem dX0_count_155 : decode cX0_count 155 = .ok (.ifCond .eq 15, 3) := by decide +kernel
theorem dX0_count_158 : decode cX0_count 158 = .ok (.aload_n 0, 1) := by decide +kernel
theorem dX0_count_159 : decode cX0_count 159 = .ok (.getfield 22, 3) := by decide +kernel
theorem dX0_count_162 : decode cX0_count 162 = .ok (.bipush 8, 2) := by decide +kernel
theorem dX0_count_164 : decode cX0_count 164 = .ok (.iload_n 2, 1) := by decide +kernel
theorem dX0_count_165 : decode cX0_count 165 = .ok (.iadd, 1) := by decide +kernel
theorem dX0_count_166 : decode cX0_count 166 = .ok (.iaload, 1) := by decide +kernel
theorem dX0_count_167 : decode cX0_count 167 = .ok (.goto 12, 3) := by decide +kernel
theorem dX0_count_170 : decode cX0_count 170 = .ok (.aload_n 0, 1) := by decide +kernel
theorem dX0_count_171 : decode cX0_count 171 = .ok (.getfield 22, 3) := by decide +kernel
theorem dX0_count_174 : decode cX0_count 174 = .ok (.bipush 16, 2) := by decide +kernel
theorem dX0_count_176 : decode cX0_count 176 = .ok (.iload_n 3, 1) := by decide +kernel
theorem dX0_count_177 : decode cX0_count 177 = .ok (.iadd, 1) := by decide +kernel
theorem dX0_count_178 : decode cX0_count 178 = .ok (.iaload, 1) := by decide +kernel
theorem dX0_count_179 : decode cX0_count 179 = .ok (.ireturn, 1) := by decide +kernel
theorem dX0_count_180 : decode cX0_count 180 = .ok (.aload_n 0, 1) := by decide +kernel
theorem dX0_count_181 : decode cX0_count 181 = .ok (.getfield 44, 3) := by decide +kernel
theorem dX0_count_184 : decode cX0_count 184 = .ok (.ireturn, 1) := by decide +kernel
abbrev cX0_ones : ByteArray := prog_1_method_5_code
def yX0_ones : MethodName := ⟨RX0, "ones", "(I)I"⟩
theorem dX0_ones_0 : decode cX0_ones 0 = .ok (.iconst 0, 1) := by decide +kernel
theorem dX0_ones_1 : decode cX0_ones 1 = .ok (.istore_n 1, 1) := by decide +kernel
theorem dX0_ones_2 : decode cX0_ones 2 = .ok (.iconst 0, 1) := by decide +kernel
theorem dX0_ones_3 : decode cX0_ones 3 = .ok (.istore_n 2, 1) := by decide +kernel
theorem dX0_ones_4 : decode cX0_ones 4 = .ok (.iload_n 2, 1) := by decide +kernel
theorem dX0_ones_5 : decode cX0_ones 5 = .ok (.bipush 8, 2) := by decide +kernel
theorem dX0_ones_7 : decode cX0_ones 7 = .ok (.if_icmp .ge 17, 3) := by decide +kernel
theorem dX0_ones_10 : decode cX0_ones 10 = .ok (.iload_n 1, 1) := by decide +kernel
theorem dX0_ones_11 : decode cX0_ones 11 = .ok (.iload_n 0, 1) := by decide +kernel
theorem dX0_ones_12 : decode cX0_ones 12 = .ok (.iload_n 2, 1) := by decide +kernel
theorem dX0_ones_13 : decode cX0_ones 13 = .ok (.iushr, 1) := by decide +kernel
theorem dX0_ones_14 : decode cX0_ones 14 = .ok (.iconst 1, 1) := by decide +kernel
theorem dX0_ones_15 : decode cX0_ones 15 = .ok (.iand, 1) := by decide +kernel
theorem dX0_ones_16 : decode cX0_ones 16 = .ok (.iadd, 1) := by decide +kernel
theorem dX0_ones_17 : decode cX0_ones 17 = .ok (.istore_n 1, 1) := by decide +kernel
theorem dX0_ones_18 : decode cX0_ones 18 = .ok (.iinc 2 1, 3) := by decide +kernel
theorem dX0_ones_21 : decode cX0_ones 21 = .ok (.goto (-17), 3) := by decide +kernel
theorem dX0_ones_24 : decode cX0_ones 24 = .ok (.iload_n 1, 1) := by decide +kernel
theorem dX0_ones_25 : decode cX0_ones 25 = .ok (.ireturn, 1) := by decide +kernel
abbrev cX0_ways : ByteArray := prog_1_method_25_code
def yX0_ways : MethodName := ⟨RX0, "ways", "(II)I"⟩
theorem dX0_ways_0 : decode cX0_ways 0 = .ok (.iconst 0, 1) := by decide +kernel
theorem dX0_ways_1 : decode cX0_ways 1 = .ok (.istore_n 3, 1) := by decide +kernel
theorem dX0_ways_2 : decode cX0_ways 2 = .ok (.iconst 0, 1) := by decide +kernel
theorem dX0_ways_3 : decode cX0_ways 3 = .ok (.istore 4, 2) := by decide +kernel
theorem dX0_ways_5 : decode cX0_ways 5 = .ok (.iload 4, 2) := by decide +kernel
theorem dX0_ways_7 : decode cX0_ways 7 = .ok (.bipush 8, 2) := by decide +kernel
theorem dX0_ways_9 : decode cX0_ways 9 = .ok (.if_icmp .ge 40, 3) := by decide +kernel
theorem dX0_ways_12 : decode cX0_ways 12 = .ok (.iload_n 3, 1) := by decide +kernel
theorem dX0_ways_13 : decode cX0_ways 13 = .ok (.aload_n 0, 1) := by decide +kernel
theorem dX0_ways_14 : decode cX0_ways 14 = .ok (.getfield 19, 3) := by decide +kernel
theorem dX0_ways_17 : decode cX0_ways 17 = .ok (.bipush 64, 2) := by decide +kernel
theorem dX0_ways_19 : decode cX0_ways 19 = .ok (.iload_n 1, 1) := by decide +kernel
theorem dX0_ways_20 : decode cX0_ways 20 = .ok (.imul, 1) := by decide +kernel
theorem dX0_ways_21 : decode cX0_ways 21 = .ok (.bipush 8, 2) := by decide +kernel
theorem dX0_ways_23 : decode cX0_ways 23 = .ok (.iload_n 2, 1) := by decide +kernel
theorem dX0_ways_24 : decode cX0_ways 24 = .ok (.imul, 1) := by decide +kernel
theorem dX0_ways_25 : decode cX0_ways 25 = .ok (.iadd, 1) := by decide +kernel
theorem dX0_ways_26 : decode cX0_ways 26 = .ok (.iload 4, 2) := by decide +kernel
theorem dX0_ways_28 : decode cX0_ways 28 = .ok (.iadd, 1) := by decide +kernel
theorem dX0_ways_29 : decode cX0_ways 29 = .ok (.iaload, 1) := by decide +kernel
theorem dX0_ways_30 : decode cX0_ways 30 = .ok (.ifCond .le 10, 3) := by decide +kernel
theorem dX0_ways_33 : decode cX0_ways 33 = .ok (.iconst 1, 1) := by decide +kernel
theorem dX0_ways_34 : decode cX0_ways 34 = .ok (.iload 4, 2) := by decide +kernel
theorem dX0_ways_36 : decode cX0_ways 36 = .ok (.ishl, 1) := by decide +kernel
theorem dX0_ways_37 : decode cX0_ways 37 = .ok (.goto 4, 3) := by decide +kernel
theorem dX0_ways_40 : decode cX0_ways 40 = .ok (.iconst 0, 1) := by decide +kernel
theorem dX0_ways_41 : decode cX0_ways 41 = .ok (.ior, 1) := by decide +kernel
theorem dX0_ways_42 : decode cX0_ways 42 = .ok (.istore_n 3, 1) := by decide +kernel
theorem dX0_ways_43 : decode cX0_ways 43 = .ok (.iinc 4 1, 3) := by decide +kernel
theorem dX0_ways_46 : decode cX0_ways 46 = .ok (.goto (-41), 3) := by decide +kernel
theorem dX0_ways_49 : decode cX0_ways 49 = .ok (.iload_n 3, 1) := by decide +kernel
theorem dX0_ways_50 : decode cX0_ways 50 = .ok (.ireturn, 1) := by decide +kernel
abbrev cX0_alone : ByteArray := prog_1_method_26_code
def yX0_alone : MethodName := ⟨RX0, "alone", "(I)I"⟩
theorem dX0_alone_0 : decode cX0_alone 0 = .ok (.iconst 0, 1) := by decide +kernel
theorem dX0_alone_1 : decode cX0_alone 1 = .ok (.istore_n 2, 1) := by decide +kernel
theorem dX0_alone_2 : decode cX0_alone 2 = .ok (.iconst 0, 1) := by decide +kernel
theorem dX0_alone_3 : decode cX0_alone 3 = .ok (.istore_n 3, 1) := by decide +kernel
theorem dX0_alone_4 : decode cX0_alone 4 = .ok (.iload_n 3, 1) := by decide +kernel
theorem dX0_alone_5 : decode cX0_alone 5 = .ok (.bipush 8, 2) := by decide +kernel
theorem dX0_alone_7 : decode cX0_alone 7 = .ok (.if_icmp .ge 33, 3) := by decide +kernel
theorem dX0_alone_10 : decode cX0_alone 10 = .ok (.iload_n 2, 1) := by decide +kernel
theorem dX0_alone_11 : decode cX0_alone 11 = .ok (.aload_n 0, 1) := by decide +kernel
theorem dX0_alone_12 : decode cX0_alone 12 = .ok (.getfield 22, 3) := by decide +kernel
theorem dX0_alone_15 : decode cX0_alone 15 = .ok (.bipush 8, 2) := by decide +kernel
theorem dX0_alone_17 : decode cX0_alone 17 = .ok (.iload_n 1, 1) := by decide +kernel
theorem dX0_alone_18 : decode cX0_alone 18 = .ok (.imul, 1) := by decide +kernel
theorem dX0_alone_19 : decode cX0_alone 19 = .ok (.iload_n 3, 1) := by decide +kernel
theorem dX0_alone_20 : decode cX0_alone 20 = .ok (.iadd, 1) := by decide +kernel
theorem dX0_alone_21 : decode cX0_alone 21 = .ok (.iaload, 1) := by decide +kernel
theorem dX0_alone_22 : decode cX0_alone 22 = .ok (.ifCond .le 9, 3) := by decide +kernel
theorem dX0_alone_25 : decode cX0_alone 25 = .ok (.iconst 1, 1) := by decide +kernel
theorem dX0_alone_26 : decode cX0_alone 26 = .ok (.iload_n 3, 1) := by decide +kernel
theorem dX0_alone_27 : decode cX0_alone 27 = .ok (.ishl, 1) := by decide +kernel
theorem dX0_alone_28 : decode cX0_alone 28 = .ok (.goto 4, 3) := by decide +kernel
theorem dX0_alone_31 : decode cX0_alone 31 = .ok (.iconst 0, 1) := by decide +kernel
theorem dX0_alone_32 : decode cX0_alone 32 = .ok (.ior, 1) := by decide +kernel
theorem dX0_alone_33 : decode cX0_alone 33 = .ok (.istore_n 2, 1) := by decide +kernel
theorem dX0_alone_34 : decode cX0_alone 34 = .ok (.iinc 3 1, 3) := by decide +kernel
theorem dX0_alone_37 : decode cX0_alone 37 = .ok (.goto (-33), 3) := by decide +kernel
theorem dX0_alone_40 : decode cX0_alone 40 = .ok (.iload_n 2, 1) := by decide +kernel
theorem dX0_alone_41 : decode cX0_alone 41 = .ok (.ireturn, 1) := by decide +kernel
abbrev cX0_countSolution : ByteArray := prog_1_method_18_code
def yX0_countSolution : MethodName := ⟨RX0, "countSolution", "()V"⟩
theorem dX0_countSolution_0 : decode cX0_countSolution 0 = .ok (.aload_n 0, 1) := by decide +kernel
theorem dX0_countSolution_1 : decode cX0_countSolution 1 = .ok (.dup, 1) := by decide +kernel
theorem dX0_countSolution_2 : decode cX0_countSolution 2 = .ok (.getfield 59, 3) := by decide +kernel
theorem dX0_countSolution_5 : decode cX0_countSolution 5 = .ok (.iconst 1, 1) := by decide +kernel
theorem dX0_countSolution_6 : decode cX0_countSolution 6 = .ok (.iadd, 1) := by decide +kernel
theorem dX0_countSolution_7 : decode cX0_countSolution 7 = .ok (.putfield 59, 3) := by decide +kernel
theorem dX0_countSolution_10 : decode cX0_countSolution 10 = .ok (.iconst 0, 1) := by decide +kernel
theorem dX0_countSolution_11 : decode cX0_countSolution 11 = .ok (.istore_n 1, 1) := by decide +kernel
theorem dX0_countSolution_12 : decode cX0_countSolution 12 = .ok (.iload_n 1, 1) := by decide +kernel
theorem dX0_countSolution_13 : decode cX0_countSolution 13 = .ok (.aload_n 0, 1) := by decide +kernel
theorem dX0_countSolution_14 : decode cX0_countSolution 14 = .ok (.getfield 76, 3) := by decide +kernel
theorem dX0_countSolution_17 : decode cX0_countSolution 17 = .ok (.if_icmp .ge 39, 3) := by decide +kernel
theorem dX0_countSolution_20 : decode cX0_countSolution 20 = .ok (.aload_n 0, 1) := by decide +kernel
theorem dX0_countSolution_21 : decode cX0_countSolution 21 = .ok (.getfield 37, 3) := by decide +kernel
theorem dX0_countSolution_24 : decode cX0_countSolution 24 = .ok (.bipush 8, 2) := by decide +kernel
theorem dX0_countSolution_26 : decode cX0_countSolution 26 = .ok (.aload_n 0, 1) := by decide +kernel
theorem dX0_countSolution_27 : decode cX0_countSolution 27 = .ok (.getfield 28, 3) := by decide +kernel
theorem dX0_countSolution_30 : decode cX0_countSolution 30 = .ok (.iload_n 1, 1) := by decide +kernel
theorem dX0_countSolution_31 : decode cX0_countSolution 31 = .ok (.iaload, 1) := by decide +kernel
theorem dX0_countSolution_32 : decode cX0_countSolution 32 = .ok (.imul, 1) := by decide +kernel
theorem dX0_countSolution_33 : decode cX0_countSolution 33 = .ok (.aload_n 0, 1) := by decide +kernel
theorem dX0_countSolution_34 : decode cX0_countSolution 34 = .ok (.getfield 31, 3) := by decide +kernel
theorem dX0_countSolution_37 : decode cX0_countSolution 37 = .ok (.aload_n 0, 1) := by decide +kernel
theorem dX0_countSolution_38 : decode cX0_countSolution 38 = .ok (.getfield 28, 3) := by decide +kernel
theorem dX0_countSolution_41 : decode cX0_countSolution 41 = .ok (.iload_n 1, 1) := by decide +kernel
theorem dX0_countSolution_42 : decode cX0_countSolution 42 = .ok (.iaload, 1) := by decide +kernel
theorem dX0_countSolution_43 : decode cX0_countSolution 43 = .ok (.iaload, 1) := by decide +kernel
theorem dX0_countSolution_44 : decode cX0_countSolution 44 = .ok (.iadd, 1) := by decide +kernel
theorem dX0_countSolution_45 : decode cX0_countSolution 45 = .ok (.dup2, 1) := by decide +kernel
theorem dX0_countSolution_46 : decode cX0_countSolution 46 = .ok (.iaload, 1) := by decide +kernel
theorem dX0_countSolution_47 : decode cX0_countSolution 47 = .ok (.iconst 1, 1) := by decide +kernel
theorem dX0_countSolution_48 : decode cX0_countSolution 48 = .ok (.iadd, 1) := by decide +kernel
theorem dX0_countSolution_49 : decode cX0_countSolution 49 = .ok (.iastore, 1) := by decide +kernel
theorem dX0_countSolution_50 : decode cX0_countSolution 50 = .ok (.iinc 1 1, 3) := by decide +kernel
theorem dX0_countSolution_53 : decode cX0_countSolution 53 = .ok (.goto (-41), 3) := by decide +kernel
theorem dX0_countSolution_56 : decode cX0_countSolution 56 = .ok (.return_, 1) := by decide +kernel
abbrev cX0_lowest : ByteArray := prog_1_method_19_code
def yX0_lowest : MethodName := ⟨RX0, "lowest", "(I)I"⟩
theorem dX0_lowest_0 : decode cX0_lowest 0 = .ok (.iconst 0, 1) := by decide +kernel
theorem dX0_lowest_1 : decode cX0_lowest 1 = .ok (.istore_n 1, 1) := by decide +kernel
theorem dX0_lowest_2 : decode cX0_lowest 2 = .ok (.iload_n 1, 1) := by decide +kernel
theorem dX0_lowest_3 : decode cX0_lowest 3 = .ok (.bipush 8, 2) := by decide +kernel
theorem dX0_lowest_5 : decode cX0_lowest 5 = .ok (.if_icmp .ge 19, 3) := by decide +kernel
theorem dX0_lowest_8 : decode cX0_lowest 8 = .ok (.iload_n 0, 1) := by decide +kernel
theorem dX0_lowest_9 : decode cX0_lowest 9 = .ok (.iload_n 1, 1) := by decide +kernel
theorem dX0_lowest_10 : decode cX0_lowest 10 = .ok (.iushr, 1) := by decide +kernel
theorem dX0_lowest_11 : decode cX0_lowest 11 = .ok (.iconst 1, 1) := by decide +kernel
theorem dX0_lowest_12 : decode cX0_lowest 12 = .ok (.iand, 1) := by decide +kernel
theorem dX0_lowest_13 : decode cX0_lowest 13 = .ok (.ifCond .eq 5, 3) := by decide +kernel
theorem dX0_lowest_16 : decode cX0_lowest 16 = .ok (.iload_n 1, 1) := by decide +kernel
theorem dX0_lowest_17 : decode cX0_lowest 17 = .ok (.ireturn, 1) := by decide +kernel
theorem dX0_lowest_18 : decode cX0_lowest 18 = .ok (.iinc 1 1, 3) := by decide +kernel
theorem dX0_lowest_21 : decode cX0_lowest 21 = .ok (.goto (-19), 3) := by decide +kernel
theorem dX0_lowest_24 : decode cX0_lowest 24 = .ok (.iconst 0, 1) := by decide +kernel
theorem dX0_lowest_25 : decode cX0_lowest 25 = .ok (.ireturn, 1) := by decide +kernel
abbrev cX0_solution : ByteArray := prog_1_method_10_code
def yX0_solution : MethodName := ⟨RX0, "solution", "(II)I"⟩
theorem dX0_solution_0 : decode cX0_solution 0 = .ok (.aload_n 0, 1) := by decide +kernel
theorem dX0_solution_1 : decode cX0_solution 1 = .ok (.iload_n 2, 1) := by decide +kernel
theorem dX0_solution_2 : decode cX0_solution 2 = .ok (.invokevirtual 62, 3) := by decide +kernel
theorem dX0_solution_5 : decode cX0_solution 5 = .ok (.ifCond .eq 7, 3) := by decide +kernel
theorem dX0_solution_8 : decode cX0_solution 8 = .ok (.iload_n 1, 1) := by decide +kernel
theorem dX0_solution_9 : decode cX0_solution 9 = .ok (.ifCond .ge 5, 3) := by decide +kernel
theorem dX0_solution_12 : decode cX0_solution 12 = .ok (.iconst (-1), 1) := by decide +kernel
theorem dX0_solution_13 : decode cX0_solution 13 = .ok (.ireturn, 1) := by decide +kernel
theorem dX0_solution_14 : decode cX0_solution 14 = .ok (.aload_n 0, 1) := by decide +kernel
theorem dX0_solution_15 : decode cX0_solution 15 = .ok (.iload_n 1, 1) := by decide +kernel
theorem dX0_solution_16 : decode cX0_solution 16 = .ok (.invokevirtual 55, 3) := by decide +kernel
theorem dX0_solution_19 : decode cX0_solution 19 = .ok (.aload_n 0, 1) := by decide +kernel
theorem dX0_solution_20 : decode cX0_solution 20 = .ok (.getfield 59, 3) := by decide +kernel
theorem dX0_solution_23 : decode cX0_solution 23 = .ok (.iload_n 1, 1) := by decide +kernel
theorem dX0_solution_24 : decode cX0_solution 24 = .ok (.if_icmp .le 14, 3) := by decide +kernel
theorem dX0_solution_27 : decode cX0_solution 27 = .ok (.aload_n 0, 1) := by decide +kernel
theorem dX0_solution_28 : decode cX0_solution 28 = .ok (.getfield 31, 3) := by decide +kernel
theorem dX0_solution_31 : decode cX0_solution 31 = .ok (.iconst (-1), 1) := by decide +kernel
theorem dX0_solution_32 : decode cX0_solution 32 = .ok (.iload_n 2, 1) := by decide +kernel
theorem dX0_solution_33 : decode cX0_solution 33 = .ok (.isub, 1) := by decide +kernel
theorem dX0_solution_34 : decode cX0_solution 34 = .ok (.iaload, 1) := by decide +kernel
theorem dX0_solution_35 : decode cX0_solution 35 = .ok (.goto 4, 3) := by decide +kernel
theorem dX0_solution_38 : decode cX0_solution 38 = .ok (.iconst (-1), 1) := by decide +kernel
theorem dX0_solution_39 : decode cX0_solution 39 = .ok (.ireturn, 1) := by decide +kernel
abbrev cX0_with : ByteArray := prog_1_method_11_code
def yX0_with : MethodName := ⟨RX0, "with", "(II)I"⟩
theorem dX0_with_0 : decode cX0_with 0 = .ok (.aload_n 0, 1) := by decide +kernel
theorem dX0_with_1 : decode cX0_with 1 = .ok (.iload_n 1, 1) := by decide +kernel
theorem dX0_with_2 : decode cX0_with 2 = .ok (.invokevirtual 62, 3) := by decide +kernel
theorem dX0_with_5 : decode cX0_with 5 = .ok (.ifCond .ne 5, 3) := by decide +kernel
theorem dX0_with_8 : decode cX0_with 8 = .ok (.iconst (-1), 1) := by decide +kernel
theorem dX0_with_9 : decode cX0_with 9 = .ok (.ireturn, 1) := by decide +kernel
theorem dX0_with_10 : decode cX0_with 10 = .ok (.aload_n 0, 1) := by decide +kernel
theorem dX0_with_11 : decode cX0_with 11 = .ok (.iconst (-1), 1) := by decide +kernel
theorem dX0_with_12 : decode cX0_with 12 = .ok (.invokevirtual 55, 3) := by decide +kernel
theorem dX0_with_15 : decode cX0_with 15 = .ok (.iload_n 2, 1) := by decide +kernel
theorem dX0_with_16 : decode cX0_with 16 = .ok (.invokestatic 40, 3) := by decide +kernel
theorem dX0_with_19 : decode cX0_with 19 = .ok (.ifCond .eq 19, 3) := by decide +kernel
theorem dX0_with_22 : decode cX0_with 22 = .ok (.aload_n 0, 1) := by decide +kernel
theorem dX0_with_23 : decode cX0_with 23 = .ok (.getfield 37, 3) := by decide +kernel
theorem dX0_with_26 : decode cX0_with 26 = .ok (.bipush 8, 2) := by decide +kernel
theorem dX0_with_28 : decode cX0_with 28 = .ok (.iconst (-1), 1) := by decide +kernel
theorem dX0_with_29 : decode cX0_with 29 = .ok (.iload_n 1, 1) := by decide +kernel
theorem dX0_with_30 : decode cX0_with 30 = .ok (.isub, 1) := by decide +kernel
theorem dX0_with_31 : decode cX0_with 31 = .ok (.imul, 1) := by decide +kernel
theorem dX0_with_32 : decode cX0_with 32 = .ok (.iload_n 2, 1) := by decide +kernel
theorem dX0_with_33 : decode cX0_with 33 = .ok (.iadd, 1) := by decide +kernel
theorem dX0_with_34 : decode cX0_with 34 = .ok (.iaload, 1) := by decide +kernel
theorem dX0_with_35 : decode cX0_with 35 = .ok (.goto 4, 3) := by decide +kernel
theorem dX0_with_38 : decode cX0_with 38 = .ok (.iconst 0, 1) := by decide +kernel
theorem dX0_with_39 : decode cX0_with 39 = .ok (.ireturn, 1) := by decide +kernel
abbrev cX0_values : ByteArray := prog_1_method_12_code
def yX0_values : MethodName := ⟨RX0, "values", "(I)I"⟩
theorem dX0_values_0 : decode cX0_values 0 = .ok (.aload_n 0, 1) := by decide +kernel
theorem dX0_values_1 : decode cX0_values 1 = .ok (.iload_n 1, 1) := by decide +kernel
theorem dX0_values_2 : decode cX0_values 2 = .ok (.invokevirtual 62, 3) := by decide +kernel
theorem dX0_values_5 : decode cX0_values 5 = .ok (.ifCond .ne 5, 3) := by decide +kernel
theorem dX0_values_8 : decode cX0_values 8 = .ok (.iconst (-1), 1) := by decide +kernel
theorem dX0_values_9 : decode cX0_values 9 = .ok (.ireturn, 1) := by decide +kernel
theorem dX0_values_10 : decode cX0_values 10 = .ok (.aload_n 0, 1) := by decide +kernel
theorem dX0_values_11 : decode cX0_values 11 = .ok (.iconst (-1), 1) := by decide +kernel
theorem dX0_values_12 : decode cX0_values 12 = .ok (.invokevirtual 55, 3) := by decide +kernel
theorem dX0_values_15 : decode cX0_values 15 = .ok (.iconst 0, 1) := by decide +kernel
theorem dX0_values_16 : decode cX0_values 16 = .ok (.istore_n 2, 1) := by decide +kernel
theorem dX0_values_17 : decode cX0_values 17 = .ok (.iconst 0, 1) := by decide +kernel
theorem dX0_values_18 : decode cX0_values 18 = .ok (.istore_n 3, 1) := by decide +kernel
theorem dX0_values_19 : decode cX0_values 19 = .ok (.iload_n 3, 1) := by decide +kernel
theorem dX0_values_20 : decode cX0_values 20 = .ok (.bipush 8, 2) := by decide +kernel
theorem dX0_values_22 : decode cX0_values 22 = .ok (.if_icmp .ge 33, 3) := by decide +kernel
theorem dX0_values_25 : decode cX0_values 25 = .ok (.iload_n 2, 1) := by decide +kernel
theorem dX0_values_26 : decode cX0_values 26 = .ok (.aload_n 0, 1) := by decide +kernel
theorem dX0_values_27 : decode cX0_values 27 = .ok (.getfield 37, 3) := by decide +kernel
theorem dX0_values_30 : decode cX0_values 30 = .ok (.bipush 8, 2) := by decide +kernel
theorem dX0_values_32 : decode cX0_values 32 = .ok (.iconst (-1), 1) := by decide +kernel
theorem dX0_values_33 : decode cX0_values 33 = .ok (.iload_n 1, 1) := by decide +kernel
theorem dX0_values_34 : decode cX0_values 34 = .ok (.isub, 1) := by decide +kernel
theorem dX0_values_35 : decode cX0_values 35 = .ok (.imul, 1) := by decide +kernel
theorem dX0_values_36 : decode cX0_values 36 = .ok (.iload_n 3, 1) := by decide +kernel
theorem dX0_values_37 : decode cX0_values 37 = .ok (.iadd, 1) := by decide +kernel
theorem dX0_values_38 : decode cX0_values 38 = .ok (.iaload, 1) := by decide +kernel
theorem dX0_values_39 : decode cX0_values 39 = .ok (.ifCond .le 7, 3) := by decide +kernel
theorem dX0_values_42 : decode cX0_values 42 = .ok (.iconst 1, 1) := by decide +kernel
theorem dX0_values_43 : decode cX0_values 43 = .ok (.goto 4, 3) := by decide +kernel
theorem dX0_values_46 : decode cX0_values 46 = .ok (.iconst 0, 1) := by decide +kernel
theorem dX0_values_47 : decode cX0_values 47 = .ok (.iadd, 1) := by decide +kernel
theorem dX0_values_48 : decode cX0_values 48 = .ok (.istore_n 2, 1) := by decide +kernel
theorem dX0_values_49 : decode cX0_values 49 = .ok (.iinc 3 1, 3) := by decide +kernel
theorem dX0_values_52 : decode cX0_values 52 = .ok (.goto (-33), 3) := by decide +kernel
theorem dX0_values_55 : decode cX0_values 55 = .ok (.iload_n 2, 1) := by decide +kernel
theorem dX0_values_56 : decode cX0_values 56 = .ok (.ireturn, 1) := by decide +kernel
abbrev cX0_has : ByteArray := prog_1_method_14_code
def yX0_has : MethodName := ⟨RX0, "has", "(III)I"⟩
theorem dX0_has_0 : decode cX0_has 0 = .ok (.iload_n 1, 1) := by decide +kernel
theorem dX0_has_1 : decode cX0_has 1 = .ok (.invokestatic 40, 3) := by decide +kernel
theorem dX0_has_4 : decode cX0_has 4 = .ok (.ifCond .eq 35, 3) := by decide +kernel
theorem dX0_has_7 : decode cX0_has 7 = .ok (.iload_n 2, 1) := by decide +kernel
theorem dX0_has_8 : decode cX0_has 8 = .ok (.invokestatic 40, 3) := by decide +kernel
theorem dX0_has_11 : decode cX0_has 11 = .ok (.ifCond .eq 28, 3) := by decide +kernel
theorem dX0_has_14 : decode cX0_has 14 = .ok (.iload_n 3, 1) := by decide +kernel
theorem dX0_has_15 : decode cX0_has 15 = .ok (.invokestatic 40, 3) := by decide +kernel
theorem dX0_has_18 : decode cX0_has 18 = .ok (.ifCond .eq 21, 3) := by decide +kernel
theorem dX0_has_21 : decode cX0_has 21 = .ok (.aload_n 0, 1) := by decide +kernel
theorem dX0_has_22 : decode cX0_has 22 = .ok (.getfield 7, 3) := by decide +kernel
theorem dX0_has_25 : decode cX0_has 25 = .ok (.bipush 8, 2) := by decide +kernel
theorem dX0_has_27 : decode cX0_has 27 = .ok (.iload_n 1, 1) := by decide +kernel
theorem dX0_has_28 : decode cX0_has 28 = .ok (.imul, 1) := by decide +kernel
theorem dX0_has_29 : decode cX0_has 29 = .ok (.iload_n 2, 1) := by decide +kernel
theorem dX0_has_30 : decode cX0_has 30 = .ok (.iadd, 1) := by decide +kernel
theorem dX0_has_31 : decode cX0_has 31 = .ok (.iaload, 1) := by decide +kernel
theorem dX0_has_32 : decode cX0_has 32 = .ok (.iload_n 3, 1) := by decide +kernel
theorem dX0_has_33 : decode cX0_has 33 = .ok (.iushr, 1) := by decide +kernel
theorem dX0_has_34 : decode cX0_has 34 = .ok (.iconst 1, 1) := by decide +kernel
theorem dX0_has_35 : decode cX0_has 35 = .ok (.iand, 1) := by decide +kernel
theorem dX0_has_36 : decode cX0_has 36 = .ok (.goto 4, 3) := by decide +kernel
theorem dX0_has_39 : decode cX0_has 39 = .ok (.iconst 0, 1) := by decide +kernel
theorem dX0_has_40 : decode cX0_has 40 = .ok (.ireturn, 1) := by decide +kernel
theorem q18 : (Jvm.Cond.initialized "TripleJoin") ∈ lw_all := lw_g (lw_at lw_m1 1 rfl) rfl
theorem q21 : (Jvm.Cond.instantiable "TripleJoin" (14 : Nat)) ∈ lw_all := lw_g (lw_at lw_m1 4 rfl) rfl
theorem q23 : (Jvm.Cond.instanceMethod ({ cls := "TripleJoin", name := "<init>", desc := "()V" } : Jvm.MethodName)) ∈ lw_all := lw_g (lw_at lw_m1 6 rfl) rfl
theorem q24 : (Jvm.Cond.code ({ cls := "TripleJoin", name := "<init>", desc := "()V" } : Jvm.MethodName) prog_1_method_1_code (1 : Nat) (Option.none : Option Jvm.ClassFile.FieldType)) ∈ lw_all := lw_g (lw_at lw_m1 7 rfl) rfl
theorem q25 : (Jvm.Cond.methodLink "TripleJoin" (1 : Nat) ({ cls := "java/lang/Object", name := "<init>", desc := "()V" } : Jvm.MethodName)) ∈ lw_all := lw_g (lw_at lw_m1 8 rfl) rfl
theorem q28 : (Jvm.Cond.fieldLink "TripleJoin" (44 : Nat) "TripleJoin" "held" "I") ∈ lw_all := lw_g (lw_at lw_m1 11 rfl) rfl
theorem q29 : (Jvm.Cond.fieldLink "TripleJoin" (7 : Nat) "TripleJoin" "objects" "[I") ∈ lw_all := lw_g (lw_at lw_m1 12 rfl) rfl
theorem q30 : (Jvm.Cond.fieldLink "TripleJoin" (13 : Nat) "TripleJoin" "predicates" "[I") ∈ lw_all := lw_g (lw_at lw_m1 13 rfl) rfl
theorem q31 : (Jvm.Cond.fieldLink "TripleJoin" (16 : Nat) "TripleJoin" "subjects" "[I") ∈ lw_all := lw_g (lw_at lw_m1 14 rfl) rfl
theorem q32 : (Jvm.Cond.fieldLink "TripleJoin" (19 : Nat) "TripleJoin" "goOn" "[I") ∈ lw_all := lw_g (lw_at lw_m1 15 rfl) rfl
theorem q33 : (Jvm.Cond.fieldLink "TripleJoin" (22 : Nat) "TripleJoin" "single" "[I") ∈ lw_all := lw_g (lw_at lw_m1 16 rfl) rfl
theorem q34 : (Jvm.Cond.fieldLink "TripleJoin" (52 : Nat) "TripleJoin" "patterns" "I") ∈ lw_all := lw_g (lw_at lw_m1 17 rfl) rfl
theorem q35 : (Jvm.Cond.fieldLink "TripleJoin" (25 : Nat) "TripleJoin" "place" "[I") ∈ lw_all := lw_g (lw_at lw_m1 18 rfl) rfl
theorem q36 : (Jvm.Cond.fieldLink "TripleJoin" (76 : Nat) "TripleJoin" "variables" "I") ∈ lw_all := lw_g (lw_at lw_m1 19 rfl) rfl
theorem q37 : (Jvm.Cond.fieldLink "TripleJoin" (28 : Nat) "TripleJoin" "variable" "[I") ∈ lw_all := lw_g (lw_at lw_m1 20 rfl) rfl
theorem q38 : (Jvm.Cond.fieldLink "TripleJoin" (31 : Nat) "TripleJoin" "bound" "[I") ∈ lw_all := lw_g (lw_at lw_m1 21 rfl) rfl
theorem q39 : (Jvm.Cond.fieldLink "TripleJoin" (34 : Nat) "TripleJoin" "candidates" "[I") ∈ lw_all := lw_g (lw_at lw_m1 22 rfl) rfl
theorem q40 : (Jvm.Cond.fieldLink "TripleJoin" (37 : Nat) "TripleJoin" "valueCount" "[I") ∈ lw_all := lw_g (lw_at lw_m1 23 rfl) rfl
theorem q41 : (Jvm.Cond.fieldLink "TripleJoin" (59 : Nat) "TripleJoin" "solutionCount" "I") ∈ lw_all := lw_g (lw_at lw_m1 24 rfl) rfl
theorem q42 : (Jvm.Cond.lays "TripleJoin" "TripleJoin" "held" "I") ∈ lw_all := lw_g (lw_at lw_m1 25 rfl) rfl
theorem q43 : (Jvm.Cond.soleField "TripleJoin" "held") ∈ lw_all := lw_g (lw_at lw_m1 26 rfl) rfl
theorem q44 : (Jvm.Cond.laysFinal "TripleJoin" "TripleJoin" "objects" "[I") ∈ lw_all := lw_g (lw_at lw_m1 27 rfl) rfl
theorem q45 : (Jvm.Cond.soleField "TripleJoin" "objects") ∈ lw_all := lw_g (lw_at lw_m1 28 rfl) rfl
theorem q46 : (Jvm.Cond.laysFinal "TripleJoin" "TripleJoin" "predicates" "[I") ∈ lw_all := lw_g (lw_at lw_m1 29 rfl) rfl
theorem q47 : (Jvm.Cond.soleField "TripleJoin" "predicates") ∈ lw_all := lw_g (lw_at lw_m1 30 rfl) rfl
theorem q48 : (Jvm.Cond.laysFinal "TripleJoin" "TripleJoin" "subjects" "[I") ∈ lw_all := lw_g (lw_at lw_m1 31 rfl) rfl
theorem q49 : (Jvm.Cond.soleField "TripleJoin" "subjects") ∈ lw_all := lw_g (lw_at lw_m1 32 rfl) rfl
theorem q50 : (Jvm.Cond.laysFinal "TripleJoin" "TripleJoin" "goOn" "[I") ∈ lw_all := lw_g (lw_at lw_m1 33 rfl) rfl
theorem q51 : (Jvm.Cond.soleField "TripleJoin" "goOn") ∈ lw_all := lw_g (lw_at lw_m1 34 rfl) rfl
theorem q52 : (Jvm.Cond.laysFinal "TripleJoin" "TripleJoin" "single" "[I") ∈ lw_all := lw_g (lw_at lw_m1 35 rfl) rfl
theorem q53 : (Jvm.Cond.soleField "TripleJoin" "single") ∈ lw_all := lw_g (lw_at lw_m1 36 rfl) rfl
theorem q54 : (Jvm.Cond.lays "TripleJoin" "TripleJoin" "patterns" "I") ∈ lw_all := lw_g (lw_at lw_m1 37 rfl) rfl
theorem q55 : (Jvm.Cond.soleField "TripleJoin" "patterns") ∈ lw_all := lw_g (lw_at lw_m1 38 rfl) rfl
theorem q56 : (Jvm.Cond.laysFinal "TripleJoin" "TripleJoin" "place" "[I") ∈ lw_all := lw_g (lw_at lw_m1 39 rfl) rfl
theorem q57 : (Jvm.Cond.soleField "TripleJoin" "place") ∈ lw_all := lw_g (lw_at lw_m1 40 rfl) rfl
theorem q58 : (Jvm.Cond.lays "TripleJoin" "TripleJoin" "variables" "I") ∈ lw_all := lw_g (lw_at lw_m1 41 rfl) rfl
theorem q59 : (Jvm.Cond.soleField "TripleJoin" "variables") ∈ lw_all := lw_g (lw_at lw_m1 42 rfl) rfl
theorem q60 : (Jvm.Cond.laysFinal "TripleJoin" "TripleJoin" "variable" "[I") ∈ lw_all := lw_g (lw_at lw_m1 43 rfl) rfl
theorem q61 : (Jvm.Cond.soleField "TripleJoin" "variable") ∈ lw_all := lw_g (lw_at lw_m1 44 rfl) rfl
theorem q62 : (Jvm.Cond.laysFinal "TripleJoin" "TripleJoin" "bound" "[I") ∈ lw_all := lw_g (lw_at lw_m1 45 rfl) rfl
theorem q63 : (Jvm.Cond.soleField "TripleJoin" "bound") ∈ lw_all := lw_g (lw_at lw_m1 46 rfl) rfl
theorem q64 : (Jvm.Cond.laysFinal "TripleJoin" "TripleJoin" "candidates" "[I") ∈ lw_all := lw_g (lw_at lw_m1 47 rfl) rfl
theorem q65 : (Jvm.Cond.soleField "TripleJoin" "candidates") ∈ lw_all := lw_g (lw_at lw_m1 48 rfl) rfl
theorem q66 : (Jvm.Cond.laysFinal "TripleJoin" "TripleJoin" "valueCount" "[I") ∈ lw_all := lw_g (lw_at lw_m1 49 rfl) rfl
theorem q67 : (Jvm.Cond.soleField "TripleJoin" "valueCount") ∈ lw_all := lw_g (lw_at lw_m1 50 rfl) rfl
theorem q68 : (Jvm.Cond.lays "TripleJoin" "TripleJoin" "solutionCount" "I") ∈ lw_all := lw_g (lw_at lw_m1 51 rfl) rfl
theorem q69 : (Jvm.Cond.soleField "TripleJoin" "solutionCount") ∈ lw_all := lw_g (lw_at lw_m1 52 rfl) rfl
theorem q70 : (Jvm.Cond.superclass "TripleJoin" "java/lang/Object") ∈ lw_all := lw_g (lw_at lw_m1 53 rfl) rfl
theorem q73 : (Jvm.Cond.instanceMethod ({ cls := "TripleJoin", name := "add", desc := "(III)I" } : Jvm.MethodName)) ∈ lw_all := lw_g (lw_at lw_m1 56 rfl) rfl
theorem q74 : (Jvm.Cond.selects "TripleJoin" ({ cls := "TripleJoin", name := "add", desc := "(III)I" } : Jvm.MethodName) ({ cls := "TripleJoin", name := "add", desc := "(III)I" } : Jvm.MethodName)) ∈ lw_all := lw_g (lw_at lw_m1 57 rfl) rfl
theorem q75 : (Jvm.Cond.code ({ cls := "TripleJoin", name := "add", desc := "(III)I" } : Jvm.MethodName) prog_1_method_2_code (4 : Nat) (Option.some Jvm.ClassFile.FieldType.int)) ∈ lw_all := lw_g (lw_at lw_m1 58 rfl) rfl
theorem q76 : (Jvm.Cond.methodLink "TripleJoin" (40 : Nat) ({ cls := "TripleJoin", name := "isPart", desc := "(I)Z" } : Jvm.MethodName)) ∈ lw_all := lw_g (lw_at lw_m1 59 rfl) rfl
theorem q77 : (Jvm.Cond.static ({ cls := "TripleJoin", name := "isPart", desc := "(I)Z" } : Jvm.MethodName)) ∈ lw_all := lw_g (lw_at lw_m1 60 rfl) rfl
theorem q78 : (Jvm.Cond.code ({ cls := "TripleJoin", name := "isPart", desc := "(I)Z" } : Jvm.MethodName) prog_1_method_4_code (1 : Nat) (Option.some Jvm.ClassFile.FieldType.boolean)) ∈ lw_all := lw_g (lw_at lw_m1 61 rfl) rfl
theorem q79 : (Jvm.Cond.methodLink "TripleJoin" (48 : Nat) ({ cls := "TripleJoin", name := "enter", desc := "(IIII)V" } : Jvm.MethodName)) ∈ lw_all := lw_g (lw_at lw_m1 62 rfl) rfl
theorem q80 : (Jvm.Cond.privateMethod ({ cls := "TripleJoin", name := "enter", desc := "(IIII)V" } : Jvm.MethodName)) ∈ lw_tbl := lw_at lw_m1 63 rfl
theorem q81 : (Jvm.Cond.instanceMethod ({ cls := "TripleJoin", name := "enter", desc := "(IIII)V" } : Jvm.MethodName)) ∈ lw_all := lw_g (lw_at lw_m1 64 rfl) rfl
theorem q82 : (Jvm.Cond.code ({ cls := "TripleJoin", name := "enter", desc := "(IIII)V" } : Jvm.MethodName) prog_1_method_6_code (5 : Nat) (Option.none : Option Jvm.ClassFile.FieldType)) ∈ lw_all := lw_g (lw_at lw_m1 65 rfl) rfl
theorem q84 : (Jvm.Cond.instanceMethod ({ cls := "TripleJoin", name := "remove", desc := "(III)I" } : Jvm.MethodName)) ∈ lw_all := lw_g (lw_at lw_m1 67 rfl) rfl
theorem q85 : (Jvm.Cond.selects "TripleJoin" ({ cls := "TripleJoin", name := "remove", desc := "(III)I" } : Jvm.MethodName) ({ cls := "TripleJoin", name := "remove", desc := "(III)I" } : Jvm.MethodName)) ∈ lw_all := lw_g (lw_at lw_m1 68 rfl) rfl
theorem q86 : (Jvm.Cond.code ({ cls := "TripleJoin", name := "remove", desc := "(III)I" } : Jvm.MethodName) prog_1_method_3_code (4 : Nat) (Option.some Jvm.ClassFile.FieldType.int)) ∈ lw_all := lw_g (lw_at lw_m1 69 rfl) rfl
theorem q88 : (Jvm.Cond.instanceMethod ({ cls := "TripleJoin", name := "pattern", desc := "(III)I" } : Jvm.MethodName)) ∈ lw_all := lw_g (lw_at lw_m1 71 rfl) rfl
theorem q89 : (Jvm.Cond.selects "TripleJoin" ({ cls := "TripleJoin", name := "pattern", desc := "(III)I" } : Jvm.MethodName) ({ cls := "TripleJoin", name := "pattern", desc := "(III)I" } : Jvm.MethodName)) ∈ lw_all := lw_g (lw_at lw_m1 72 rfl) rfl
theorem q90 : (Jvm.Cond.code ({ cls := "TripleJoin", name := "pattern", desc := "(III)I" } : Jvm.MethodName) prog_1_method_7_code (4 : Nat) (Option.some Jvm.ClassFile.FieldType.int)) ∈ lw_all := lw_g (lw_at lw_m1 73 rfl) rfl
theorem q92 : (Jvm.Cond.instanceMethod ({ cls := "TripleJoin", name := "clear", desc := "()V" } : Jvm.MethodName)) ∈ lw_all := lw_g (lw_at lw_m1 75 rfl) rfl
theorem q93 : (Jvm.Cond.selects "TripleJoin" ({ cls := "TripleJoin", name := "clear", desc := "()V" } : Jvm.MethodName) ({ cls := "TripleJoin", name := "clear", desc := "()V" } : Jvm.MethodName)) ∈ lw_all := lw_g (lw_at lw_m1 76 rfl) rfl
theorem q94 : (Jvm.Cond.code ({ cls := "TripleJoin", name := "clear", desc := "()V" } : Jvm.MethodName) prog_1_method_8_code (1 : Nat) (Option.none : Option Jvm.ClassFile.FieldType)) ∈ lw_all := lw_g (lw_at lw_m1 77 rfl) rfl
theorem q96 : (Jvm.Cond.instanceMethod ({ cls := "TripleJoin", name := "solutions", desc := "()I" } : Jvm.MethodName)) ∈ lw_all := lw_g (lw_at lw_m1 79 rfl) rfl
theorem q97 : (Jvm.Cond.selects "TripleJoin" ({ cls := "TripleJoin", name := "solutions", desc := "()I" } : Jvm.MethodName) ({ cls := "TripleJoin", name := "solutions", desc := "()I" } : Jvm.MethodName)) ∈ lw_all := lw_g (lw_at lw_m1 80 rfl) rfl
theorem q98 : (Jvm.Cond.code ({ cls := "TripleJoin", name := "solutions", desc := "()I" } : Jvm.MethodName) prog_1_method_9_code (1 : Nat) (Option.some Jvm.ClassFile.FieldType.int)) ∈ lw_all := lw_g (lw_at lw_m1 81 rfl) rfl
theorem q99 : (Jvm.Cond.methodLink "TripleJoin" (55 : Nat) ({ cls := "TripleJoin", name := "join", desc := "(I)V" } : Jvm.MethodName)) ∈ lw_all := lw_g (lw_at lw_m1 82 rfl) rfl
theorem q100 : (Jvm.Cond.privateMethod ({ cls := "TripleJoin", name := "join", desc := "(I)V" } : Jvm.MethodName)) ∈ lw_tbl := lw_at lw_m1 83 rfl
theorem q101 : (Jvm.Cond.instanceMethod ({ cls := "TripleJoin", name := "join", desc := "(I)V" } : Jvm.MethodName)) ∈ lw_all := lw_g (lw_at lw_m1 84 rfl) rfl
theorem q102 : (Jvm.Cond.code ({ cls := "TripleJoin", name := "join", desc := "(I)V" } : Jvm.MethodName) prog_1_method_16_code (6 : Nat) (Option.none : Option Jvm.ClassFile.FieldType)) ∈ lw_all := lw_g (lw_at lw_m1 85 rfl) rfl
theorem q103 : (Jvm.Cond.methodLink "TripleJoin" (69 : Nat) ({ cls := "TripleJoin", name := "prepare", desc := "()V" } : Jvm.MethodName)) ∈ lw_all := lw_g (lw_at lw_m1 86 rfl) rfl
theorem q104 : (Jvm.Cond.privateMethod ({ cls := "TripleJoin", name := "prepare", desc := "()V" } : Jvm.MethodName)) ∈ lw_tbl := lw_at lw_m1 87 rfl
theorem q105 : (Jvm.Cond.instanceMethod ({ cls := "TripleJoin", name := "prepare", desc := "()V" } : Jvm.MethodName)) ∈ lw_all := lw_g (lw_at lw_m1 88 rfl) rfl
theorem q106 : (Jvm.Cond.code ({ cls := "TripleJoin", name := "prepare", desc := "()V" } : Jvm.MethodName) prog_1_method_17_code (2 : Nat) (Option.none : Option Jvm.ClassFile.FieldType)) ∈ lw_all := lw_g (lw_at lw_m1 89 rfl) rfl
theorem q107 : (Jvm.Cond.methodLink "TripleJoin" (62 : Nat) ({ cls := "TripleJoin", name := "stands", desc := "(I)Z" } : Jvm.MethodName)) ∈ lw_all := lw_g (lw_at lw_m1 90 rfl) rfl
theorem q108 : (Jvm.Cond.privateMethod ({ cls := "TripleJoin", name := "stands", desc := "(I)Z" } : Jvm.MethodName)) ∈ lw_tbl := lw_at lw_m1 91 rfl
theorem q109 : (Jvm.Cond.instanceMethod ({ cls := "TripleJoin", name := "stands", desc := "(I)Z" } : Jvm.MethodName)) ∈ lw_all := lw_g (lw_at lw_m1 92 rfl) rfl
theorem q110 : (Jvm.Cond.code ({ cls := "TripleJoin", name := "stands", desc := "(I)Z" } : Jvm.MethodName) prog_1_method_15_code (3 : Nat) (Option.some Jvm.ClassFile.FieldType.boolean)) ∈ lw_all := lw_g (lw_at lw_m1 93 rfl) rfl
theorem q111 : (Jvm.Cond.methodLink "TripleJoin" (72 : Nat) ({ cls := "TripleJoin", name := "groundHolds", desc := "()Z" } : Jvm.MethodName)) ∈ lw_all := lw_g (lw_at lw_m1 94 rfl) rfl
theorem q112 : (Jvm.Cond.privateMethod ({ cls := "TripleJoin", name := "groundHolds", desc := "()Z" } : Jvm.MethodName)) ∈ lw_tbl := lw_at lw_m1 95 rfl
theorem q113 : (Jvm.Cond.instanceMethod ({ cls := "TripleJoin", name := "groundHolds", desc := "()Z" } : Jvm.MethodName)) ∈ lw_all := lw_g (lw_at lw_m1 96 rfl) rfl
theorem q114 : (Jvm.Cond.code ({ cls := "TripleJoin", name := "groundHolds", desc := "()Z" } : Jvm.MethodName) prog_1_method_20_code (3 : Nat) (Option.some Jvm.ClassFile.FieldType.boolean)) ∈ lw_all := lw_g (lw_at lw_m1 97 rfl) rfl
theorem q115 : (Jvm.Cond.methodLink "TripleJoin" (79 : Nat) ({ cls := "TripleJoin", name := "allowed", desc := "(I)I" } : Jvm.MethodName)) ∈ lw_all := lw_g (lw_at lw_m1 98 rfl) rfl
theorem q116 : (Jvm.Cond.privateMethod ({ cls := "TripleJoin", name := "allowed", desc := "(I)I" } : Jvm.MethodName)) ∈ lw_tbl := lw_at lw_m1 99 rfl
theorem q117 : (Jvm.Cond.instanceMethod ({ cls := "TripleJoin", name := "allowed", desc := "(I)I" } : Jvm.MethodName)) ∈ lw_all := lw_g (lw_at lw_m1 100 rfl) rfl
theorem q118 : (Jvm.Cond.code ({ cls := "TripleJoin", name := "allowed", desc := "(I)I" } : Jvm.MethodName) prog_1_method_21_code (10 : Nat) (Option.some Jvm.ClassFile.FieldType.int)) ∈ lw_all := lw_g (lw_at lw_m1 101 rfl) rfl
theorem q119 : (Jvm.Cond.methodLink "TripleJoin" (88 : Nat) ({ cls := "TripleJoin", name := "known", desc := "(I)I" } : Jvm.MethodName)) ∈ lw_all := lw_g (lw_at lw_m1 102 rfl) rfl
theorem q120 : (Jvm.Cond.privateMethod ({ cls := "TripleJoin", name := "known", desc := "(I)I" } : Jvm.MethodName)) ∈ lw_tbl := lw_at lw_m1 103 rfl
theorem q121 : (Jvm.Cond.instanceMethod ({ cls := "TripleJoin", name := "known", desc := "(I)I" } : Jvm.MethodName)) ∈ lw_all := lw_g (lw_at lw_m1 104 rfl) rfl
theorem q122 : (Jvm.Cond.code ({ cls := "TripleJoin", name := "known", desc := "(I)I" } : Jvm.MethodName) prog_1_method_22_code (2 : Nat) (Option.some Jvm.ClassFile.FieldType.int)) ∈ lw_all := lw_g (lw_at lw_m1 105 rfl) rfl
theorem q123 : (Jvm.Cond.methodLink "TripleJoin" (91 : Nat) ({ cls := "TripleJoin", name := "allowedBy", desc := "(IIIII)I" } : Jvm.MethodName)) ∈ lw_all := lw_g (lw_at lw_m1 106 rfl) rfl
theorem q124 : (Jvm.Cond.privateMethod ({ cls := "TripleJoin", name := "allowedBy", desc := "(IIIII)I" } : Jvm.MethodName)) ∈ lw_tbl := lw_at lw_m1 107 rfl
theorem q125 : (Jvm.Cond.instanceMethod ({ cls := "TripleJoin", name := "allowedBy", desc := "(IIIII)I" } : Jvm.MethodName)) ∈ lw_all := lw_g (lw_at lw_m1 108 rfl) rfl
theorem q126 : (Jvm.Cond.code ({ cls := "TripleJoin", name := "allowedBy", desc := "(IIIII)I" } : Jvm.MethodName) prog_1_method_23_code (8 : Nat) (Option.some Jvm.ClassFile.FieldType.int)) ∈ lw_all := lw_g (lw_at lw_m1 109 rfl) rfl
theorem q127 : (Jvm.Cond.methodLink "TripleJoin" (95 : Nat) ({ cls := "TripleJoin", name := "allowedTwice", desc := "(IIIII)I" } : Jvm.MethodName)) ∈ lw_all := lw_g (lw_at lw_m1 110 rfl) rfl
theorem q128 : (Jvm.Cond.privateMethod ({ cls := "TripleJoin", name := "allowedTwice", desc := "(IIIII)I" } : Jvm.MethodName)) ∈ lw_tbl := lw_at lw_m1 111 rfl
theorem q129 : (Jvm.Cond.instanceMethod ({ cls := "TripleJoin", name := "allowedTwice", desc := "(IIIII)I" } : Jvm.MethodName)) ∈ lw_all := lw_g (lw_at lw_m1 112 rfl) rfl
theorem q130 : (Jvm.Cond.code ({ cls := "TripleJoin", name := "allowedTwice", desc := "(IIIII)I" } : Jvm.MethodName) prog_1_method_24_code (9 : Nat) (Option.some Jvm.ClassFile.FieldType.int)) ∈ lw_all := lw_g (lw_at lw_m1 113 rfl) rfl
theorem q131 : (Jvm.Cond.methodLink "TripleJoin" (105 : Nat) ({ cls := "TripleJoin", name := "count", desc := "(III)I" } : Jvm.MethodName)) ∈ lw_all := lw_g (lw_at lw_m1 114 rfl) rfl
theorem q132 : (Jvm.Cond.instanceMethod ({ cls := "TripleJoin", name := "count", desc := "(III)I" } : Jvm.MethodName)) ∈ lw_all := lw_g (lw_at lw_m1 115 rfl) rfl
theorem q133 : (Jvm.Cond.selects "TripleJoin" ({ cls := "TripleJoin", name := "count", desc := "(III)I" } : Jvm.MethodName) ({ cls := "TripleJoin", name := "count", desc := "(III)I" } : Jvm.MethodName)) ∈ lw_all := lw_g (lw_at lw_m1 116 rfl) rfl
theorem q134 : (Jvm.Cond.code ({ cls := "TripleJoin", name := "count", desc := "(III)I" } : Jvm.MethodName) prog_1_method_13_code (8 : Nat) (Option.some Jvm.ClassFile.FieldType.int)) ∈ lw_all := lw_g (lw_at lw_m1 117 rfl) rfl
theorem q135 : (Jvm.Cond.methodLink "TripleJoin" (65 : Nat) ({ cls := "TripleJoin", name := "ones", desc := "(I)I" } : Jvm.MethodName)) ∈ lw_all := lw_g (lw_at lw_m1 118 rfl) rfl
theorem q136 : (Jvm.Cond.static ({ cls := "TripleJoin", name := "ones", desc := "(I)I" } : Jvm.MethodName)) ∈ lw_all := lw_g (lw_at lw_m1 119 rfl) rfl
theorem q137 : (Jvm.Cond.code ({ cls := "TripleJoin", name := "ones", desc := "(I)I" } : Jvm.MethodName) prog_1_method_5_code (3 : Nat) (Option.some Jvm.ClassFile.FieldType.int)) ∈ lw_all := lw_g (lw_at lw_m1 120 rfl) rfl
theorem q138 : (Jvm.Cond.methodLink "TripleJoin" (98 : Nat) ({ cls := "TripleJoin", name := "ways", desc := "(II)I" } : Jvm.MethodName)) ∈ lw_all := lw_g (lw_at lw_m1 121 rfl) rfl
theorem q139 : (Jvm.Cond.privateMethod ({ cls := "TripleJoin", name := "ways", desc := "(II)I" } : Jvm.MethodName)) ∈ lw_tbl := lw_at lw_m1 122 rfl
theorem q140 : (Jvm.Cond.instanceMethod ({ cls := "TripleJoin", name := "ways", desc := "(II)I" } : Jvm.MethodName)) ∈ lw_all := lw_g (lw_at lw_m1 123 rfl) rfl
theorem q141 : (Jvm.Cond.code ({ cls := "TripleJoin", name := "ways", desc := "(II)I" } : Jvm.MethodName) prog_1_method_25_code (5 : Nat) (Option.some Jvm.ClassFile.FieldType.int)) ∈ lw_all := lw_g (lw_at lw_m1 124 rfl) rfl
theorem q142 : (Jvm.Cond.methodLink "TripleJoin" (102 : Nat) ({ cls := "TripleJoin", name := "alone", desc := "(I)I" } : Jvm.MethodName)) ∈ lw_all := lw_g (lw_at lw_m1 125 rfl) rfl
theorem q143 : (Jvm.Cond.privateMethod ({ cls := "TripleJoin", name := "alone", desc := "(I)I" } : Jvm.MethodName)) ∈ lw_tbl := lw_at lw_m1 126 rfl
theorem q144 : (Jvm.Cond.instanceMethod ({ cls := "TripleJoin", name := "alone", desc := "(I)I" } : Jvm.MethodName)) ∈ lw_all := lw_g (lw_at lw_m1 127 rfl) rfl
theorem q145 : (Jvm.Cond.code ({ cls := "TripleJoin", name := "alone", desc := "(I)I" } : Jvm.MethodName) prog_1_method_26_code (4 : Nat) (Option.some Jvm.ClassFile.FieldType.int)) ∈ lw_all := lw_g (lw_at lw_m1 128 rfl) rfl
theorem q146 : (Jvm.Cond.methodLink "TripleJoin" (82 : Nat) ({ cls := "TripleJoin", name := "countSolution", desc := "()V" } : Jvm.MethodName)) ∈ lw_all := lw_g (lw_at lw_m1 129 rfl) rfl
theorem q147 : (Jvm.Cond.privateMethod ({ cls := "TripleJoin", name := "countSolution", desc := "()V" } : Jvm.MethodName)) ∈ lw_tbl := lw_at lw_m1 130 rfl
theorem q148 : (Jvm.Cond.instanceMethod ({ cls := "TripleJoin", name := "countSolution", desc := "()V" } : Jvm.MethodName)) ∈ lw_all := lw_g (lw_at lw_m1 131 rfl) rfl
theorem q149 : (Jvm.Cond.code ({ cls := "TripleJoin", name := "countSolution", desc := "()V" } : Jvm.MethodName) prog_1_method_18_code (2 : Nat) (Option.none : Option Jvm.ClassFile.FieldType)) ∈ lw_all := lw_g (lw_at lw_m1 132 rfl) rfl
theorem q150 : (Jvm.Cond.methodLink "TripleJoin" (85 : Nat) ({ cls := "TripleJoin", name := "lowest", desc := "(I)I" } : Jvm.MethodName)) ∈ lw_all := lw_g (lw_at lw_m1 133 rfl) rfl
theorem q151 : (Jvm.Cond.static ({ cls := "TripleJoin", name := "lowest", desc := "(I)I" } : Jvm.MethodName)) ∈ lw_all := lw_g (lw_at lw_m1 134 rfl) rfl
theorem q152 : (Jvm.Cond.code ({ cls := "TripleJoin", name := "lowest", desc := "(I)I" } : Jvm.MethodName) prog_1_method_19_code (2 : Nat) (Option.some Jvm.ClassFile.FieldType.int)) ∈ lw_all := lw_g (lw_at lw_m1 135 rfl) rfl
theorem q154 : (Jvm.Cond.instanceMethod ({ cls := "TripleJoin", name := "solution", desc := "(II)I" } : Jvm.MethodName)) ∈ lw_all := lw_g (lw_at lw_m1 137 rfl) rfl
theorem q155 : (Jvm.Cond.selects "TripleJoin" ({ cls := "TripleJoin", name := "solution", desc := "(II)I" } : Jvm.MethodName) ({ cls := "TripleJoin", name := "solution", desc := "(II)I" } : Jvm.MethodName)) ∈ lw_all := lw_g (lw_at lw_m1 138 rfl) rfl
theorem q156 : (Jvm.Cond.code ({ cls := "TripleJoin", name := "solution", desc := "(II)I" } : Jvm.MethodName) prog_1_method_10_code (3 : Nat) (Option.some Jvm.ClassFile.FieldType.int)) ∈ lw_all := lw_g (lw_at lw_m1 139 rfl) rfl
theorem q158 : (Jvm.Cond.instanceMethod ({ cls := "TripleJoin", name := "with", desc := "(II)I" } : Jvm.MethodName)) ∈ lw_all := lw_g (lw_at lw_m1 141 rfl) rfl
theorem q159 : (Jvm.Cond.selects "TripleJoin" ({ cls := "TripleJoin", name := "with", desc := "(II)I" } : Jvm.MethodName) ({ cls := "TripleJoin", name := "with", desc := "(II)I" } : Jvm.MethodName)) ∈ lw_all := lw_g (lw_at lw_m1 142 rfl) rfl
theorem q160 : (Jvm.Cond.code ({ cls := "TripleJoin", name := "with", desc := "(II)I" } : Jvm.MethodName) prog_1_method_11_code (3 : Nat) (Option.some Jvm.ClassFile.FieldType.int)) ∈ lw_all := lw_g (lw_at lw_m1 143 rfl) rfl
theorem q162 : (Jvm.Cond.instanceMethod ({ cls := "TripleJoin", name := "values", desc := "(I)I" } : Jvm.MethodName)) ∈ lw_all := lw_g (lw_at lw_m1 145 rfl) rfl
theorem q163 : (Jvm.Cond.selects "TripleJoin" ({ cls := "TripleJoin", name := "values", desc := "(I)I" } : Jvm.MethodName) ({ cls := "TripleJoin", name := "values", desc := "(I)I" } : Jvm.MethodName)) ∈ lw_all := lw_g (lw_at lw_m1 146 rfl) rfl
theorem q164 : (Jvm.Cond.code ({ cls := "TripleJoin", name := "values", desc := "(I)I" } : Jvm.MethodName) prog_1_method_12_code (4 : Nat) (Option.some Jvm.ClassFile.FieldType.int)) ∈ lw_all := lw_g (lw_at lw_m1 147 rfl) rfl
theorem q167 : (Jvm.Cond.instanceMethod ({ cls := "TripleJoin", name := "has", desc := "(III)I" } : Jvm.MethodName)) ∈ lw_all := lw_g (lw_at lw_m1 150 rfl) rfl
theorem q168 : (Jvm.Cond.selects "TripleJoin" ({ cls := "TripleJoin", name := "has", desc := "(III)I" } : Jvm.MethodName) ({ cls := "TripleJoin", name := "has", desc := "(III)I" } : Jvm.MethodName)) ∈ lw_all := lw_g (lw_at lw_m1 151 rfl) rfl
theorem q169 : (Jvm.Cond.code ({ cls := "TripleJoin", name := "has", desc := "(III)I" } : Jvm.MethodName) prog_1_method_14_code (4 : Nat) (Option.some Jvm.ClassFile.FieldType.int)) ∈ lw_all := lw_g (lw_at lw_m1 152 rfl) rfl
theorem in_X0 : ∀ w ∈ wsX00, w ∈ lw_all := lw_in wsX00 [42, 44, 46, 48, 50, 52, 54, 56, 58, 60, 62, 64, 66, 68] (by decide +kernel) (by decide +kernel)
end
section
/-! TripleJoinModel -/
set_option maxRecDepth 100000
def RX1 : String := "TripleJoinModel"
def TX1 : u_T := fun k => match k with
  | 0 => ("TripleJoinModel", "facts", "[Z", true)
  | 1 => ("TripleJoinModel", "patterns", "I", false)
  | 2 => ("TripleJoinModel", "places", "[I", true)
  | _ => ("TripleJoinModel", "tried", "[I", true)
def tyX1 : Nat → FieldType := fun k => match k with
  | 0 => .array .boolean
  | 1 => .int
  | 2 => .array .int
  | _ => .array .int
abbrev wsX10 : List Cond := u_ws RX1 TX1 4
theorem nmX1 : ∀ a, a < 4 → ∀ b, b < 4 → a ≠ b → (TX1 a).2.1 ≠ (TX1 b).2.1 := by decide +kernel
theorem tyX1_ok : ∀ k, k < 4 → parseFieldDescriptor (TX1 k).2.2.1 = some (tyX1 k) := by decide +kernel
abbrev cX1_init : ByteArray := prog_3_method_1_code
def yX1_init : MethodName := ⟨RX1, "<init>", "()V"⟩
theorem dX1_init_0 : decode cX1_init 0 = .ok (.aload_n 0, 1) := by decide +kernel
theorem dX1_init_1 : decode cX1_init 1 = .ok (.invokespecial 1, 3) := by decide +kernel
theorem dX1_init_4 : decode cX1_init 4 = .ok (.aload_n 0, 1) := by decide +kernel
theorem dX1_init_5 : decode cX1_init 5 = .ok (.sipush 512, 3) := by decide +kernel
theorem dX1_init_8 : decode cX1_init 8 = .ok (.newarray .boolean, 2) := by decide +kernel
theorem dX1_init_10 : decode cX1_init 10 = .ok (.putfield 7, 3) := by decide +kernel
theorem dX1_init_13 : decode cX1_init 13 = .ok (.aload_n 0, 1) := by decide +kernel
theorem dX1_init_14 : decode cX1_init 14 = .ok (.bipush 12, 2) := by decide +kernel
theorem dX1_init_16 : decode cX1_init 16 = .ok (.newarray .int, 2) := by decide +kernel
theorem dX1_init_18 : decode cX1_init 18 = .ok (.putfield 13, 3) := by decide +kernel
theorem dX1_init_21 : decode cX1_init 21 = .ok (.aload_n 0, 1) := by decide +kernel
theorem dX1_init_22 : decode cX1_init 22 = .ok (.iconst 4, 1) := by decide +kernel
theorem dX1_init_23 : decode cX1_init 23 = .ok (.newarray .int, 2) := by decide +kernel
theorem dX1_init_25 : decode cX1_init 25 = .ok (.putfield 17, 3) := by decide +kernel
theorem dX1_init_28 : decode cX1_init 28 = .ok (.return_, 1) := by decide +kernel
abbrev cX1_add : ByteArray := prog_3_method_4_code
def yX1_add : MethodName := ⟨RX1, "add", "(III)I"⟩
theorem dX1_add_0 : decode cX1_add 0 = .ok (.aload_n 0, 1) := by decide +kernel
theorem dX1_add_1 : decode cX1_add 1 = .ok (.iload_n 1, 1) := by decide +kernel
theorem dX1_add_2 : decode cX1_add 2 = .ok (.iload_n 2, 1) := by decide +kernel
theorem dX1_add_3 : decode cX1_add 3 = .ok (.iload_n 3, 1) := by decide +kernel
theorem dX1_add_4 : decode cX1_add 4 = .ok (.invokevirtual 20, 3) := by decide +kernel
theorem dX1_add_7 : decode cX1_add 7 = .ok (.iconst 1, 1) := by decide +kernel
theorem dX1_add_8 : decode cX1_add 8 = .ok (.if_icmp .eq 33, 3) := by decide +kernel
theorem dX1_add_11 : decode cX1_add 11 = .ok (.iload_n 1, 1) := by decide +kernel
theorem dX1_add_12 : decode cX1_add 12 = .ok (.invokestatic 24, 3) := by decide +kernel
theorem dX1_add_15 : decode cX1_add 15 = .ok (.ifCond .ne 26, 3) := by decide +kernel
theorem dX1_add_18 : decode cX1_add 18 = .ok (.iload_n 2, 1) := by decide +kernel
theorem dX1_add_19 : decode cX1_add 19 = .ok (.invokestatic 24, 3) := by decide +kernel
theorem dX1_add_22 : decode cX1_add 22 = .ok (.ifCond .ne 19, 3) := by decide +kernel
theorem dX1_add_25 : decode cX1_add 25 = .ok (.iload_n 3, 1) := by decide +kernel
theorem dX1_add_26 : decode cX1_add 26 = .ok (.invokestatic 24, 3) := by decide +kernel
theorem dX1_add_29 : decode cX1_add 29 = .ok (.ifCond .ne 12, 3) := by decide +kernel
theorem dX1_add_32 : decode cX1_add 32 = .ok (.aload_n 0, 1) := by decide +kernel
theorem dX1_add_33 : decode cX1_add 33 = .ok (.invokevirtual 28, 3) := by decide +kernel
theorem dX1_add_36 : decode cX1_add 36 = .ok (.bipush 48, 2) := by decide +kernel
theorem dX1_add_38 : decode cX1_add 38 = .ok (.if_icmp .ne 5, 3) := by decide +kernel
theorem dX1_add_41 : decode cX1_add 41 = .ok (.iconst (-1), 1) := by decide +kernel
theorem dX1_add_42 : decode cX1_add 42 = .ok (.ireturn, 1) := by decide +kernel
theorem dX1_add_43 : decode cX1_add 43 = .ok (.aload_n 0, 1) := by decide +kernel
theorem dX1_add_44 : decode cX1_add 44 = .ok (.getfield 7, 3) := by decide +kernel
theorem dX1_add_47 : decode cX1_add 47 = .ok (.bipush 64, 2) := by decide +kernel
theorem dX1_add_49 : decode cX1_add 49 = .ok (.iload_n 1, 1) := by decide +kernel
theorem dX1_add_50 : decode cX1_add 50 = .ok (.imul, 1) := by decide +kernel
theorem dX1_add_51 : decode cX1_add 51 = .ok (.bipush 8, 2) := by decide +kernel
theorem dX1_add_53 : decode cX1_add 53 = .ok (.iload_n 2, 1) := by decide +kernel
theorem dX1_add_54 : decode cX1_add 54 = .ok (.imul, 1) := by decide +kernel
theorem dX1_add_55 : decode cX1_add 55 = .ok (.iadd, 1) := by decide +kernel
theorem dX1_add_56 : decode cX1_add 56 = .ok (.iload_n 3, 1) := by decide +kernel
theorem dX1_add_57 : decode cX1_add 57 = .ok (.iadd, 1) := by decide +kernel
theorem dX1_add_58 : decode cX1_add 58 = .ok (.iconst 1, 1) := by decide +kernel
theorem dX1_add_59 : decode cX1_add 59 = .ok (.bastore, 1) := by decide +kernel
theorem dX1_add_60 : decode cX1_add 60 = .ok (.aload_n 0, 1) := by decide +kernel
theorem dX1_add_61 : decode cX1_add 61 = .ok (.invokevirtual 28, 3) := by decide +kernel
theorem dX1_add_64 : decode cX1_add 64 = .ok (.ireturn, 1) := by decide +kernel
abbrev cX1_has : ByteArray := prog_3_method_18_code
def yX1_has : MethodName := ⟨RX1, "has", "(III)I"⟩
theorem dX1_has_0 : decode cX1_has 0 = .ok (.iload_n 1, 1) := by decide +kernel
theorem dX1_has_1 : decode cX1_has 1 = .ok (.invokestatic 24, 3) := by decide +kernel
theorem dX1_has_4 : decode cX1_has 4 = .ok (.ifCond .ne 40, 3) := by decide +kernel
theorem dX1_has_7 : decode cX1_has 7 = .ok (.iload_n 2, 1) := by decide +kernel
theorem dX1_has_8 : decode cX1_has 8 = .ok (.invokestatic 24, 3) := by decide +kernel
theorem dX1_has_11 : decode cX1_has 11 = .ok (.ifCond .ne 33, 3) := by decide +kernel
theorem dX1_has_14 : decode cX1_has 14 = .ok (.iload_n 3, 1) := by decide +kernel
theorem dX1_has_15 : decode cX1_has 15 = .ok (.invokestatic 24, 3) := by decide +kernel
theorem dX1_has_18 : decode cX1_has 18 = .ok (.ifCond .ne 26, 3) := by decide +kernel
theorem dX1_has_21 : decode cX1_has 21 = .ok (.aload_n 0, 1) := by decide +kernel
theorem dX1_has_22 : decode cX1_has 22 = .ok (.getfield 7, 3) := by decide +kernel
theorem dX1_has_25 : decode cX1_has 25 = .ok (.bipush 64, 2) := by decide +kernel
theorem dX1_has_27 : decode cX1_has 27 = .ok (.iload_n 1, 1) := by decide +kernel
theorem dX1_has_28 : decode cX1_has 28 = .ok (.imul, 1) := by decide +kernel
theorem dX1_has_29 : decode cX1_has 29 = .ok (.bipush 8, 2) := by decide +kernel
theorem dX1_has_31 : decode cX1_has 31 = .ok (.iload_n 2, 1) := by decide +kernel
theorem dX1_has_32 : decode cX1_has 32 = .ok (.imul, 1) := by decide +kernel
theorem dX1_has_33 : decode cX1_has 33 = .ok (.iadd, 1) := by decide +kernel
theorem dX1_has_34 : decode cX1_has 34 = .ok (.iload_n 3, 1) := by decide +kernel
theorem dX1_has_35 : decode cX1_has 35 = .ok (.iadd, 1) := by decide +kernel
theorem dX1_has_36 : decode cX1_has 36 = .ok (.baload, 1) := by decide +kernel
theorem dX1_has_37 : decode cX1_has 37 = .ok (.ifCond .eq 7, 3) := by decide +kernel
theorem dX1_has_40 : decode cX1_has 40 = .ok (.iconst 1, 1) := by decide +kernel
theorem dX1_has_41 : decode cX1_has 41 = .ok (.goto 4, 3) := by decide +kernel
theorem dX1_has_44 : decode cX1_has 44 = .ok (.iconst 0, 1) := by decide +kernel
theorem dX1_has_45 : decode cX1_has 45 = .ok (.ireturn, 1) := by decide +kernel
abbrev cX1_outside : ByteArray := prog_3_method_2_code
def yX1_outside : MethodName := ⟨RX1, "outside", "(I)Z"⟩
theorem dX1_outside_0 : decode cX1_outside 0 = .ok (.iload_n 0, 1) := by decide +kernel
theorem dX1_outside_1 : decode cX1_outside 1 = .ok (.ifCond .lt 9, 3) := by decide +kernel
theorem dX1_outside_4 : decode cX1_outside 4 = .ok (.iload_n 0, 1) := by decide +kernel
theorem dX1_outside_5 : decode cX1_outside 5 = .ok (.bipush 7, 2) := by decide +kernel
theorem dX1_outside_7 : decode cX1_outside 7 = .ok (.if_icmp .le 7, 3) := by decide +kernel
theorem dX1_outside_10 : decode cX1_outside 10 = .ok (.iconst 1, 1) := by decide +kernel
theorem dX1_outside_11 : decode cX1_outside 11 = .ok (.goto 4, 3) := by decide +kernel
theorem dX1_outside_14 : decode cX1_outside 14 = .ok (.iconst 0, 1) := by decide +kernel
theorem dX1_outside_15 : decode cX1_outside 15 = .ok (.ireturn, 1) := by decide +kernel
abbrev cX1_held : ByteArray := prog_3_method_3_code
def yX1_held : MethodName := ⟨RX1, "held", "()I"⟩
theorem dX1_held_0 : decode cX1_held 0 = .ok (.iconst 0, 1) := by decide +kernel
theorem dX1_held_1 : decode cX1_held 1 = .ok (.istore_n 1, 1) := by decide +kernel
theorem dX1_held_2 : decode cX1_held 2 = .ok (.iconst 0, 1) := by decide +kernel
theorem dX1_held_3 : decode cX1_held 3 = .ok (.istore_n 2, 1) := by decide +kernel
theorem dX1_held_4 : decode cX1_held 4 = .ok (.iload_n 2, 1) := by decide +kernel
theorem dX1_held_5 : decode cX1_held 5 = .ok (.sipush 512, 3) := by decide +kernel
theorem dX1_held_8 : decode cX1_held 8 = .ok (.if_icmp .ge 21, 3) := by decide +kernel
theorem dX1_held_11 : decode cX1_held 11 = .ok (.aload_n 0, 1) := by decide +kernel
theorem dX1_held_12 : decode cX1_held 12 = .ok (.getfield 7, 3) := by decide +kernel
theorem dX1_held_15 : decode cX1_held 15 = .ok (.iload_n 2, 1) := by decide +kernel
theorem dX1_held_16 : decode cX1_held 16 = .ok (.baload, 1) := by decide +kernel
theorem dX1_held_17 : decode cX1_held 17 = .ok (.ifCond .eq 6, 3) := by decide +kernel
theorem dX1_held_20 : decode cX1_held 20 = .ok (.iinc 1 1, 3) := by decide +kernel
theorem dX1_held_23 : decode cX1_held 23 = .ok (.iinc 2 1, 3) := by decide +kernel
theorem dX1_held_26 : decode cX1_held 26 = .ok (.goto (-22), 3) := by decide +kernel
theorem dX1_held_29 : decode cX1_held 29 = .ok (.iload_n 1, 1) := by decide +kernel
theorem dX1_held_30 : decode cX1_held 30 = .ok (.ireturn, 1) := by decide +kernel
abbrev cX1_remove : ByteArray := prog_3_method_5_code
def yX1_remove : MethodName := ⟨RX1, "remove", "(III)I"⟩
theorem dX1_remove_0 : decode cX1_remove 0 = .ok (.aload_n 0, 1) := by decide +kernel
theorem dX1_remove_1 : decode cX1_remove 1 = .ok (.iload_n 1, 1) := by decide +kernel
theorem dX1_remove_2 : decode cX1_remove 2 = .ok (.iload_n 2, 1) := by decide +kernel
theorem dX1_remove_3 : decode cX1_remove 3 = .ok (.iload_n 3, 1) := by decide +kernel
theorem dX1_remove_4 : decode cX1_remove 4 = .ok (.invokevirtual 20, 3) := by decide +kernel
theorem dX1_remove_7 : decode cX1_remove 7 = .ok (.ifCond .ne 5, 3) := by decide +kernel
theorem dX1_remove_10 : decode cX1_remove 10 = .ok (.iconst (-1), 1) := by decide +kernel
theorem dX1_remove_11 : decode cX1_remove 11 = .ok (.ireturn, 1) := by decide +kernel
theorem dX1_remove_12 : decode cX1_remove 12 = .ok (.aload_n 0, 1) := by decide +kernel
theorem dX1_remove_13 : decode cX1_remove 13 = .ok (.getfield 7, 3) := by decide +kernel
theorem dX1_remove_16 : decode cX1_remove 16 = .ok (.bipush 64, 2) := by decide +kernel
theorem dX1_remove_18 : decode cX1_remove 18 = .ok (.iload_n 1, 1) := by decide +kernel
theorem dX1_remove_19 : decode cX1_remove 19 = .ok (.imul, 1) := by decide +kernel
theorem dX1_remove_20 : decode cX1_remove 20 = .ok (.bipush 8, 2) := by decide +kernel
theorem dX1_remove_22 : decode cX1_remove 22 = .ok (.iload_n 2, 1) := by decide +kernel
theorem dX1_remove_23 : decode cX1_remove 23 = .ok (.imul, 1) := by decide +kernel
theorem dX1_remove_24 : decode cX1_remove 24 = .ok (.iadd, 1) := by decide +kernel
theorem dX1_remove_25 : decode cX1_remove 25 = .ok (.iload_n 3, 1) := by decide +kernel
theorem dX1_remove_26 : decode cX1_remove 26 = .ok (.iadd, 1) := by decide +kernel
theorem dX1_remove_27 : decode cX1_remove 27 = .ok (.iconst 0, 1) := by decide +kernel
theorem dX1_remove_28 : decode cX1_remove 28 = .ok (.bastore, 1) := by decide +kernel
theorem dX1_remove_29 : decode cX1_remove 29 = .ok (.aload_n 0, 1) := by decide +kernel
theorem dX1_remove_30 : decode cX1_remove 30 = .ok (.invokevirtual 28, 3) := by decide +kernel
theorem dX1_remove_33 : decode cX1_remove 33 = .ok (.ireturn, 1) := by decide +kernel
abbrev cX1_pattern : ByteArray := prog_3_method_6_code
def yX1_pattern : MethodName := ⟨RX1, "pattern", "(III)I"⟩
theorem dX1_pattern_0 : decode cX1_pattern 0 = .ok (.iload_n 1, 1) := by decide +kernel
theorem dX1_pattern_1 : decode cX1_pattern 1 = .ok (.bipush (-4), 2) := by decide +kernel
theorem dX1_pattern_3 : decode cX1_pattern 3 = .ok (.if_icmp .lt 41, 3) := by decide +kernel
theorem dX1_pattern_6 : decode cX1_pattern 6 = .ok (.iload_n 1, 1) := by decide +kernel
theorem dX1_pattern_7 : decode cX1_pattern 7 = .ok (.bipush 7, 2) := by decide +kernel
theorem dX1_pattern_9 : decode cX1_pattern 9 = .ok (.if_icmp .gt 35, 3) := by decide +kernel
theorem dX1_pattern_12 : decode cX1_pattern 12 = .ok (.iload_n 2, 1) := by decide +kernel
theorem dX1_pattern_13 : decode cX1_pattern 13 = .ok (.bipush (-4), 2) := by decide +kernel
theorem dX1_pattern_15 : decode cX1_pattern 15 = .ok (.if_icmp .lt 29, 3) := by decide +kernel
theorem dX1_pattern_18 : decode cX1_pattern 18 = .ok (.iload_n 2, 1) := by decide +kernel
theorem dX1_pattern_19 : decode cX1_pattern 19 = .ok (.bipush 7, 2) := by decide +kernel
theorem dX1_pattern_21 : decode cX1_pattern 21 = .ok (.if_icmp .gt 23, 3) := by decide +kernel
theorem dX1_pattern_24 : decode cX1_pattern 24 = .ok (.iload_n 3, 1) := by decide +kernel
theorem dX1_pattern_25 : decode cX1_pattern 25 = .ok (.bipush (-4), 2) := by decide +kernel
theorem dX1_pattern_27 : decode cX1_pattern 27 = .ok (.if_icmp .lt 17, 3) := by decide +kernel
theorem dX1_pattern_30 : decode cX1_pattern 30 = .ok (.iload_n 3, 1) := by decide +kernel
theorem dX1_pattern_31 : decode cX1_pattern 31 = .ok (.bipush 7, 2) := by decide +kernel
theorem dX1_pattern_33 : decode cX1_pattern 33 = .ok (.if_icmp .gt 11, 3) := by decide +kernel
theorem dX1_pattern_36 : decode cX1_pattern 36 = .ok (.aload_n 0, 1) := by decide +kernel
theorem dX1_pattern_37 : decode cX1_pattern 37 = .ok (.getfield 32, 3) := by decide +kernel
theorem dX1_pattern_40 : decode cX1_pattern 40 = .ok (.iconst 4, 1) := by decide +kernel
theorem dX1_pattern_41 : decode cX1_pattern 41 = .ok (.if_icmp .ne 5, 3) := by decide +kernel
theorem dX1_pattern_44 : decode cX1_pattern 44 = .ok (.iconst (-1), 1) := by decide +kernel
theorem dX1_pattern_45 : decode cX1_pattern 45 = .ok (.ireturn, 1) := by decide +kernel
theorem dX1_pattern_46 : decode cX1_pattern 46 = .ok (.aload_n 0, 1) := by decide +kernel
theorem dX1_pattern_47 : decode cX1_pattern 47 = .ok (.getfield 13, 3) := by decide +kernel
theorem dX1_pattern_50 : decode cX1_pattern 50 = .ok (.iconst 3, 1) := by decide +kernel
theorem dX1_pattern_51 : decode cX1_pattern 51 = .ok (.aload_n 0, 1) := by decide +kernel
theorem dX1_pattern_52 : decode cX1_pattern 52 = .ok (.getfield 32, 3) := by decide +kernel
theorem dX1_pattern_55 : decode cX1_pattern 55 = .ok (.imul, 1) := by decide +kernel
theorem dX1_pattern_56 : decode cX1_pattern 56 = .ok (.iload_n 1, 1) := by decide +kernel
theorem dX1_pattern_57 : decode cX1_pattern 57 = .ok (.iastore, 1) := by decide +kernel
theorem dX1_pattern_58 : decode cX1_pattern 58 = .ok (.aload_n 0, 1) := by decide +kernel
theorem dX1_pattern_59 : decode cX1_pattern 59 = .ok (.getfield 13, 3) := by decide +kernel
theorem dX1_pattern_62 : decode cX1_pattern 62 = .ok (.iconst 3, 1) := by decide +kernel
theorem dX1_pattern_63 : decode cX1_pattern 63 = .ok (.aload_n 0, 1) := by decide +kernel
theorem dX1_pattern_64 : decode cX1_pattern 64 = .ok (.getfield 32, 3) := by decide +kernel
theorem dX1_pattern_67 : decode cX1_pattern 67 = .ok (.imul, 1) := by decide +kernel
theorem dX1_pattern_68 : decode cX1_pattern 68 = .ok (.iconst 1, 1) := by decide +kernel
theorem dX1_pattern_69 : decode cX1_pattern 69 = .ok (.iadd, 1) := by decide +kernel
theorem dX1_pattern_70 : decode cX1_pattern 70 = .ok (.iload_n 2, 1) := by decide +kernel
theorem dX1_pattern_71 : decode cX1_pattern 71 = .ok (.iastore, 1) := by decide +kernel
theorem dX1_pattern_72 : decode cX1_pattern 72 = .ok (.aload_n 0, 1) := by decide +kernel
theorem dX1_pattern_73 : decode cX1_pattern 73 = .ok (.getfield 13, 3) := by decide +kernel
theorem dX1_pattern_76 : decode cX1_pattern 76 = .ok (.iconst 3, 1) := by decide +kernel
theorem dX1_pattern_77 : decode cX1_pattern 77 = .ok (.aload_n 0, 1) := by decide +kernel
theorem dX1_pattern_78 : decode cX1_pattern 78 = .ok (.getfield 32, 3) := by decide +kernel
theorem dX1_pattern_81 : decode cX1_pattern 81 = .ok (.imul, 1) := by decide +kernel
theorem dX1_pattern_82 : decode cX1_pattern 82 = .ok (.iconst 2, 1) := by decide +kernel
theorem dX1_pattern_83 : decode cX1_pattern 83 = .ok (.iadd, 1) := by decide +kernel
theorem dX1_pattern_84 : decode cX1_pattern 84 = .ok (.iload_n 3, 1) := by decide +kernel
theorem dX1_pattern_85 : decode cX1_pattern 85 = .ok (.iastore, 1) := by decide +kernel
theorem dX1_pattern_86 : decode cX1_pattern 86 = .ok (.aload_n 0, 1) := by decide +kernel
theorem dX1_pattern_87 : decode cX1_pattern 87 = .ok (.dup, 1) := by decide +kernel
theorem dX1_pattern_88 : decode cX1_pattern 88 = .ok (.getfield 32, 3) := by decide +kernel
theorem dX1_pattern_91 : decode cX1_pattern 91 = .ok (.iconst 1, 1) := by decide +kernel
theorem dX1_pattern_92 : decode cX1_pattern 92 = .ok (.iadd, 1) := by decide +kernel
theorem dX1_pattern_93 : decode cX1_pattern 93 = .ok (.putfield 32, 3) := by decide +kernel
theorem dX1_pattern_96 : decode cX1_pattern 96 = .ok (.aload_n 0, 1) := by decide +kernel
theorem dX1_pattern_97 : decode cX1_pattern 97 = .ok (.getfield 32, 3) := by decide +kernel
theorem dX1_pattern_100 : decode cX1_pattern 100 = .ok (.ireturn, 1) := by decide +kernel
abbrev cX1_clear : ByteArray := prog_3_method_7_code
def yX1_clear : MethodName := ⟨RX1, "clear", "()V"⟩
theorem dX1_clear_0 : decode cX1_clear 0 = .ok (.aload_n 0, 1) := by decide +kernel
theorem dX1_clear_1 : decode cX1_clear 1 = .ok (.iconst 0, 1) := by decide +kernel
theorem dX1_clear_2 : decode cX1_clear 2 = .ok (.putfield 32, 3) := by decide +kernel
theorem dX1_clear_5 : decode cX1_clear 5 = .ok (.return_, 1) := by decide +kernel
abbrev cX1_solutions : ByteArray := prog_3_method_11_code
def yX1_solutions : MethodName := ⟨RX1, "solutions", "()I"⟩
theorem dX1_solutions_0 : decode cX1_solutions 0 = .ok (.iconst 0, 1) := by decide +kernel
theorem dX1_solutions_1 : decode cX1_solutions 1 = .ok (.istore_n 1, 1) := by decide +kernel
theorem dX1_solutions_2 : decode cX1_solutions 2 = .ok (.iconst 0, 1) := by decide +kernel
theorem dX1_solutions_3 : decode cX1_solutions 3 = .ok (.istore_n 2, 1) := by decide +kernel
theorem dX1_solutions_4 : decode cX1_solutions 4 = .ok (.iload_n 2, 1) := by decide +kernel
theorem dX1_solutions_5 : decode cX1_solutions 5 = .ok (.sipush 4096, 3) := by decide +kernel
theorem dX1_solutions_8 : decode cX1_solutions 8 = .ok (.if_icmp .ge 20, 3) := by decide +kernel
theorem dX1_solutions_11 : decode cX1_solutions 11 = .ok (.aload_n 0, 1) := by decide +kernel
theorem dX1_solutions_12 : decode cX1_solutions 12 = .ok (.iload_n 2, 1) := by decide +kernel
theorem dX1_solutions_13 : decode cX1_solutions 13 = .ok (.invokevirtual 43, 3) := by decide +kernel
theorem dX1_solutions_16 : decode cX1_solutions 16 = .ok (.ifCond .eq 6, 3) := by decide +kernel
theorem dX1_solutions_19 : decode cX1_solutions 19 = .ok (.iinc 1 1, 3) := by decide +kernel
theorem dX1_solutions_22 : decode cX1_solutions 22 = .ok (.iinc 2 1, 3) := by decide +kernel
theorem dX1_solutions_25 : decode cX1_solutions 25 = .ok (.goto (-21), 3) := by decide +kernel
theorem dX1_solutions_28 : decode cX1_solutions 28 = .ok (.iload_n 1, 1) := by decide +kernel
theorem dX1_solutions_29 : decode cX1_solutions 29 = .ok (.ireturn, 1) := by decide +kernel
abbrev cX1_solves : ByteArray := prog_3_method_10_code
def yX1_solves : MethodName := ⟨RX1, "solves", "(I)Z"⟩
theorem dX1_solves_0 : decode cX1_solves 0 = .ok (.iconst 0, 1) := by decide +kernel
theorem dX1_solves_1 : decode cX1_solves 1 = .ok (.istore_n 2, 1) := by decide +kernel
theorem dX1_solves_2 : decode cX1_solves 2 = .ok (.iload_n 2, 1) := by decide +kernel
theorem dX1_solves_3 : decode cX1_solves 3 = .ok (.iconst 4, 1) := by decide +kernel
theorem dX1_solves_4 : decode cX1_solves 4 = .ok (.if_icmp .ge 45, 3) := by decide +kernel
theorem dX1_solves_7 : decode cX1_solves 7 = .ok (.aload_n 0, 1) := by decide +kernel
theorem dX1_solves_8 : decode cX1_solves 8 = .ok (.getfield 17, 3) := by decide +kernel
theorem dX1_solves_11 : decode cX1_solves 11 = .ok (.iload_n 2, 1) := by decide +kernel
theorem dX1_solves_12 : decode cX1_solves 12 = .ok (.iload_n 1, 1) := by decide +kernel
theorem dX1_solves_13 : decode cX1_solves 13 = .ok (.bipush 9, 2) := by decide +kernel
theorem dX1_solves_15 : decode cX1_solves 15 = .ok (.iconst 3, 1) := by decide +kernel
theorem dX1_solves_16 : decode cX1_solves 16 = .ok (.iload_n 2, 1) := by decide +kernel
theorem dX1_solves_17 : decode cX1_solves 17 = .ok (.imul, 1) := by decide +kernel
theorem dX1_solves_18 : decode cX1_solves 18 = .ok (.isub, 1) := by decide +kernel
theorem dX1_solves_19 : decode cX1_solves 19 = .ok (.ishr, 1) := by decide +kernel
theorem dX1_solves_20 : decode cX1_solves 20 = .ok (.bipush 7, 2) := by decide +kernel
theorem dX1_solves_22 : decode cX1_solves 22 = .ok (.iand, 1) := by decide +kernel
theorem dX1_solves_23 : decode cX1_solves 23 = .ok (.iastore, 1) := by decide +kernel
theorem dX1_solves_24 : decode cX1_solves 24 = .ok (.aload_n 0, 1) := by decide +kernel
theorem dX1_solves_25 : decode cX1_solves 25 = .ok (.getfield 17, 3) := by decide +kernel
theorem dX1_solves_28 : decode cX1_solves 28 = .ok (.iload_n 2, 1) := by decide +kernel
theorem dX1_solves_29 : decode cX1_solves 29 = .ok (.iaload, 1) := by decide +kernel
theorem dX1_solves_30 : decode cX1_solves 30 = .ok (.ifCond .le 13, 3) := by decide +kernel
theorem dX1_solves_33 : decode cX1_solves 33 = .ok (.aload_n 0, 1) := by decide +kernel
theorem dX1_solves_34 : decode cX1_solves 34 = .ok (.iload_n 2, 1) := by decide +kernel
theorem dX1_solves_35 : decode cX1_solves 35 = .ok (.invokevirtual 36, 3) := by decide +kernel
theorem dX1_solves_38 : decode cX1_solves 38 = .ok (.ifCond .ne 5, 3) := by decide +kernel
theorem dX1_solves_41 : decode cX1_solves 41 = .ok (.iconst 0, 1) := by decide +kernel
theorem dX1_solves_42 : decode cX1_solves 42 = .ok (.ireturn, 1) := by decide +kernel
theorem dX1_solves_43 : decode cX1_solves 43 = .ok (.iinc 2 1, 3) := by decide +kernel
theorem dX1_solves_46 : decode cX1_solves 46 = .ok (.goto (-44), 3) := by decide +kernel
theorem dX1_solves_49 : decode cX1_solves 49 = .ok (.iconst 0, 1) := by decide +kernel
theorem dX1_solves_50 : decode cX1_solves 50 = .ok (.istore_n 2, 1) := by decide +kernel
theorem dX1_solves_51 : decode cX1_solves 51 = .ok (.iload_n 2, 1) := by decide +kernel
theorem dX1_solves_52 : decode cX1_solves 52 = .ok (.aload_n 0, 1) := by decide +kernel
theorem dX1_solves_53 : decode cX1_solves 53 = .ok (.getfield 32, 3) := by decide +kernel
theorem dX1_solves_56 : decode cX1_solves 56 = .ok (.if_icmp .ge 62, 3) := by decide +kernel
theorem dX1_solves_59 : decode cX1_solves 59 = .ok (.aload_n 0, 1) := by decide +kernel
theorem dX1_solves_60 : decode cX1_solves 60 = .ok (.iconst 3, 1) := by decide +kernel
theorem dX1_solves_61 : decode cX1_solves 61 = .ok (.iload_n 2, 1) := by decide +kernel
theorem dX1_solves_62 : decode cX1_solves 62 = .ok (.imul, 1) := by decide +kernel
theorem dX1_solves_63 : decode cX1_solves 63 = .ok (.invokevirtual 39, 3) := by decide +kernel
theorem dX1_solves_66 : decode cX1_solves 66 = .ok (.istore_n 3, 1) := by decide +kernel
theorem dX1_solves_67 : decode cX1_solves 67 = .ok (.aload_n 0, 1) := by decide +kernel
theorem dX1_solves_68 : decode cX1_solves 68 = .ok (.iconst 3, 1) := by decide +kernel
theorem dX1_solves_69 : decode cX1_solves 69 = .ok (.iload_n 2, 1) := by decide +kernel
theorem dX1_solves_70 : decode cX1_solves 70 = .ok (.imul, 1) := by decide +kernel
theorem dX1_solves_71 : decode cX1_solves 71 = .ok (.iconst 1, 1) := by decide +kernel
theorem dX1_solves_72 : decode cX1_solves 72 = .ok (.iadd, 1) := by decide +kernel
theorem dX1_solves_73 : decode cX1_solves 73 = .ok (.invokevirtual 39, 3) := by decide +kernel
theorem dX1_solves_76 : decode cX1_solves 76 = .ok (.istore 4, 2) := by decide +kernel
theorem dX1_solves_78 : decode cX1_solves 78 = .ok (.aload_n 0, 1) := by decide +kernel
theorem dX1_solves_79 : decode cX1_solves 79 = .ok (.iconst 3, 1) := by decide +kernel
theorem dX1_solves_80 : decode cX1_solves 80 = .ok (.iload_n 2, 1) := by decide +kernel
theorem dX1_solves_81 : decode cX1_solves 81 = .ok (.imul, 1) := by decide +kernel
theorem dX1_solves_82 : decode cX1_solves 82 = .ok (.iconst 2, 1) := by decide +kernel
theorem dX1_solves_83 : decode cX1_solves 83 = .ok (.iadd, 1) := by decide +kernel
theorem dX1_solves_84 : decode cX1_solves 84 = .ok (.invokevirtual 39, 3) := by decide +kernel
theorem dX1_solves_87 : decode cX1_solves 87 = .ok (.istore 5, 2) := by decide +kernel
theorem dX1_solves_89 : decode cX1_solves 89 = .ok (.aload_n 0, 1) := by decide +kernel
theorem dX1_solves_90 : decode cX1_solves 90 = .ok (.getfield 7, 3) := by decide +kernel
theorem dX1_solves_93 : decode cX1_solves 93 = .ok (.bipush 64, 2) := by decide +kernel
theorem dX1_solves_95 : decode cX1_solves 95 = .ok (.iload_n 3, 1) := by decide +kernel
theorem dX1_solves_96 : decode cX1_solves 96 = .ok (.imul, 1) := by decide +kernel
theorem dX1_solves_97 : decode cX1_solves 97 = .ok (.bipush 8, 2) := by decide +kernel
theorem dX1_solves_99 : decode cX1_solves 99 = .ok (.iload 4, 2) := by decide +kernel
theorem dX1_solves_101 : decode cX1_solves 101 = .ok (.imul, 1) := by decide +kernel
theorem dX1_solves_102 : decode cX1_solves 102 = .ok (.iadd, 1) := by decide +kernel
theorem dX1_solves_103 : decode cX1_solves 103 = .ok (.iload 5, 2) := by decide +kernel
theorem dX1_solves_105 : decode cX1_solves 105 = .ok (.iadd, 1) := by decide +kernel
theorem dX1_solves_106 : decode cX1_solves 106 = .ok (.baload, 1) := by decide +kernel
theorem dX1_solves_107 : decode cX1_solves 107 = .ok (.ifCond .ne 5, 3) := by decide +kernel
theorem dX1_solves_110 : decode cX1_solves 110 = .ok (.iconst 0, 1) := by decide +kernel
theorem dX1_solves_111 : decode cX1_solves 111 = .ok (.ireturn, 1) := by decide +kernel
theorem dX1_solves_112 : decode cX1_solves 112 = .ok (.iinc 2 1, 3) := by decide +kernel
theorem dX1_solves_115 : decode cX1_solves 115 = .ok (.goto (-64), 3) := by decide +kernel
theorem dX1_solves_118 : decode cX1_solves 118 = .ok (.iconst 1, 1) := by decide +kernel
theorem dX1_solves_119 : decode cX1_solves 119 = .ok (.ireturn, 1) := by decide +kernel
abbrev cX1_stands : ByteArray := prog_3_method_8_code
def yX1_stands : MethodName := ⟨RX1, "stands", "(I)Z"⟩
theorem dX1_stands_0 : decode cX1_stands 0 = .ok (.iconst 0, 1) := by decide +kernel
theorem dX1_stands_1 : decode cX1_stands 1 = .ok (.istore_n 2, 1) := by decide +kernel
theorem dX1_stands_2 : decode cX1_stands 2 = .ok (.iload_n 2, 1) := by decide +kernel
theorem dX1_stands_3 : decode cX1_stands 3 = .ok (.iconst 3, 1) := by decide +kernel
theorem dX1_stands_4 : decode cX1_stands 4 = .ok (.aload_n 0, 1) := by decide +kernel
theorem dX1_stands_5 : decode cX1_stands 5 = .ok (.getfield 32, 3) := by decide +kernel
theorem dX1_stands_8 : decode cX1_stands 8 = .ok (.imul, 1) := by decide +kernel
theorem dX1_stands_9 : decode cX1_stands 9 = .ok (.if_icmp .ge 23, 3) := by decide +kernel
theorem dX1_stands_12 : decode cX1_stands 12 = .ok (.aload_n 0, 1) := by decide +kernel
theorem dX1_stands_13 : decode cX1_stands 13 = .ok (.getfield 13, 3) := by decide +kernel
theorem dX1_stands_16 : decode cX1_stands 16 = .ok (.iload_n 2, 1) := by decide +kernel
theorem dX1_stands_17 : decode cX1_stands 17 = .ok (.iaload, 1) := by decide +kernel
theorem dX1_stands_18 : decode cX1_stands 18 = .ok (.iconst (-1), 1) := by decide +kernel
theorem dX1_stands_19 : decode cX1_stands 19 = .ok (.iload_n 1, 1) := by decide +kernel
theorem dX1_stands_20 : decode cX1_stands 20 = .ok (.isub, 1) := by decide +kernel
theorem dX1_stands_21 : decode cX1_stands 21 = .ok (.if_icmp .ne 5, 3) := by decide +kernel
theorem dX1_stands_24 : decode cX1_stands 24 = .ok (.iconst 1, 1) := by decide +kernel
theorem dX1_stands_25 : decode cX1_stands 25 = .ok (.ireturn, 1) := by decide +kernel
theorem dX1_stands_26 : decode cX1_stands 26 = .ok (.iinc 2 1, 3) := by decide +kernel
theorem dX1_stands_29 : decode cX1_stands 29 = .ok (.goto (-27), 3) := by decide +kernel
theorem dX1_stands_32 : decode cX1_stands 32 = .ok (.iconst 0, 1) := by decide +kernel
theorem dX1_stands_33 : decode cX1_stands 33 = .ok (.ireturn, 1) := by decide +kernel
abbrev cX1_filled : ByteArray := prog_3_method_9_code
def yX1_filled : MethodName := ⟨RX1, "filled", "(I)I"⟩
theorem dX1_filled_0 : decode cX1_filled 0 = .ok (.aload_n 0, 1) := by decide +kernel
theorem dX1_filled_1 : decode cX1_filled 1 = .ok (.getfield 13, 3) := by decide +kernel
theorem dX1_filled_4 : decode cX1_filled 4 = .ok (.iload_n 1, 1) := by decide +kernel
theorem dX1_filled_5 : decode cX1_filled 5 = .ok (.iaload, 1) := by decide +kernel
theorem dX1_filled_6 : decode cX1_filled 6 = .ok (.ifCond .lt 12, 3) := by decide +kernel
theorem dX1_filled_9 : decode cX1_filled 9 = .ok (.aload_n 0, 1) := by decide +kernel
theorem dX1_filled_10 : decode cX1_filled 10 = .ok (.getfield 13, 3) := by decide +kernel
theorem dX1_filled_13 : decode cX1_filled 13 = .ok (.iload_n 1, 1) := by decide +kernel
theorem dX1_filled_14 : decode cX1_filled 14 = .ok (.iaload, 1) := by decide +kernel
theorem dX1_filled_15 : decode cX1_filled 15 = .ok (.goto 16, 3) := by decide +kernel
theorem dX1_filled_18 : decode cX1_filled 18 = .ok (.aload_n 0, 1) := by decide +kernel
theorem dX1_filled_19 : decode cX1_filled 19 = .ok (.getfield 17, 3) := by decide +kernel
theorem dX1_filled_22 : decode cX1_filled 22 = .ok (.iconst (-1), 1) := by decide +kernel
theorem dX1_filled_23 : decode cX1_filled 23 = .ok (.aload_n 0, 1) := by decide +kernel
theorem dX1_filled_24 : decode cX1_filled 24 = .ok (.getfield 13, 3) := by decide +kernel
theorem dX1_filled_27 : decode cX1_filled 27 = .ok (.iload_n 1, 1) := by decide +kernel
theorem dX1_filled_28 : decode cX1_filled 28 = .ok (.iaload, 1) := by decide +kernel
theorem dX1_filled_29 : decode cX1_filled 29 = .ok (.isub, 1) := by decide +kernel
theorem dX1_filled_30 : decode cX1_filled 30 = .ok (.iaload, 1) := by decide +kernel
theorem dX1_filled_31 : decode cX1_filled 31 = .ok (.ireturn, 1) := by decide +kernel
abbrev cX1_solution : ByteArray := prog_3_method_13_code
def yX1_solution : MethodName := ⟨RX1, "solution", "(II)I"⟩
theorem dX1_solution_0 : decode cX1_solution 0 = .ok (.aload_n 0, 1) := by decide +kernel
theorem dX1_solution_1 : decode cX1_solution 1 = .ok (.iload_n 2, 1) := by decide +kernel
theorem dX1_solution_2 : decode cX1_solution 2 = .ok (.invokevirtual 46, 3) := by decide +kernel
theorem dX1_solution_5 : decode cX1_solution 5 = .ok (.ifCond .eq 5, 3) := by decide +kernel
theorem dX1_solution_8 : decode cX1_solution 8 = .ok (.iconst (-1), 1) := by decide +kernel
theorem dX1_solution_9 : decode cX1_solution 9 = .ok (.ireturn, 1) := by decide +kernel
theorem dX1_solution_10 : decode cX1_solution 10 = .ok (.iconst 0, 1) := by decide +kernel
theorem dX1_solution_11 : decode cX1_solution 11 = .ok (.istore_n 3, 1) := by decide +kernel
theorem dX1_solution_12 : decode cX1_solution 12 = .ok (.iconst 0, 1) := by decide +kernel
theorem dX1_solution_13 : decode cX1_solution 13 = .ok (.istore 4, 2) := by decide +kernel
theorem dX1_solution_15 : decode cX1_solution 15 = .ok (.iload 4, 2) := by decide +kernel
theorem dX1_solution_17 : decode cX1_solution 17 = .ok (.sipush 4096, 3) := by decide +kernel
theorem dX1_solution_20 : decode cX1_solution 20 = .ok (.if_icmp .ge 35, 3) := by decide +kernel
theorem dX1_solution_23 : decode cX1_solution 23 = .ok (.aload_n 0, 1) := by decide +kernel
theorem dX1_solution_24 : decode cX1_solution 24 = .ok (.iload 4, 2) := by decide +kernel
theorem dX1_solution_26 : decode cX1_solution 26 = .ok (.invokevirtual 43, 3) := by decide +kernel
theorem dX1_solution_29 : decode cX1_solution 29 = .ok (.ifCond .eq 20, 3) := by decide +kernel
theorem dX1_solution_32 : decode cX1_solution 32 = .ok (.iload_n 3, 1) := by decide +kernel
theorem dX1_solution_33 : decode cX1_solution 33 = .ok (.iload_n 1, 1) := by decide +kernel
theorem dX1_solution_34 : decode cX1_solution 34 = .ok (.if_icmp .ne 12, 3) := by decide +kernel
theorem dX1_solution_37 : decode cX1_solution 37 = .ok (.aload_n 0, 1) := by decide +kernel
theorem dX1_solution_38 : decode cX1_solution 38 = .ok (.getfield 17, 3) := by decide +kernel
theorem dX1_solution_41 : decode cX1_solution 41 = .ok (.iconst (-1), 1) := by decide +kernel
theorem dX1_solution_42 : decode cX1_solution 42 = .ok (.iload_n 2, 1) := by decide +kernel
theorem dX1_solution_43 : decode cX1_solution 43 = .ok (.isub, 1) := by decide +kernel
theorem dX1_solution_44 : decode cX1_solution 44 = .ok (.iaload, 1) := by decide +kernel
theorem dX1_solution_45 : decode cX1_solution 45 = .ok (.ireturn, 1) := by decide +kernel
theorem dX1_solution_46 : decode cX1_solution 46 = .ok (.iinc 3 1, 3) := by decide +kernel
theorem dX1_solution_49 : decode cX1_solution 49 = .ok (.iinc 4 1, 3) := by decide +kernel
theorem dX1_solution_52 : decode cX1_solution 52 = .ok (.goto (-37), 3) := by decide +kernel
theorem dX1_solution_55 : decode cX1_solution 55 = .ok (.iconst (-1), 1) := by decide +kernel
theorem dX1_solution_56 : decode cX1_solution 56 = .ok (.ireturn, 1) := by decide +kernel
abbrev cX1_missing : ByteArray := prog_3_method_12_code
def yX1_missing : MethodName := ⟨RX1, "missing", "(I)Z"⟩
theorem dX1_missing_0 : decode cX1_missing 0 = .ok (.iload_n 1, 1) := by decide +kernel
theorem dX1_missing_1 : decode cX1_missing 1 = .ok (.bipush (-4), 2) := by decide +kernel
theorem dX1_missing_3 : decode cX1_missing 3 = .ok (.if_icmp .lt 18, 3) := by decide +kernel
theorem dX1_missing_6 : decode cX1_missing 6 = .ok (.iload_n 1, 1) := by decide +kernel
theorem dX1_missing_7 : decode cX1_missing 7 = .ok (.iconst (-1), 1) := by decide +kernel
theorem dX1_missing_8 : decode cX1_missing 8 = .ok (.if_icmp .gt 13, 3) := by decide +kernel
theorem dX1_missing_11 : decode cX1_missing 11 = .ok (.aload_n 0, 1) := by decide +kernel
theorem dX1_missing_12 : decode cX1_missing 12 = .ok (.iconst (-1), 1) := by decide +kernel
theorem dX1_missing_13 : decode cX1_missing 13 = .ok (.iload_n 1, 1) := by decide +kernel
theorem dX1_missing_14 : decode cX1_missing 14 = .ok (.isub, 1) := by decide +kernel
theorem dX1_missing_15 : decode cX1_missing 15 = .ok (.invokevirtual 36, 3) := by decide +kernel
theorem dX1_missing_18 : decode cX1_missing 18 = .ok (.ifCond .ne 7, 3) := by decide +kernel
theorem dX1_missing_21 : decode cX1_missing 21 = .ok (.iconst 1, 1) := by decide +kernel
theorem dX1_missing_22 : decode cX1_missing 22 = .ok (.goto 4, 3) := by decide +kernel
theorem dX1_missing_25 : decode cX1_missing 25 = .ok (.iconst 0, 1) := by decide +kernel
theorem dX1_missing_26 : decode cX1_missing 26 = .ok (.ireturn, 1) := by decide +kernel
abbrev cX1_with : ByteArray := prog_3_method_14_code
def yX1_with : MethodName := ⟨RX1, "with", "(II)I"⟩
theorem dX1_with_0 : decode cX1_with 0 = .ok (.aload_n 0, 1) := by decide +kernel
theorem dX1_with_1 : decode cX1_with 1 = .ok (.iload_n 1, 1) := by decide +kernel
theorem dX1_with_2 : decode cX1_with 2 = .ok (.invokevirtual 46, 3) := by decide +kernel
theorem dX1_with_5 : decode cX1_with 5 = .ok (.ifCond .eq 5, 3) := by decide +kernel
theorem dX1_with_8 : decode cX1_with 8 = .ok (.iconst (-1), 1) := by decide +kernel
theorem dX1_with_9 : decode cX1_with 9 = .ok (.ireturn, 1) := by decide +kernel
theorem dX1_with_10 : decode cX1_with 10 = .ok (.iconst 0, 1) := by decide +kernel
theorem dX1_with_11 : decode cX1_with 11 = .ok (.istore_n 3, 1) := by decide +kernel
theorem dX1_with_12 : decode cX1_with 12 = .ok (.iconst 0, 1) := by decide +kernel
theorem dX1_with_13 : decode cX1_with 13 = .ok (.istore 4, 2) := by decide +kernel
theorem dX1_with_15 : decode cX1_with 15 = .ok (.iload 4, 2) := by decide +kernel
theorem dX1_with_17 : decode cX1_with 17 = .ok (.sipush 4096, 3) := by decide +kernel
theorem dX1_with_20 : decode cX1_with 20 = .ok (.if_icmp .ge 33, 3) := by decide +kernel
theorem dX1_with_23 : decode cX1_with 23 = .ok (.aload_n 0, 1) := by decide +kernel
theorem dX1_with_24 : decode cX1_with 24 = .ok (.iload 4, 2) := by decide +kernel
theorem dX1_with_26 : decode cX1_with 26 = .ok (.invokevirtual 43, 3) := by decide +kernel
theorem dX1_with_29 : decode cX1_with 29 = .ok (.ifCond .eq 18, 3) := by decide +kernel
theorem dX1_with_32 : decode cX1_with 32 = .ok (.aload_n 0, 1) := by decide +kernel
theorem dX1_with_33 : decode cX1_with 33 = .ok (.getfield 17, 3) := by decide +kernel
theorem dX1_with_36 : decode cX1_with 36 = .ok (.iconst (-1), 1) := by decide +kernel
theorem dX1_with_37 : decode cX1_with 37 = .ok (.iload_n 1, 1) := by decide +kernel
theorem dX1_with_38 : decode cX1_with 38 = .ok (.isub, 1) := by decide +kernel
theorem dX1_with_39 : decode cX1_with 39 = .ok (.iaload, 1) := by decide +kernel
theorem dX1_with_40 : decode cX1_with 40 = .ok (.iload_n 2, 1) := by decide +kernel
theorem dX1_with_41 : decode cX1_with 41 = .ok (.if_icmp .ne 6, 3) := by decide +kernel
theorem dX1_with_44 : decode cX1_with 44 = .ok (.iinc 3 1, 3) := by decide +kernel
theorem dX1_with_47 : decode cX1_with 47 = .ok (.iinc 4 1, 3) := by decide +kernel
theorem dX1_with_50 : decode cX1_with 50 = .ok (.goto (-35), 3) := by decide +kernel
theorem dX1_with_53 : decode cX1_with 53 = .ok (.iload_n 3, 1) := by decide +kernel
theorem dX1_with_54 : decode cX1_with 54 = .ok (.ireturn, 1) := by decide +kernel
abbrev cX1_values : ByteArray := prog_3_method_15_code
def yX1_values : MethodName := ⟨RX1, "values", "(I)I"⟩
theorem dX1_values_0 : decode cX1_values 0 = .ok (.aload_n 0, 1) := by decide +kernel
theorem dX1_values_1 : decode cX1_values 1 = .ok (.iload_n 1, 1) := by decide +kernel
theorem dX1_values_2 : decode cX1_values 2 = .ok (.invokevirtual 46, 3) := by decide +kernel
theorem dX1_values_5 : decode cX1_values 5 = .ok (.ifCond .eq 5, 3) := by decide +kernel
theorem dX1_values_8 : decode cX1_values 8 = .ok (.iconst (-1), 1) := by decide +kernel
theorem dX1_values_9 : decode cX1_values 9 = .ok (.ireturn, 1) := by decide +kernel
theorem dX1_values_10 : decode cX1_values 10 = .ok (.iconst 0, 1) := by decide +kernel
theorem dX1_values_11 : decode cX1_values 11 = .ok (.istore_n 2, 1) := by decide +kernel
theorem dX1_values_12 : decode cX1_values 12 = .ok (.iconst 0, 1) := by decide +kernel
theorem dX1_values_13 : decode cX1_values 13 = .ok (.istore_n 3, 1) := by decide +kernel
theorem dX1_values_14 : decode cX1_values 14 = .ok (.iload_n 3, 1) := by decide +kernel
theorem dX1_values_15 : decode cX1_values 15 = .ok (.bipush 8, 2) := by decide +kernel
theorem dX1_values_17 : decode cX1_values 17 = .ok (.if_icmp .ge 21, 3) := by decide +kernel
theorem dX1_values_20 : decode cX1_values 20 = .ok (.aload_n 0, 1) := by decide +kernel
theorem dX1_values_21 : decode cX1_values 21 = .ok (.iload_n 1, 1) := by decide +kernel
theorem dX1_values_22 : decode cX1_values 22 = .ok (.iload_n 3, 1) := by decide +kernel
theorem dX1_values_23 : decode cX1_values 23 = .ok (.invokevirtual 49, 3) := by decide +kernel
theorem dX1_values_26 : decode cX1_values 26 = .ok (.ifCond .le 6, 3) := by decide +kernel
theorem dX1_values_29 : decode cX1_values 29 = .ok (.iinc 2 1, 3) := by decide +kernel
theorem dX1_values_32 : decode cX1_values 32 = .ok (.iinc 3 1, 3) := by decide +kernel
theorem dX1_values_35 : decode cX1_values 35 = .ok (.goto (-21), 3) := by decide +kernel
theorem dX1_values_38 : decode cX1_values 38 = .ok (.iload_n 2, 1) := by decide +kernel
theorem dX1_values_39 : decode cX1_values 39 = .ok (.ireturn, 1) := by decide +kernel
abbrev cX1_count : ByteArray := prog_3_method_17_code
def yX1_count : MethodName := ⟨RX1, "count", "(III)I"⟩
theorem dX1_count_0 : decode cX1_count 0 = .ok (.iconst 0, 1) := by decide +kernel
theorem dX1_count_1 : decode cX1_count 1 = .ok (.istore 4, 2) := by decide +kernel
theorem dX1_count_3 : decode cX1_count 3 = .ok (.iconst 0, 1) := by decide +kernel
theorem dX1_count_4 : decode cX1_count 4 = .ok (.istore 5, 2) := by decide +kernel
theorem dX1_count_6 : decode cX1_count 6 = .ok (.iload 5, 2) := by decide +kernel
theorem dX1_count_8 : decode cX1_count 8 = .ok (.sipush 512, 3) := by decide +kernel
theorem dX1_count_11 : decode cX1_count 11 = .ok (.if_icmp .ge 61, 3) := by decide +kernel
theorem dX1_count_14 : decode cX1_count 14 = .ok (.aload_n 0, 1) := by decide +kernel
theorem dX1_count_15 : decode cX1_count 15 = .ok (.getfield 7, 3) := by decide +kernel
theorem dX1_count_18 : decode cX1_count 18 = .ok (.iload 5, 2) := by decide +kernel
theorem dX1_count_20 : decode cX1_count 20 = .ok (.baload, 1) := by decide +kernel
theorem dX1_count_21 : decode cX1_count 21 = .ok (.ifCond .eq 45, 3) := by decide +kernel
theorem dX1_count_24 : decode cX1_count 24 = .ok (.iload_n 1, 1) := by decide +kernel
theorem dX1_count_25 : decode cX1_count 25 = .ok (.iload 5, 2) := by decide +kernel
theorem dX1_count_27 : decode cX1_count 27 = .ok (.bipush 64, 2) := by decide +kernel
theorem dX1_count_29 : decode cX1_count 29 = .ok (.idiv, 1) := by decide +kernel
theorem dX1_count_30 : decode cX1_count 30 = .ok (.invokestatic 53, 3) := by decide +kernel
theorem dX1_count_33 : decode cX1_count 33 = .ok (.ifCond .eq 33, 3) := by decide +kernel
theorem dX1_count_36 : decode cX1_count 36 = .ok (.iload_n 2, 1) := by decide +kernel
theorem dX1_count_37 : decode cX1_count 37 = .ok (.iload 5, 2) := by decide +kernel
theorem dX1_count_39 : decode cX1_count 39 = .ok (.bipush 8, 2) := by decide +kernel
theorem dX1_count_41 : decode cX1_count 41 = .ok (.idiv, 1) := by decide +kernel
theorem dX1_count_42 : decode cX1_count 42 = .ok (.bipush 8, 2) := by decide +kernel
theorem dX1_count_44 : decode cX1_count 44 = .ok (.irem, 1) := by decide +kernel
theorem dX1_count_45 : decode cX1_count 45 = .ok (.invokestatic 53, 3) := by decide +kernel
theorem dX1_count_48 : decode cX1_count 48 = .ok (.ifCond .eq 18, 3) := by decide +kernel
theorem dX1_count_51 : decode cX1_count 51 = .ok (.iload_n 3, 1) := by decide +kernel
theorem dX1_count_52 : decode cX1_count 52 = .ok (.iload 5, 2) := by decide +kernel
theorem dX1_count_54 : decode cX1_count 54 = .ok (.bipush 8, 2) := by decide +kernel
theorem dX1_count_56 : decode cX1_count 56 = .ok (.irem, 1) := by decide +kernel
theorem dX1_count_57 : decode cX1_count 57 = .ok (.invokestatic 53, 3) := by decide +kernel
theorem dX1_count_60 : decode cX1_count 60 = .ok (.ifCond .eq 6, 3) := by decide +kernel
theorem dX1_count_63 : decode cX1_count 63 = .ok (.iinc 4 1, 3) := by decide +kernel
theorem dX1_count_66 : decode cX1_count 66 = .ok (.iinc 5 1, 3) := by decide +kernel
theorem dX1_count_69 : decode cX1_count 69 = .ok (.goto (-63), 3) := by decide +kernel
theorem dX1_count_72 : decode cX1_count 72 = .ok (.iload 4, 2) := by decide +kernel
theorem dX1_count_74 : decode cX1_count 74 = .ok (.ireturn, 1) := by decide +kernel
abbrev cX1_agrees : ByteArray := prog_3_method_16_code
def yX1_agrees : MethodName := ⟨RX1, "agrees", "(II)Z"⟩
theorem dX1_agrees_0 : decode cX1_agrees 0 = .ok (.iload_n 0, 1) := by decide +kernel
theorem dX1_agrees_1 : decode cX1_agrees 1 = .ok (.invokestatic 24, 3) := by decide +kernel
theorem dX1_agrees_4 : decode cX1_agrees 4 = .ok (.ifCond .ne 8, 3) := by decide +kernel
theorem dX1_agrees_7 : decode cX1_agrees 7 = .ok (.iload_n 0, 1) := by decide +kernel
theorem dX1_agrees_8 : decode cX1_agrees 8 = .ok (.iload_n 1, 1) := by decide +kernel
theorem dX1_agrees_9 : decode cX1_agrees 9 = .ok (.if_icmp .ne 7, 3) := by decide +kernel
theorem dX1_agrees_12 : decode cX1_agrees 12 = .ok (.iconst 1, 1) := by decide +kernel
theorem dX1_agrees_13 : decode cX1_agrees 13 = .ok (.goto 4, 3) := by decide +kernel
theorem dX1_agrees_16 : decode cX1_agrees 16 = .ok (.iconst 0, 1) := by decide +kernel
theorem dX1_agrees_17 : decode cX1_agrees 17 = .ok (.ireturn, 1) := by decide +kernel
theorem q19 : (Jvm.Cond.initialized "TripleJoinModel") ∈ lw_all := lw_g (lw_at lw_m1 2 rfl) rfl
theorem q171 : (Jvm.Cond.instantiable "TripleJoinModel" (4 : Nat)) ∈ lw_all := lw_g (lw_at lw_m1 154 rfl) rfl
theorem q173 : (Jvm.Cond.instanceMethod ({ cls := "TripleJoinModel", name := "<init>", desc := "()V" } : Jvm.MethodName)) ∈ lw_all := lw_g (lw_at lw_m1 156 rfl) rfl
theorem q174 : (Jvm.Cond.code ({ cls := "TripleJoinModel", name := "<init>", desc := "()V" } : Jvm.MethodName) prog_3_method_1_code (1 : Nat) (Option.none : Option Jvm.ClassFile.FieldType)) ∈ lw_all := lw_g (lw_at lw_m1 157 rfl) rfl
theorem q175 : (Jvm.Cond.methodLink "TripleJoinModel" (1 : Nat) ({ cls := "java/lang/Object", name := "<init>", desc := "()V" } : Jvm.MethodName)) ∈ lw_all := lw_g (lw_at lw_m1 158 rfl) rfl
theorem q176 : (Jvm.Cond.fieldLink "TripleJoinModel" (7 : Nat) "TripleJoinModel" "facts" "[Z") ∈ lw_all := lw_g (lw_at lw_m1 159 rfl) rfl
theorem q177 : (Jvm.Cond.fieldLink "TripleJoinModel" (32 : Nat) "TripleJoinModel" "patterns" "I") ∈ lw_all := lw_g (lw_at lw_m1 160 rfl) rfl
theorem q178 : (Jvm.Cond.fieldLink "TripleJoinModel" (13 : Nat) "TripleJoinModel" "places" "[I") ∈ lw_all := lw_g (lw_at lw_m1 161 rfl) rfl
theorem q179 : (Jvm.Cond.fieldLink "TripleJoinModel" (17 : Nat) "TripleJoinModel" "tried" "[I") ∈ lw_all := lw_g (lw_at lw_m1 162 rfl) rfl
theorem q180 : (Jvm.Cond.laysFinal "TripleJoinModel" "TripleJoinModel" "facts" "[Z") ∈ lw_all := lw_g (lw_at lw_m1 163 rfl) rfl
theorem q181 : (Jvm.Cond.soleField "TripleJoinModel" "facts") ∈ lw_all := lw_g (lw_at lw_m1 164 rfl) rfl
theorem q182 : (Jvm.Cond.lays "TripleJoinModel" "TripleJoinModel" "patterns" "I") ∈ lw_all := lw_g (lw_at lw_m1 165 rfl) rfl
theorem q183 : (Jvm.Cond.soleField "TripleJoinModel" "patterns") ∈ lw_all := lw_g (lw_at lw_m1 166 rfl) rfl
theorem q184 : (Jvm.Cond.laysFinal "TripleJoinModel" "TripleJoinModel" "places" "[I") ∈ lw_all := lw_g (lw_at lw_m1 167 rfl) rfl
theorem q185 : (Jvm.Cond.soleField "TripleJoinModel" "places") ∈ lw_all := lw_g (lw_at lw_m1 168 rfl) rfl
theorem q186 : (Jvm.Cond.laysFinal "TripleJoinModel" "TripleJoinModel" "tried" "[I") ∈ lw_all := lw_g (lw_at lw_m1 169 rfl) rfl
theorem q187 : (Jvm.Cond.soleField "TripleJoinModel" "tried") ∈ lw_all := lw_g (lw_at lw_m1 170 rfl) rfl
theorem q188 : (Jvm.Cond.superclass "TripleJoinModel" "java/lang/Object") ∈ lw_all := lw_g (lw_at lw_m1 171 rfl) rfl
theorem q191 : (Jvm.Cond.instanceMethod ({ cls := "TripleJoinModel", name := "add", desc := "(III)I" } : Jvm.MethodName)) ∈ lw_all := lw_g (lw_at lw_m1 174 rfl) rfl
theorem q192 : (Jvm.Cond.selects "TripleJoinModel" ({ cls := "TripleJoinModel", name := "add", desc := "(III)I" } : Jvm.MethodName) ({ cls := "TripleJoinModel", name := "add", desc := "(III)I" } : Jvm.MethodName)) ∈ lw_all := lw_g (lw_at lw_m1 175 rfl) rfl
theorem q193 : (Jvm.Cond.code ({ cls := "TripleJoinModel", name := "add", desc := "(III)I" } : Jvm.MethodName) prog_3_method_4_code (4 : Nat) (Option.some Jvm.ClassFile.FieldType.int)) ∈ lw_all := lw_g (lw_at lw_m1 176 rfl) rfl
theorem q194 : (Jvm.Cond.methodLink "TripleJoinModel" (20 : Nat) ({ cls := "TripleJoinModel", name := "has", desc := "(III)I" } : Jvm.MethodName)) ∈ lw_all := lw_g (lw_at lw_m1 177 rfl) rfl
theorem q195 : (Jvm.Cond.instanceMethod ({ cls := "TripleJoinModel", name := "has", desc := "(III)I" } : Jvm.MethodName)) ∈ lw_all := lw_g (lw_at lw_m1 178 rfl) rfl
theorem q196 : (Jvm.Cond.selects "TripleJoinModel" ({ cls := "TripleJoinModel", name := "has", desc := "(III)I" } : Jvm.MethodName) ({ cls := "TripleJoinModel", name := "has", desc := "(III)I" } : Jvm.MethodName)) ∈ lw_all := lw_g (lw_at lw_m1 179 rfl) rfl
theorem q197 : (Jvm.Cond.code ({ cls := "TripleJoinModel", name := "has", desc := "(III)I" } : Jvm.MethodName) prog_3_method_18_code (4 : Nat) (Option.some Jvm.ClassFile.FieldType.int)) ∈ lw_all := lw_g (lw_at lw_m1 180 rfl) rfl
theorem q198 : (Jvm.Cond.methodLink "TripleJoinModel" (24 : Nat) ({ cls := "TripleJoinModel", name := "outside", desc := "(I)Z" } : Jvm.MethodName)) ∈ lw_all := lw_g (lw_at lw_m1 181 rfl) rfl
theorem q199 : (Jvm.Cond.static ({ cls := "TripleJoinModel", name := "outside", desc := "(I)Z" } : Jvm.MethodName)) ∈ lw_all := lw_g (lw_at lw_m1 182 rfl) rfl
theorem q200 : (Jvm.Cond.code ({ cls := "TripleJoinModel", name := "outside", desc := "(I)Z" } : Jvm.MethodName) prog_3_method_2_code (1 : Nat) (Option.some Jvm.ClassFile.FieldType.boolean)) ∈ lw_all := lw_g (lw_at lw_m1 183 rfl) rfl
theorem q201 : (Jvm.Cond.methodLink "TripleJoinModel" (28 : Nat) ({ cls := "TripleJoinModel", name := "held", desc := "()I" } : Jvm.MethodName)) ∈ lw_all := lw_g (lw_at lw_m1 184 rfl) rfl
theorem q202 : (Jvm.Cond.privateMethod ({ cls := "TripleJoinModel", name := "held", desc := "()I" } : Jvm.MethodName)) ∈ lw_tbl := lw_at lw_m1 185 rfl
theorem q203 : (Jvm.Cond.instanceMethod ({ cls := "TripleJoinModel", name := "held", desc := "()I" } : Jvm.MethodName)) ∈ lw_all := lw_g (lw_at lw_m1 186 rfl) rfl
theorem q204 : (Jvm.Cond.code ({ cls := "TripleJoinModel", name := "held", desc := "()I" } : Jvm.MethodName) prog_3_method_3_code (3 : Nat) (Option.some Jvm.ClassFile.FieldType.int)) ∈ lw_all := lw_g (lw_at lw_m1 187 rfl) rfl
theorem q206 : (Jvm.Cond.instanceMethod ({ cls := "TripleJoinModel", name := "remove", desc := "(III)I" } : Jvm.MethodName)) ∈ lw_all := lw_g (lw_at lw_m1 189 rfl) rfl
theorem q207 : (Jvm.Cond.selects "TripleJoinModel" ({ cls := "TripleJoinModel", name := "remove", desc := "(III)I" } : Jvm.MethodName) ({ cls := "TripleJoinModel", name := "remove", desc := "(III)I" } : Jvm.MethodName)) ∈ lw_all := lw_g (lw_at lw_m1 190 rfl) rfl
theorem q208 : (Jvm.Cond.code ({ cls := "TripleJoinModel", name := "remove", desc := "(III)I" } : Jvm.MethodName) prog_3_method_5_code (4 : Nat) (Option.some Jvm.ClassFile.FieldType.int)) ∈ lw_all := lw_g (lw_at lw_m1 191 rfl) rfl
theorem q210 : (Jvm.Cond.instanceMethod ({ cls := "TripleJoinModel", name := "pattern", desc := "(III)I" } : Jvm.MethodName)) ∈ lw_all := lw_g (lw_at lw_m1 193 rfl) rfl
theorem q211 : (Jvm.Cond.selects "TripleJoinModel" ({ cls := "TripleJoinModel", name := "pattern", desc := "(III)I" } : Jvm.MethodName) ({ cls := "TripleJoinModel", name := "pattern", desc := "(III)I" } : Jvm.MethodName)) ∈ lw_all := lw_g (lw_at lw_m1 194 rfl) rfl
theorem q212 : (Jvm.Cond.code ({ cls := "TripleJoinModel", name := "pattern", desc := "(III)I" } : Jvm.MethodName) prog_3_method_6_code (4 : Nat) (Option.some Jvm.ClassFile.FieldType.int)) ∈ lw_all := lw_g (lw_at lw_m1 195 rfl) rfl
theorem q214 : (Jvm.Cond.instanceMethod ({ cls := "TripleJoinModel", name := "clear", desc := "()V" } : Jvm.MethodName)) ∈ lw_all := lw_g (lw_at lw_m1 197 rfl) rfl
theorem q215 : (Jvm.Cond.selects "TripleJoinModel" ({ cls := "TripleJoinModel", name := "clear", desc := "()V" } : Jvm.MethodName) ({ cls := "TripleJoinModel", name := "clear", desc := "()V" } : Jvm.MethodName)) ∈ lw_all := lw_g (lw_at lw_m1 198 rfl) rfl
theorem q216 : (Jvm.Cond.code ({ cls := "TripleJoinModel", name := "clear", desc := "()V" } : Jvm.MethodName) prog_3_method_7_code (1 : Nat) (Option.none : Option Jvm.ClassFile.FieldType)) ∈ lw_all := lw_g (lw_at lw_m1 199 rfl) rfl
theorem q218 : (Jvm.Cond.instanceMethod ({ cls := "TripleJoinModel", name := "solutions", desc := "()I" } : Jvm.MethodName)) ∈ lw_all := lw_g (lw_at lw_m1 201 rfl) rfl
theorem q219 : (Jvm.Cond.selects "TripleJoinModel" ({ cls := "TripleJoinModel", name := "solutions", desc := "()I" } : Jvm.MethodName) ({ cls := "TripleJoinModel", name := "solutions", desc := "()I" } : Jvm.MethodName)) ∈ lw_all := lw_g (lw_at lw_m1 202 rfl) rfl
theorem q220 : (Jvm.Cond.code ({ cls := "TripleJoinModel", name := "solutions", desc := "()I" } : Jvm.MethodName) prog_3_method_11_code (3 : Nat) (Option.some Jvm.ClassFile.FieldType.int)) ∈ lw_all := lw_g (lw_at lw_m1 203 rfl) rfl
theorem q221 : (Jvm.Cond.methodLink "TripleJoinModel" (43 : Nat) ({ cls := "TripleJoinModel", name := "solves", desc := "(I)Z" } : Jvm.MethodName)) ∈ lw_all := lw_g (lw_at lw_m1 204 rfl) rfl
theorem q222 : (Jvm.Cond.privateMethod ({ cls := "TripleJoinModel", name := "solves", desc := "(I)Z" } : Jvm.MethodName)) ∈ lw_tbl := lw_at lw_m1 205 rfl
theorem q223 : (Jvm.Cond.instanceMethod ({ cls := "TripleJoinModel", name := "solves", desc := "(I)Z" } : Jvm.MethodName)) ∈ lw_all := lw_g (lw_at lw_m1 206 rfl) rfl
theorem q224 : (Jvm.Cond.code ({ cls := "TripleJoinModel", name := "solves", desc := "(I)Z" } : Jvm.MethodName) prog_3_method_10_code (6 : Nat) (Option.some Jvm.ClassFile.FieldType.boolean)) ∈ lw_all := lw_g (lw_at lw_m1 207 rfl) rfl
theorem q225 : (Jvm.Cond.methodLink "TripleJoinModel" (36 : Nat) ({ cls := "TripleJoinModel", name := "stands", desc := "(I)Z" } : Jvm.MethodName)) ∈ lw_all := lw_g (lw_at lw_m1 208 rfl) rfl
theorem q226 : (Jvm.Cond.privateMethod ({ cls := "TripleJoinModel", name := "stands", desc := "(I)Z" } : Jvm.MethodName)) ∈ lw_tbl := lw_at lw_m1 209 rfl
theorem q227 : (Jvm.Cond.instanceMethod ({ cls := "TripleJoinModel", name := "stands", desc := "(I)Z" } : Jvm.MethodName)) ∈ lw_all := lw_g (lw_at lw_m1 210 rfl) rfl
theorem q228 : (Jvm.Cond.code ({ cls := "TripleJoinModel", name := "stands", desc := "(I)Z" } : Jvm.MethodName) prog_3_method_8_code (3 : Nat) (Option.some Jvm.ClassFile.FieldType.boolean)) ∈ lw_all := lw_g (lw_at lw_m1 211 rfl) rfl
theorem q229 : (Jvm.Cond.methodLink "TripleJoinModel" (39 : Nat) ({ cls := "TripleJoinModel", name := "filled", desc := "(I)I" } : Jvm.MethodName)) ∈ lw_all := lw_g (lw_at lw_m1 212 rfl) rfl
theorem q230 : (Jvm.Cond.privateMethod ({ cls := "TripleJoinModel", name := "filled", desc := "(I)I" } : Jvm.MethodName)) ∈ lw_tbl := lw_at lw_m1 213 rfl
theorem q231 : (Jvm.Cond.instanceMethod ({ cls := "TripleJoinModel", name := "filled", desc := "(I)I" } : Jvm.MethodName)) ∈ lw_all := lw_g (lw_at lw_m1 214 rfl) rfl
theorem q232 : (Jvm.Cond.code ({ cls := "TripleJoinModel", name := "filled", desc := "(I)I" } : Jvm.MethodName) prog_3_method_9_code (2 : Nat) (Option.some Jvm.ClassFile.FieldType.int)) ∈ lw_all := lw_g (lw_at lw_m1 215 rfl) rfl
theorem q234 : (Jvm.Cond.instanceMethod ({ cls := "TripleJoinModel", name := "solution", desc := "(II)I" } : Jvm.MethodName)) ∈ lw_all := lw_g (lw_at lw_m1 217 rfl) rfl
theorem q235 : (Jvm.Cond.selects "TripleJoinModel" ({ cls := "TripleJoinModel", name := "solution", desc := "(II)I" } : Jvm.MethodName) ({ cls := "TripleJoinModel", name := "solution", desc := "(II)I" } : Jvm.MethodName)) ∈ lw_all := lw_g (lw_at lw_m1 218 rfl) rfl
theorem q236 : (Jvm.Cond.code ({ cls := "TripleJoinModel", name := "solution", desc := "(II)I" } : Jvm.MethodName) prog_3_method_13_code (5 : Nat) (Option.some Jvm.ClassFile.FieldType.int)) ∈ lw_all := lw_g (lw_at lw_m1 219 rfl) rfl
theorem q237 : (Jvm.Cond.methodLink "TripleJoinModel" (46 : Nat) ({ cls := "TripleJoinModel", name := "missing", desc := "(I)Z" } : Jvm.MethodName)) ∈ lw_all := lw_g (lw_at lw_m1 220 rfl) rfl
theorem q238 : (Jvm.Cond.privateMethod ({ cls := "TripleJoinModel", name := "missing", desc := "(I)Z" } : Jvm.MethodName)) ∈ lw_tbl := lw_at lw_m1 221 rfl
theorem q239 : (Jvm.Cond.instanceMethod ({ cls := "TripleJoinModel", name := "missing", desc := "(I)Z" } : Jvm.MethodName)) ∈ lw_all := lw_g (lw_at lw_m1 222 rfl) rfl
theorem q240 : (Jvm.Cond.code ({ cls := "TripleJoinModel", name := "missing", desc := "(I)Z" } : Jvm.MethodName) prog_3_method_12_code (2 : Nat) (Option.some Jvm.ClassFile.FieldType.boolean)) ∈ lw_all := lw_g (lw_at lw_m1 223 rfl) rfl
theorem q242 : (Jvm.Cond.instanceMethod ({ cls := "TripleJoinModel", name := "with", desc := "(II)I" } : Jvm.MethodName)) ∈ lw_all := lw_g (lw_at lw_m1 225 rfl) rfl
theorem q243 : (Jvm.Cond.selects "TripleJoinModel" ({ cls := "TripleJoinModel", name := "with", desc := "(II)I" } : Jvm.MethodName) ({ cls := "TripleJoinModel", name := "with", desc := "(II)I" } : Jvm.MethodName)) ∈ lw_all := lw_g (lw_at lw_m1 226 rfl) rfl
theorem q244 : (Jvm.Cond.code ({ cls := "TripleJoinModel", name := "with", desc := "(II)I" } : Jvm.MethodName) prog_3_method_14_code (5 : Nat) (Option.some Jvm.ClassFile.FieldType.int)) ∈ lw_all := lw_g (lw_at lw_m1 227 rfl) rfl
theorem q246 : (Jvm.Cond.instanceMethod ({ cls := "TripleJoinModel", name := "values", desc := "(I)I" } : Jvm.MethodName)) ∈ lw_all := lw_g (lw_at lw_m1 229 rfl) rfl
theorem q247 : (Jvm.Cond.selects "TripleJoinModel" ({ cls := "TripleJoinModel", name := "values", desc := "(I)I" } : Jvm.MethodName) ({ cls := "TripleJoinModel", name := "values", desc := "(I)I" } : Jvm.MethodName)) ∈ lw_all := lw_g (lw_at lw_m1 230 rfl) rfl
theorem q248 : (Jvm.Cond.code ({ cls := "TripleJoinModel", name := "values", desc := "(I)I" } : Jvm.MethodName) prog_3_method_15_code (4 : Nat) (Option.some Jvm.ClassFile.FieldType.int)) ∈ lw_all := lw_g (lw_at lw_m1 231 rfl) rfl
theorem q249 : (Jvm.Cond.methodLink "TripleJoinModel" (49 : Nat) ({ cls := "TripleJoinModel", name := "with", desc := "(II)I" } : Jvm.MethodName)) ∈ lw_all := lw_g (lw_at lw_m1 232 rfl) rfl
theorem q251 : (Jvm.Cond.instanceMethod ({ cls := "TripleJoinModel", name := "count", desc := "(III)I" } : Jvm.MethodName)) ∈ lw_all := lw_g (lw_at lw_m1 234 rfl) rfl
theorem q252 : (Jvm.Cond.selects "TripleJoinModel" ({ cls := "TripleJoinModel", name := "count", desc := "(III)I" } : Jvm.MethodName) ({ cls := "TripleJoinModel", name := "count", desc := "(III)I" } : Jvm.MethodName)) ∈ lw_all := lw_g (lw_at lw_m1 235 rfl) rfl
theorem q253 : (Jvm.Cond.code ({ cls := "TripleJoinModel", name := "count", desc := "(III)I" } : Jvm.MethodName) prog_3_method_17_code (6 : Nat) (Option.some Jvm.ClassFile.FieldType.int)) ∈ lw_all := lw_g (lw_at lw_m1 236 rfl) rfl
theorem q254 : (Jvm.Cond.methodLink "TripleJoinModel" (53 : Nat) ({ cls := "TripleJoinModel", name := "agrees", desc := "(II)Z" } : Jvm.MethodName)) ∈ lw_all := lw_g (lw_at lw_m1 237 rfl) rfl
theorem q255 : (Jvm.Cond.static ({ cls := "TripleJoinModel", name := "agrees", desc := "(II)Z" } : Jvm.MethodName)) ∈ lw_all := lw_g (lw_at lw_m1 238 rfl) rfl
theorem q256 : (Jvm.Cond.code ({ cls := "TripleJoinModel", name := "agrees", desc := "(II)Z" } : Jvm.MethodName) prog_3_method_16_code (2 : Nat) (Option.some Jvm.ClassFile.FieldType.boolean)) ∈ lw_all := lw_g (lw_at lw_m1 239 rfl) rfl
theorem in_X1 : ∀ w ∈ wsX10, w ∈ lw_all := lw_in wsX10 [180, 182, 184, 186] (by decide +kernel) (by decide +kernel)
end
section
set_option maxRecDepth 100000
/-! java/lang/Object -/
set_option maxRecDepth 100000
def RJ0 : String := "java/lang/Object"
abbrev cJ0_init : ByteArray := object_method_1_code
def yJ0_init : MethodName := ⟨RJ0, "<init>", "()V"⟩
theorem dJ0_init_0 : decode cJ0_init 0 = .ok (.return_, 1) := by decide +kernel
theorem q26 : (Jvm.Cond.instanceMethod ({ cls := "java/lang/Object", name := "<init>", desc := "()V" } : Jvm.MethodName)) ∈ lw_all := lw_g (lw_at lw_m1 9 rfl) rfl
theorem q27 : (Jvm.Cond.code ({ cls := "java/lang/Object", name := "<init>", desc := "()V" } : Jvm.MethodName) object_method_1_code (1 : Nat) (Option.none : Option Jvm.ClassFile.FieldType)) ∈ lw_all := lw_g (lw_at lw_m1 10 rfl) rfl

theorem q71 : (Jvm.Cond.arrayClass Jvm.ClassFile.FieldType.int) ∈ lw_all := lw_g (lw_at lw_m1 54 rfl) rfl
set_option maxRecDepth 100000
theorem q189 : (Jvm.Cond.arrayClass Jvm.ClassFile.FieldType.boolean) ∈ lw_all := lw_g (lw_at lw_m1 172 rfl) rfl

theorem q17 : (Jvm.Cond.initialized "TripleJoinLaw") ∈ lw_all := lw_g (lw_at lw_m1 0 rfl) rfl
set_option maxRecDepth 100000
theorem q20 : (Jvm.Cond.classLink "TripleJoinLaw" (7 : Nat) "TripleJoin") ∈ lw_all := lw_g (lw_at lw_m1 3 rfl) rfl
theorem q22 : (Jvm.Cond.methodLink "TripleJoinLaw" (9 : Nat) ({ cls := "TripleJoin", name := "<init>", desc := "()V" } : Jvm.MethodName)) ∈ lw_all := lw_g (lw_at lw_m1 5 rfl) rfl
theorem q72 : (Jvm.Cond.methodLink "TripleJoinLaw" (13 : Nat) ({ cls := "TripleJoin", name := "add", desc := "(III)I" } : Jvm.MethodName)) ∈ lw_all := lw_g (lw_at lw_m1 55 rfl) rfl
theorem q83 : (Jvm.Cond.methodLink "TripleJoinLaw" (18 : Nat) ({ cls := "TripleJoin", name := "remove", desc := "(III)I" } : Jvm.MethodName)) ∈ lw_all := lw_g (lw_at lw_m1 66 rfl) rfl
theorem q87 : (Jvm.Cond.methodLink "TripleJoinLaw" (22 : Nat) ({ cls := "TripleJoin", name := "pattern", desc := "(III)I" } : Jvm.MethodName)) ∈ lw_all := lw_g (lw_at lw_m1 70 rfl) rfl
theorem q91 : (Jvm.Cond.methodLink "TripleJoinLaw" (26 : Nat) ({ cls := "TripleJoin", name := "clear", desc := "()V" } : Jvm.MethodName)) ∈ lw_all := lw_g (lw_at lw_m1 74 rfl) rfl
theorem q95 : (Jvm.Cond.methodLink "TripleJoinLaw" (30 : Nat) ({ cls := "TripleJoin", name := "solutions", desc := "()I" } : Jvm.MethodName)) ∈ lw_all := lw_g (lw_at lw_m1 78 rfl) rfl
theorem q153 : (Jvm.Cond.methodLink "TripleJoinLaw" (35 : Nat) ({ cls := "TripleJoin", name := "solution", desc := "(II)I" } : Jvm.MethodName)) ∈ lw_all := lw_g (lw_at lw_m1 136 rfl) rfl
theorem q157 : (Jvm.Cond.methodLink "TripleJoinLaw" (40 : Nat) ({ cls := "TripleJoin", name := "with", desc := "(II)I" } : Jvm.MethodName)) ∈ lw_all := lw_g (lw_at lw_m1 140 rfl) rfl
theorem q161 : (Jvm.Cond.methodLink "TripleJoinLaw" (44 : Nat) ({ cls := "TripleJoin", name := "values", desc := "(I)I" } : Jvm.MethodName)) ∈ lw_all := lw_g (lw_at lw_m1 144 rfl) rfl
theorem q165 : (Jvm.Cond.methodLink "TripleJoinLaw" (49 : Nat) ({ cls := "TripleJoin", name := "count", desc := "(III)I" } : Jvm.MethodName)) ∈ lw_all := lw_g (lw_at lw_m1 148 rfl) rfl
theorem q166 : (Jvm.Cond.methodLink "TripleJoinLaw" (53 : Nat) ({ cls := "TripleJoin", name := "has", desc := "(III)I" } : Jvm.MethodName)) ∈ lw_all := lw_g (lw_at lw_m1 149 rfl) rfl
theorem q170 : (Jvm.Cond.classLink "TripleJoinLaw" (10 : Nat) "TripleJoinModel") ∈ lw_all := lw_g (lw_at lw_m1 153 rfl) rfl
theorem q172 : (Jvm.Cond.methodLink "TripleJoinLaw" (12 : Nat) ({ cls := "TripleJoinModel", name := "<init>", desc := "()V" } : Jvm.MethodName)) ∈ lw_all := lw_g (lw_at lw_m1 155 rfl) rfl
theorem q190 : (Jvm.Cond.methodLink "TripleJoinLaw" (17 : Nat) ({ cls := "TripleJoinModel", name := "add", desc := "(III)I" } : Jvm.MethodName)) ∈ lw_all := lw_g (lw_at lw_m1 173 rfl) rfl
theorem q205 : (Jvm.Cond.methodLink "TripleJoinLaw" (21 : Nat) ({ cls := "TripleJoinModel", name := "remove", desc := "(III)I" } : Jvm.MethodName)) ∈ lw_all := lw_g (lw_at lw_m1 188 rfl) rfl
theorem q209 : (Jvm.Cond.methodLink "TripleJoinLaw" (25 : Nat) ({ cls := "TripleJoinModel", name := "pattern", desc := "(III)I" } : Jvm.MethodName)) ∈ lw_all := lw_g (lw_at lw_m1 192 rfl) rfl
theorem q213 : (Jvm.Cond.methodLink "TripleJoinLaw" (29 : Nat) ({ cls := "TripleJoinModel", name := "clear", desc := "()V" } : Jvm.MethodName)) ∈ lw_all := lw_g (lw_at lw_m1 196 rfl) rfl
theorem q217 : (Jvm.Cond.methodLink "TripleJoinLaw" (34 : Nat) ({ cls := "TripleJoinModel", name := "solutions", desc := "()I" } : Jvm.MethodName)) ∈ lw_all := lw_g (lw_at lw_m1 200 rfl) rfl
theorem q233 : (Jvm.Cond.methodLink "TripleJoinLaw" (39 : Nat) ({ cls := "TripleJoinModel", name := "solution", desc := "(II)I" } : Jvm.MethodName)) ∈ lw_all := lw_g (lw_at lw_m1 216 rfl) rfl
theorem q241 : (Jvm.Cond.methodLink "TripleJoinLaw" (43 : Nat) ({ cls := "TripleJoinModel", name := "with", desc := "(II)I" } : Jvm.MethodName)) ∈ lw_all := lw_g (lw_at lw_m1 224 rfl) rfl
theorem q245 : (Jvm.Cond.methodLink "TripleJoinLaw" (48 : Nat) ({ cls := "TripleJoinModel", name := "values", desc := "(I)I" } : Jvm.MethodName)) ∈ lw_all := lw_g (lw_at lw_m1 228 rfl) rfl
theorem q250 : (Jvm.Cond.methodLink "TripleJoinLaw" (52 : Nat) ({ cls := "TripleJoinModel", name := "count", desc := "(III)I" } : Jvm.MethodName)) ∈ lw_all := lw_g (lw_at lw_m1 233 rfl) rfl
theorem q257 : (Jvm.Cond.methodLink "TripleJoinLaw" (56 : Nat) ({ cls := "TripleJoinModel", name := "has", desc := "(III)I" } : Jvm.MethodName)) ∈ lw_all := lw_g (lw_at lw_m2 0 rfl) rfl

/-! the law's own entry -/
set_option maxRecDepth 100000
abbrev cL_law : ByteArray := code
theorem dL_law_0 : decode cL_law 0 = .ok (.new 7, 3) := by decide +kernel
theorem dL_law_3 : decode cL_law 3 = .ok (.dup, 1) := by decide +kernel
theorem dL_law_4 : decode cL_law 4 = .ok (.invokespecial 9, 3) := by decide +kernel
theorem dL_law_7 : decode cL_law 7 = .ok (.astore_n 1, 1) := by decide +kernel
theorem dL_law_8 : decode cL_law 8 = .ok (.new 10, 3) := by decide +kernel
theorem dL_law_11 : decode cL_law 11 = .ok (.dup, 1) := by decide +kernel
theorem dL_law_12 : decode cL_law 12 = .ok (.invokespecial 12, 3) := by decide +kernel
theorem dL_law_15 : decode cL_law 15 = .ok (.astore_n 2, 1) := by decide +kernel
theorem dL_law_16 : decode cL_law 16 = .ok (.iconst 0, 1) := by decide +kernel
theorem dL_law_17 : decode cL_law 17 = .ok (.istore_n 3, 1) := by decide +kernel
theorem dL_law_18 : decode cL_law 18 = .ok (.iload_n 3, 1) := by decide +kernel
theorem dL_law_19 : decode cL_law 19 = .ok (.aload_n 0, 1) := by decide +kernel
theorem dL_law_20 : decode cL_law 20 = .ok (.arraylength, 1) := by decide +kernel
theorem dL_law_21 : decode cL_law 21 = .ok (.iconst 4, 1) := by decide +kernel
theorem dL_law_22 : decode cL_law 22 = .ok (.isub, 1) := by decide +kernel
theorem dL_law_23 : decode cL_law 23 = .ok (.if_icmp .gt 399, 3) := by decide +kernel
theorem dL_law_26 : decode cL_law 26 = .ok (.aload_n 0, 1) := by decide +kernel
theorem dL_law_27 : decode cL_law 27 = .ok (.iload_n 3, 1) := by decide +kernel
theorem dL_law_28 : decode cL_law 28 = .ok (.iaload, 1) := by decide +kernel
theorem dL_law_29 : decode cL_law 29 = .ok (.bipush 15, 2) := by decide +kernel
theorem dL_law_31 : decode cL_law 31 = .ok (.iand, 1) := by decide +kernel
theorem dL_law_32 : decode cL_law 32 = .ok (.tableswitch 384 0 9 #[56, 99, 142, 185, 196, 209, 242, 275, 298, 341], 56) := by decide +kernel
theorem dL_law_88 : decode cL_law 88 = .ok (.aload_n 1, 1) := by decide +kernel
theorem dL_law_89 : decode cL_law 89 = .ok (.aload_n 0, 1) := by decide +kernel
theorem dL_law_90 : decode cL_law 90 = .ok (.iload_n 3, 1) := by decide +kernel
theorem dL_law_91 : decode cL_law 91 = .ok (.iconst 1, 1) := by decide +kernel
theorem dL_law_92 : decode cL_law 92 = .ok (.iadd, 1) := by decide +kernel
theorem dL_law_93 : decode cL_law 93 = .ok (.iaload, 1) := by decide +kernel
theorem dL_law_94 : decode cL_law 94 = .ok (.aload_n 0, 1) := by decide +kernel
theorem dL_law_95 : decode cL_law 95 = .ok (.iload_n 3, 1) := by decide +kernel
theorem dL_law_96 : decode cL_law 96 = .ok (.iconst 2, 1) := by decide +kernel
theorem dL_law_97 : decode cL_law 97 = .ok (.iadd, 1) := by decide +kernel
theorem dL_law_98 : decode cL_law 98 = .ok (.iaload, 1) := by decide +kernel
theorem dL_law_99 : decode cL_law 99 = .ok (.aload_n 0, 1) := by decide +kernel
theorem dL_law_100 : decode cL_law 100 = .ok (.iload_n 3, 1) := by decide +kernel
theorem dL_law_101 : decode cL_law 101 = .ok (.iconst 3, 1) := by decide +kernel
theorem dL_law_102 : decode cL_law 102 = .ok (.iadd, 1) := by decide +kernel
theorem dL_law_103 : decode cL_law 103 = .ok (.iaload, 1) := by decide +kernel
theorem dL_law_104 : decode cL_law 104 = .ok (.invokevirtual 13, 3) := by decide +kernel
theorem dL_law_107 : decode cL_law 107 = .ok (.aload_n 2, 1) := by decide +kernel
theorem dL_law_108 : decode cL_law 108 = .ok (.aload_n 0, 1) := by decide +kernel
theorem dL_law_109 : decode cL_law 109 = .ok (.iload_n 3, 1) := by decide +kernel
theorem dL_law_110 : decode cL_law 110 = .ok (.iconst 1, 1) := by decide +kernel
theorem dL_law_111 : decode cL_law 111 = .ok (.iadd, 1) := by decide +kernel
theorem dL_law_112 : decode cL_law 112 = .ok (.iaload, 1) := by decide +kernel
theorem dL_law_113 : decode cL_law 113 = .ok (.aload_n 0, 1) := by decide +kernel
theorem dL_law_114 : decode cL_law 114 = .ok (.iload_n 3, 1) := by decide +kernel
theorem dL_law_115 : decode cL_law 115 = .ok (.iconst 2, 1) := by decide +kernel
theorem dL_law_116 : decode cL_law 116 = .ok (.iadd, 1) := by decide +kernel
theorem dL_law_117 : decode cL_law 117 = .ok (.iaload, 1) := by decide +kernel
theorem dL_law_118 : decode cL_law 118 = .ok (.aload_n 0, 1) := by decide +kernel
theorem dL_law_119 : decode cL_law 119 = .ok (.iload_n 3, 1) := by decide +kernel
theorem dL_law_120 : decode cL_law 120 = .ok (.iconst 3, 1) := by decide +kernel
theorem dL_law_121 : decode cL_law 121 = .ok (.iadd, 1) := by decide +kernel
theorem dL_law_122 : decode cL_law 122 = .ok (.iaload, 1) := by decide +kernel
theorem dL_law_123 : decode cL_law 123 = .ok (.invokevirtual 17, 3) := by decide +kernel
theorem dL_law_126 : decode cL_law 126 = .ok (.if_icmp .eq 290, 3) := by decide +kernel
theorem dL_law_129 : decode cL_law 129 = .ok (.iconst 0, 1) := by decide +kernel
theorem dL_law_130 : decode cL_law 130 = .ok (.ireturn, 1) := by decide +kernel
theorem dL_law_131 : decode cL_law 131 = .ok (.aload_n 1, 1) := by decide +kernel
theorem dL_law_132 : decode cL_law 132 = .ok (.aload_n 0, 1) := by decide +kernel
theorem dL_law_133 : decode cL_law 133 = .ok (.iload_n 3, 1) := by decide +kernel
theorem dL_law_134 : decode cL_law 134 = .ok (.iconst 1, 1) := by decide +kernel
theorem dL_law_135 : decode cL_law 135 = .ok (.iadd, 1) := by decide +kernel
theorem dL_law_136 : decode cL_law 136 = .ok (.iaload, 1) := by decide +kernel
theorem dL_law_137 : decode cL_law 137 = .ok (.aload_n 0, 1) := by decide +kernel
theorem dL_law_138 : decode cL_law 138 = .ok (.iload_n 3, 1) := by decide +kernel
theorem dL_law_139 : decode cL_law 139 = .ok (.iconst 2, 1) := by decide +kernel
theorem dL_law_140 : decode cL_law 140 = .ok (.iadd, 1) := by decide +kernel
theorem dL_law_141 : decode cL_law 141 = .ok (.iaload, 1) := by decide +kernel
theorem dL_law_142 : decode cL_law 142 = .ok (.aload_n 0, 1) := by decide +kernel
theorem dL_law_143 : decode cL_law 143 = .ok (.iload_n 3, 1) := by decide +kernel
theorem dL_law_144 : decode cL_law 144 = .ok (.iconst 3, 1) := by decide +kernel
theorem dL_law_145 : decode cL_law 145 = .ok (.iadd, 1) := by decide +kernel
theorem dL_law_146 : decode cL_law 146 = .ok (.iaload, 1) := by decide +kernel
theorem dL_law_147 : decode cL_law 147 = .ok (.invokevirtual 18, 3) := by decide +kernel
theorem dL_law_150 : decode cL_law 150 = .ok (.aload_n 2, 1) := by decide +kernel
theorem dL_law_151 : decode cL_law 151 = .ok (.aload_n 0, 1) := by decide +kernel
theorem dL_law_152 : decode cL_law 152 = .ok (.iload_n 3, 1) := by decide +kernel
theorem dL_law_153 : decode cL_law 153 = .ok (.iconst 1, 1) := by decide +kernel
theorem dL_law_154 : decode cL_law 154 = .ok (.iadd, 1) := by decide +kernel
theorem dL_law_155 : decode cL_law 155 = .ok (.iaload, 1) := by decide +kernel
theorem dL_law_156 : decode cL_law 156 = .ok (.aload_n 0, 1) := by decide +kernel
theorem dL_law_157 : decode cL_law 157 = .ok (.iload_n 3, 1) := by decide +kernel
theorem dL_law_158 : decode cL_law 158 = .ok (.iconst 2, 1) := by decide +kernel
theorem dL_law_159 : decode cL_law 159 = .ok (.iadd, 1) := by decide +kernel
theorem dL_law_160 : decode cL_law 160 = .ok (.iaload, 1) := by decide +kernel
theorem dL_law_161 : decode cL_law 161 = .ok (.aload_n 0, 1) := by decide +kernel
theorem dL_law_162 : decode cL_law 162 = .ok (.iload_n 3, 1) := by decide +kernel
theorem dL_law_163 : decode cL_law 163 = .ok (.iconst 3, 1) := by decide +kernel
theorem dL_law_164 : decode cL_law 164 = .ok (.iadd, 1) := by decide +kernel
theorem dL_law_165 : decode cL_law 165 = .ok (.iaload, 1) := by decide +kernel
theorem dL_law_166 : decode cL_law 166 = .ok (.invokevirtual 21, 3) := by decide +kernel
theorem dL_law_169 : decode cL_law 169 = .ok (.if_icmp .eq 247, 3) := by decide +kernel
theorem dL_law_172 : decode cL_law 172 = .ok (.iconst 0, 1) := by decide +kernel
theorem dL_law_173 : decode cL_law 173 = .ok (.ireturn, 1) := by decide +kernel
theorem dL_law_174 : decode cL_law 174 = .ok (.aload_n 1, 1) := by decide +kernel
theorem dL_law_175 : decode cL_law 175 = .ok (.aload_n 0, 1) := by decide +kernel
theorem dL_law_176 : decode cL_law 176 = .ok (.iload_n 3, 1) := by decide +kernel
theorem dL_law_177 : decode cL_law 177 = .ok (.iconst 1, 1) := by decide +kernel
theorem dL_law_178 : decode cL_law 178 = .ok (.iadd, 1) := by decide +kernel
theorem dL_law_179 : decode cL_law 179 = .ok (.iaload, 1) := by decide +kernel
theorem dL_law_180 : decode cL_law 180 = .ok (.aload_n 0, 1) := by decide +kernel
theorem dL_law_181 : decode cL_law 181 = .ok (.iload_n 3, 1) := by decide +kernel
theorem dL_law_182 : decode cL_law 182 = .ok (.iconst 2, 1) := by decide +kernel
theorem dL_law_183 : decode cL_law 183 = .ok (.iadd, 1) := by decide +kernel
theorem dL_law_184 : decode cL_law 184 = .ok (.iaload, 1) := by decide +kernel
theorem dL_law_185 : decode cL_law 185 = .ok (.aload_n 0, 1) := by decide +kernel
theorem dL_law_186 : decode cL_law 186 = .ok (.iload_n 3, 1) := by decide +kernel
theorem dL_law_187 : decode cL_law 187 = .ok (.iconst 3, 1) := by decide +kernel
theorem dL_law_188 : decode cL_law 188 = .ok (.iadd, 1) := by decide +kernel
theorem dL_law_189 : decode cL_law 189 = .ok (.iaload, 1) := by decide +kernel
theorem dL_law_190 : decode cL_law 190 = .ok (.invokevirtual 22, 3) := by decide +kernel
theorem dL_law_193 : decode cL_law 193 = .ok (.aload_n 2, 1) := by decide +kernel
theorem dL_law_194 : decode cL_law 194 = .ok (.aload_n 0, 1) := by decide +kernel
theorem dL_law_195 : decode cL_law 195 = .ok (.iload_n 3, 1) := by decide +kernel
theorem dL_law_196 : decode cL_law 196 = .ok (.iconst 1, 1) := by decide +kernel
theorem dL_law_197 : decode cL_law 197 = .ok (.iadd, 1) := by decide +kernel
theorem dL_law_198 : decode cL_law 198 = .ok (.iaload, 1) := by decide +kernel
theorem dL_law_199 : decode cL_law 199 = .ok (.aload_n 0, 1) := by decide +kernel
theorem dL_law_200 : decode cL_law 200 = .ok (.iload_n 3, 1) := by decide +kernel
theorem dL_law_201 : decode cL_law 201 = .ok (.iconst 2, 1) := by decide +kernel
theorem dL_law_202 : decode cL_law 202 = .ok (.iadd, 1) := by decide +kernel
theorem dL_law_203 : decode cL_law 203 = .ok (.iaload, 1) := by decide +kernel
theorem dL_law_204 : decode cL_law 204 = .ok (.aload_n 0, 1) := by decide +kernel
theorem dL_law_205 : decode cL_law 205 = .ok (.iload_n 3, 1) := by decide +kernel
theorem dL_law_206 : decode cL_law 206 = .ok (.iconst 3, 1) := by decide +kernel
theorem dL_law_207 : decode cL_law 207 = .ok (.iadd, 1) := by decide +kernel
theorem dL_law_208 : decode cL_law 208 = .ok (.iaload, 1) := by decide +kernel
theorem dL_law_209 : decode cL_law 209 = .ok (.invokevirtual 25, 3) := by decide +kernel
theorem dL_law_212 : decode cL_law 212 = .ok (.if_icmp .eq 204, 3) := by decide +kernel
theorem dL_law_215 : decode cL_law 215 = .ok (.iconst 0, 1) := by decide +kernel
theorem dL_law_216 : decode cL_law 216 = .ok (.ireturn, 1) := by decide +kernel
theorem dL_law_217 : decode cL_law 217 = .ok (.aload_n 1, 1) := by decide +kernel
theorem dL_law_218 : decode cL_law 218 = .ok (.invokevirtual 26, 3) := by decide +kernel
theorem dL_law_221 : decode cL_law 221 = .ok (.aload_n 2, 1) := by decide +kernel
theorem dL_law_222 : decode cL_law 222 = .ok (.invokevirtual 29, 3) := by decide +kernel
theorem dL_law_225 : decode cL_law 225 = .ok (.goto 191, 3) := by decide +kernel
theorem dL_law_228 : decode cL_law 228 = .ok (.aload_n 1, 1) := by decide +kernel
theorem dL_law_229 : decode cL_law 229 = .ok (.invokevirtual 30, 3) := by decide +kernel
theorem dL_law_232 : decode cL_law 232 = .ok (.aload_n 2, 1) := by decide +kernel
theorem dL_law_233 : decode cL_law 233 = .ok (.invokevirtual 34, 3) := by decide +kernel
theorem dL_law_236 : decode cL_law 236 = .ok (.if_icmp .eq 180, 3) := by decide +kernel
theorem dL_law_239 : decode cL_law 239 = .ok (.iconst 0, 1) := by decide +kernel
theorem dL_law_240 : decode cL_law 240 = .ok (.ireturn, 1) := by decide +kernel
theorem dL_law_241 : decode cL_law 241 = .ok (.aload_n 1, 1) := by decide +kernel
theorem dL_law_242 : decode cL_law 242 = .ok (.aload_n 0, 1) := by decide +kernel
theorem dL_law_243 : decode cL_law 243 = .ok (.iload_n 3, 1) := by decide +kernel
theorem dL_law_244 : decode cL_law 244 = .ok (.iconst 1, 1) := by decide +kernel
theorem dL_law_245 : decode cL_law 245 = .ok (.iadd, 1) := by decide +kernel
theorem dL_law_246 : decode cL_law 246 = .ok (.iaload, 1) := by decide +kernel
theorem dL_law_247 : decode cL_law 247 = .ok (.aload_n 0, 1) := by decide +kernel
theorem dL_law_248 : decode cL_law 248 = .ok (.iload_n 3, 1) := by decide +kernel
theorem dL_law_249 : decode cL_law 249 = .ok (.iconst 2, 1) := by decide +kernel
theorem dL_law_250 : decode cL_law 250 = .ok (.iadd, 1) := by decide +kernel
theorem dL_law_251 : decode cL_law 251 = .ok (.iaload, 1) := by decide +kernel
theorem dL_law_252 : decode cL_law 252 = .ok (.invokevirtual 35, 3) := by decide +kernel
theorem dL_law_255 : decode cL_law 255 = .ok (.aload_n 2, 1) := by decide +kernel
theorem dL_law_256 : decode cL_law 256 = .ok (.aload_n 0, 1) := by decide +kernel
theorem dL_law_257 : decode cL_law 257 = .ok (.iload_n 3, 1) := by decide +kernel
theorem dL_law_258 : decode cL_law 258 = .ok (.iconst 1, 1) := by decide +kernel
theorem dL_law_259 : decode cL_law 259 = .ok (.iadd, 1) := by decide +kernel
theorem dL_law_260 : decode cL_law 260 = .ok (.iaload, 1) := by decide +kernel
theorem dL_law_261 : decode cL_law 261 = .ok (.aload_n 0, 1) := by decide +kernel
theorem dL_law_262 : decode cL_law 262 = .ok (.iload_n 3, 1) := by decide +kernel
theorem dL_law_263 : decode cL_law 263 = .ok (.iconst 2, 1) := by decide +kernel
theorem dL_law_264 : decode cL_law 264 = .ok (.iadd, 1) := by decide +kernel
theorem dL_law_265 : decode cL_law 265 = .ok (.iaload, 1) := by decide +kernel
theorem dL_law_266 : decode cL_law 266 = .ok (.invokevirtual 39, 3) := by decide +kernel
theorem dL_law_269 : decode cL_law 269 = .ok (.if_icmp .eq 147, 3) := by decide +kernel
theorem dL_law_272 : decode cL_law 272 = .ok (.iconst 0, 1) := by decide +kernel
theorem dL_law_273 : decode cL_law 273 = .ok (.ireturn, 1) := by decide +kernel
theorem dL_law_274 : decode cL_law 274 = .ok (.aload_n 1, 1) := by decide +kernel
theorem dL_law_275 : decode cL_law 275 = .ok (.aload_n 0, 1) := by decide +kernel
theorem dL_law_276 : decode cL_law 276 = .ok (.iload_n 3, 1) := by decide +kernel
theorem dL_law_277 : decode cL_law 277 = .ok (.iconst 1, 1) := by decide +kernel
theorem dL_law_278 : decode cL_law 278 = .ok (.iadd, 1) := by decide +kernel
theorem dL_law_279 : decode cL_law 279 = .ok (.iaload, 1) := by decide +kernel
theorem dL_law_280 : decode cL_law 280 = .ok (.aload_n 0, 1) := by decide +kernel
theorem dL_law_281 : decode cL_law 281 = .ok (.iload_n 3, 1) := by decide +kernel
theorem dL_law_282 : decode cL_law 282 = .ok (.iconst 2, 1) := by decide +kernel
theorem dL_law_283 : decode cL_law 283 = .ok (.iadd, 1) := by decide +kernel
theorem dL_law_284 : decode cL_law 284 = .ok (.iaload, 1) := by decide +kernel
theorem dL_law_285 : decode cL_law 285 = .ok (.invokevirtual 40, 3) := by decide +kernel
theorem dL_law_288 : decode cL_law 288 = .ok (.aload_n 2, 1) := by decide +kernel
theorem dL_law_289 : decode cL_law 289 = .ok (.aload_n 0, 1) := by decide +kernel
theorem dL_law_290 : decode cL_law 290 = .ok (.iload_n 3, 1) := by decide +kernel
theorem dL_law_291 : decode cL_law 291 = .ok (.iconst 1, 1) := by decide +kernel
theorem dL_law_292 : decode cL_law 292 = .ok (.iadd, 1) := by decide +kernel
theorem dL_law_293 : decode cL_law 293 = .ok (.iaload, 1) := by decide +kernel
theorem dL_law_294 : decode cL_law 294 = .ok (.aload_n 0, 1) := by decide +kernel
theorem dL_law_295 : decode cL_law 295 = .ok (.iload_n 3, 1) := by decide +kernel
theorem dL_law_296 : decode cL_law 296 = .ok (.iconst 2, 1) := by decide +kernel
theorem dL_law_297 : decode cL_law 297 = .ok (.iadd, 1) := by decide +kernel
theorem dL_law_298 : decode cL_law 298 = .ok (.iaload, 1) := by decide +kernel
theorem dL_law_299 : decode cL_law 299 = .ok (.invokevirtual 43, 3) := by decide +kernel
theorem dL_law_302 : decode cL_law 302 = .ok (.if_icmp .eq 114, 3) := by decide +kernel
theorem dL_law_305 : decode cL_law 305 = .ok (.iconst 0, 1) := by decide +kernel
theorem dL_law_306 : decode cL_law 306 = .ok (.ireturn, 1) := by decide +kernel
theorem dL_law_307 : decode cL_law 307 = .ok (.aload_n 1, 1) := by decide +kernel
theorem dL_law_308 : decode cL_law 308 = .ok (.aload_n 0, 1) := by decide +kernel
theorem dL_law_309 : decode cL_law 309 = .ok (.iload_n 3, 1) := by decide +kernel
theorem dL_law_310 : decode cL_law 310 = .ok (.iconst 1, 1) := by decide +kernel
theorem dL_law_311 : decode cL_law 311 = .ok (.iadd, 1) := by decide +kernel
theorem dL_law_312 : decode cL_law 312 = .ok (.iaload, 1) := by decide +kernel
theorem dL_law_313 : decode cL_law 313 = .ok (.invokevirtual 44, 3) := by decide +kernel
theorem dL_law_316 : decode cL_law 316 = .ok (.aload_n 2, 1) := by decide +kernel
theorem dL_law_317 : decode cL_law 317 = .ok (.aload_n 0, 1) := by decide +kernel
theorem dL_law_318 : decode cL_law 318 = .ok (.iload_n 3, 1) := by decide +kernel
theorem dL_law_319 : decode cL_law 319 = .ok (.iconst 1, 1) := by decide +kernel
theorem dL_law_320 : decode cL_law 320 = .ok (.iadd, 1) := by decide +kernel
theorem dL_law_321 : decode cL_law 321 = .ok (.iaload, 1) := by decide +kernel
theorem dL_law_322 : decode cL_law 322 = .ok (.invokevirtual 48, 3) := by decide +kernel
theorem dL_law_325 : decode cL_law 325 = .ok (.if_icmp .eq 91, 3) := by decide +kernel
theorem dL_law_328 : decode cL_law 328 = .ok (.iconst 0, 1) := by decide +kernel
theorem dL_law_329 : decode cL_law 329 = .ok (.ireturn, 1) := by decide +kernel
theorem dL_law_330 : decode cL_law 330 = .ok (.aload_n 1, 1) := by decide +kernel
theorem dL_law_331 : decode cL_law 331 = .ok (.aload_n 0, 1) := by decide +kernel
theorem dL_law_332 : decode cL_law 332 = .ok (.iload_n 3, 1) := by decide +kernel
theorem dL_law_333 : decode cL_law 333 = .ok (.iconst 1, 1) := by decide +kernel
theorem dL_law_334 : decode cL_law 334 = .ok (.iadd, 1) := by decide +kernel
theorem dL_law_335 : decode cL_law 335 = .ok (.iaload, 1) := by decide +kernel
theorem dL_law_336 : decode cL_law 336 = .ok (.aload_n 0, 1) := by decide +kernel
theorem dL_law_337 : decode cL_law 337 = .ok (.iload_n 3, 1) := by decide +kernel
theorem dL_law_338 : decode cL_law 338 = .ok (.iconst 2, 1) := by decide +kernel
theorem dL_law_339 : decode cL_law 339 = .ok (.iadd, 1) := by decide +kernel
theorem dL_law_340 : decode cL_law 340 = .ok (.iaload, 1) := by decide +kernel
theorem dL_law_341 : decode cL_law 341 = .ok (.aload_n 0, 1) := by decide +kernel
theorem dL_law_342 : decode cL_law 342 = .ok (.iload_n 3, 1) := by decide +kernel
theorem dL_law_343 : decode cL_law 343 = .ok (.iconst 3, 1) := by decide +kernel
theorem dL_law_344 : decode cL_law 344 = .ok (.iadd, 1) := by decide +kernel
theorem dL_law_345 : decode cL_law 345 = .ok (.iaload, 1) := by decide +kernel
theorem dL_law_346 : decode cL_law 346 = .ok (.invokevirtual 49, 3) := by decide +kernel
theorem dL_law_349 : decode cL_law 349 = .ok (.aload_n 2, 1) := by decide +kernel
theorem dL_law_350 : decode cL_law 350 = .ok (.aload_n 0, 1) := by decide +kernel
theorem dL_law_351 : decode cL_law 351 = .ok (.iload_n 3, 1) := by decide +kernel
theorem dL_law_352 : decode cL_law 352 = .ok (.iconst 1, 1) := by decide +kernel
theorem dL_law_353 : decode cL_law 353 = .ok (.iadd, 1) := by decide +kernel
theorem dL_law_354 : decode cL_law 354 = .ok (.iaload, 1) := by decide +kernel
theorem dL_law_355 : decode cL_law 355 = .ok (.aload_n 0, 1) := by decide +kernel
theorem dL_law_356 : decode cL_law 356 = .ok (.iload_n 3, 1) := by decide +kernel
theorem dL_law_357 : decode cL_law 357 = .ok (.iconst 2, 1) := by decide +kernel
theorem dL_law_358 : decode cL_law 358 = .ok (.iadd, 1) := by decide +kernel
theorem dL_law_359 : decode cL_law 359 = .ok (.iaload, 1) := by decide +kernel
theorem dL_law_360 : decode cL_law 360 = .ok (.aload_n 0, 1) := by decide +kernel
theorem dL_law_361 : decode cL_law 361 = .ok (.iload_n 3, 1) := by decide +kernel
theorem dL_law_362 : decode cL_law 362 = .ok (.iconst 3, 1) := by decide +kernel
theorem dL_law_363 : decode cL_law 363 = .ok (.iadd, 1) := by decide +kernel
theorem dL_law_364 : decode cL_law 364 = .ok (.iaload, 1) := by decide +kernel
theorem dL_law_365 : decode cL_law 365 = .ok (.invokevirtual 52, 3) := by decide +kernel
theorem dL_law_368 : decode cL_law 368 = .ok (.if_icmp .eq 48, 3) := by decide +kernel
theorem dL_law_371 : decode cL_law 371 = .ok (.iconst 0, 1) := by decide +kernel
theorem dL_law_372 : decode cL_law 372 = .ok (.ireturn, 1) := by decide +kernel
theorem dL_law_373 : decode cL_law 373 = .ok (.aload_n 1, 1) := by decide +kernel
theorem dL_law_374 : decode cL_law 374 = .ok (.aload_n 0, 1) := by decide +kernel
theorem dL_law_375 : decode cL_law 375 = .ok (.iload_n 3, 1) := by decide +kernel
theorem dL_law_376 : decode cL_law 376 = .ok (.iconst 1, 1) := by decide +kernel
theorem dL_law_377 : decode cL_law 377 = .ok (.iadd, 1) := by decide +kernel
theorem dL_law_378 : decode cL_law 378 = .ok (.iaload, 1) := by decide +kernel
theorem dL_law_379 : decode cL_law 379 = .ok (.aload_n 0, 1) := by decide +kernel
theorem dL_law_380 : decode cL_law 380 = .ok (.iload_n 3, 1) := by decide +kernel
theorem dL_law_381 : decode cL_law 381 = .ok (.iconst 2, 1) := by decide +kernel
theorem dL_law_382 : decode cL_law 382 = .ok (.iadd, 1) := by decide +kernel
theorem dL_law_383 : decode cL_law 383 = .ok (.iaload, 1) := by decide +kernel
theorem dL_law_384 : decode cL_law 384 = .ok (.aload_n 0, 1) := by decide +kernel
theorem dL_law_385 : decode cL_law 385 = .ok (.iload_n 3, 1) := by decide +kernel
theorem dL_law_386 : decode cL_law 386 = .ok (.iconst 3, 1) := by decide +kernel
theorem dL_law_387 : decode cL_law 387 = .ok (.iadd, 1) := by decide +kernel
theorem dL_law_388 : decode cL_law 388 = .ok (.iaload, 1) := by decide +kernel
theorem dL_law_389 : decode cL_law 389 = .ok (.invokevirtual 53, 3) := by decide +kernel
theorem dL_law_392 : decode cL_law 392 = .ok (.aload_n 2, 1) := by decide +kernel
theorem dL_law_393 : decode cL_law 393 = .ok (.aload_n 0, 1) := by decide +kernel
theorem dL_law_394 : decode cL_law 394 = .ok (.iload_n 3, 1) := by decide +kernel
theorem dL_law_395 : decode cL_law 395 = .ok (.iconst 1, 1) := by decide +kernel
theorem dL_law_396 : decode cL_law 396 = .ok (.iadd, 1) := by decide +kernel
theorem dL_law_397 : decode cL_law 397 = .ok (.iaload, 1) := by decide +kernel
theorem dL_law_398 : decode cL_law 398 = .ok (.aload_n 0, 1) := by decide +kernel
theorem dL_law_399 : decode cL_law 399 = .ok (.iload_n 3, 1) := by decide +kernel
theorem dL_law_400 : decode cL_law 400 = .ok (.iconst 2, 1) := by decide +kernel
theorem dL_law_401 : decode cL_law 401 = .ok (.iadd, 1) := by decide +kernel
theorem dL_law_402 : decode cL_law 402 = .ok (.iaload, 1) := by decide +kernel
theorem dL_law_403 : decode cL_law 403 = .ok (.aload_n 0, 1) := by decide +kernel
theorem dL_law_404 : decode cL_law 404 = .ok (.iload_n 3, 1) := by decide +kernel
theorem dL_law_405 : decode cL_law 405 = .ok (.iconst 3, 1) := by decide +kernel
theorem dL_law_406 : decode cL_law 406 = .ok (.iadd, 1) := by decide +kernel
theorem dL_law_407 : decode cL_law 407 = .ok (.iaload, 1) := by decide +kernel
theorem dL_law_408 : decode cL_law 408 = .ok (.invokevirtual 56, 3) := by decide +kernel
theorem dL_law_411 : decode cL_law 411 = .ok (.if_icmp .eq 5, 3) := by decide +kernel
theorem dL_law_414 : decode cL_law 414 = .ok (.iconst 0, 1) := by decide +kernel
theorem dL_law_415 : decode cL_law 415 = .ok (.ireturn, 1) := by decide +kernel
theorem dL_law_416 : decode cL_law 416 = .ok (.iinc 3 4, 3) := by decide +kernel
theorem dL_law_419 : decode cL_law 419 = .ok (.goto (-401), 3) := by decide +kernel
theorem dL_law_422 : decode cL_law 422 = .ok (.iconst 1, 1) := by decide +kernel
theorem dL_law_423 : decode cL_law 423 = .ok (.ireturn, 1) := by decide +kernel
end
section
abbrev vwCl : List vw_C := [(RX0, TX0, 14), (RX1, TX1, 4)]
abbrev rm_ (f lo : Nat) : Room := { frames := f, cells := 0, slots := 0, locals := lo }
section TN
variable {p : Program} {l : Launch} {e : Env} {R : Room} {s : State} {m : MethodId} {args : Array Value} {below : List Frame} {meth : Method} {c : Code} {H : Heap} {locs : List Loc} {cells slots : Nat} {Q : State → Prop}
variable {cc : ByteArray} {pc : Nat} {ls : Array Slot} {rest : List Value}
theorem tn_as {x : Int32} (y : Int32) (h : x = y) (k : W p l e R s m args below meth c H locs cells slots Q (F0 m (pc) ls (.int y :: rest))) : W p l e R s m args below meth c H locs cells slots Q (F0 m (pc) ls (.int x :: rest)) := by
  subst h
  exact k
theorem tn_iadd (hexec : p.tables.exec = Jvm.exec) (hb : c.code = cc) {a b : Nat} (hdg : decode cc pc = .ok (.iadd, 1)) (k : W p l e R s m args below meth c H locs cells slots Q (F0 m (pc + 1) ls (.int (nI (a + b)) :: rest))) : W p l e R s m args below meth c H locs cells slots Q (F0 m (pc) ls (.int (nI b) :: .int (nI a) :: rest)) :=
  lv_iadd hexec hb hdg (by rw [nI_add]; exact k)
theorem tn_imul (hexec : p.tables.exec = Jvm.exec) (hb : c.code = cc) {a b : Nat} (hdg : decode cc pc = .ok (.imul, 1)) (k : W p l e R s m args below meth c H locs cells slots Q (F0 m (pc + 1) ls (.int (nI (a * b)) :: rest))) : W p l e R s m args below meth c H locs cells slots Q (F0 m (pc) ls (.int (nI b) :: .int (nI a) :: rest)) :=
  lv_imul hexec hb hdg (by rw [pk_mul]; exact k)
theorem tn_icmp_eq (hexec : p.tables.exec = Jvm.exec) (hb : c.code = cc) {a b : Nat} {off : Int} {tgt : Nat} (hdg : decode cc pc = .ok (.if_icmp .eq off, 3)) (ht : (pc : Int) + off = (tgt : Int)) (ha : a < 2 ^ 31) (hb2 : b < 2 ^ 31) (kt : a = b → W p l e R s m args below meth c H locs cells slots Q (F0 m (tgt) ls (rest))) (kf : a ≠ b → W p l e R s m args below meth c H locs cells slots Q (F0 m (pc + 3) ls (rest))) : W p l e R s m args below meth c H locs cells slots Q (F0 m (pc) ls (.int (nI b) :: .int (nI a) :: rest)) :=
  lv_icmp_eq hexec hb hdg ht (fun z => kt ((nI_eq ha hb2).mp z)) (fun z => kf (fun h => z ((nI_eq ha hb2).mpr h)))
theorem tn_icmp_ne (hexec : p.tables.exec = Jvm.exec) (hb : c.code = cc) {a b : Nat} {off : Int} {tgt : Nat} (hdg : decode cc pc = .ok (.if_icmp .ne off, 3)) (ht : (pc : Int) + off = (tgt : Int)) (ha : a < 2 ^ 31) (hb2 : b < 2 ^ 31) (kt : a ≠ b → W p l e R s m args below meth c H locs cells slots Q (F0 m (tgt) ls (rest))) (kf : a = b → W p l e R s m args below meth c H locs cells slots Q (F0 m (pc + 3) ls (rest))) : W p l e R s m args below meth c H locs cells slots Q (F0 m (pc) ls (.int (nI b) :: .int (nI a) :: rest)) :=
  lv_icmp_ne hexec hb hdg ht (fun z => kt (fun h => z ((nI_eq ha hb2).mpr h))) (fun z => kf ((nI_eq ha hb2).mp z))
theorem tn_icmp_lt (hexec : p.tables.exec = Jvm.exec) (hb : c.code = cc) {a b : Nat} {off : Int} {tgt : Nat} (hdg : decode cc pc = .ok (.if_icmp .lt off, 3)) (ht : (pc : Int) + off = (tgt : Int)) (ha : a < 2 ^ 31) (hb2 : b < 2 ^ 31) (kt : a < b → W p l e R s m args below meth c H locs cells slots Q (F0 m (tgt) ls (rest))) (kf : b ≤ a → W p l e R s m args below meth c H locs cells slots Q (F0 m (pc + 3) ls (rest))) : W p l e R s m args below meth c H locs cells slots Q (F0 m (pc) ls (.int (nI b) :: .int (nI a) :: rest)) :=
  lv_icmp_lt hexec hb hdg ht (fun z => kt ((nI_ltI ha hb2).mp z)) (fun z => kf (Nat.le_of_not_lt (fun h => z ((nI_ltI ha hb2).mpr h))))
theorem tn_icmp_ge (hexec : p.tables.exec = Jvm.exec) (hb : c.code = cc) {a b : Nat} {off : Int} {tgt : Nat} (hdg : decode cc pc = .ok (.if_icmp .ge off, 3)) (ht : (pc : Int) + off = (tgt : Int)) (ha : a < 2 ^ 31) (hb2 : b < 2 ^ 31) (kt : b ≤ a → W p l e R s m args below meth c H locs cells slots Q (F0 m (tgt) ls (rest))) (kf : a < b → W p l e R s m args below meth c H locs cells slots Q (F0 m (pc + 3) ls (rest))) : W p l e R s m args below meth c H locs cells slots Q (F0 m (pc) ls (.int (nI b) :: .int (nI a) :: rest)) :=
  lv_icmp_ge hexec hb hdg ht (fun z => kt ((nI_leI hb2 ha).mp z)) (fun z => kf (Nat.lt_of_not_le (fun h => z ((nI_leI hb2 ha).mpr h))))
theorem tn_icmp_gt (hexec : p.tables.exec = Jvm.exec) (hb : c.code = cc) {a b : Nat} {off : Int} {tgt : Nat} (hdg : decode cc pc = .ok (.if_icmp .gt off, 3)) (ht : (pc : Int) + off = (tgt : Int)) (ha : a < 2 ^ 31) (hb2 : b < 2 ^ 31) (kt : b < a → W p l e R s m args below meth c H locs cells slots Q (F0 m (tgt) ls (rest))) (kf : a ≤ b → W p l e R s m args below meth c H locs cells slots Q (F0 m (pc + 3) ls (rest))) : W p l e R s m args below meth c H locs cells slots Q (F0 m (pc) ls (.int (nI b) :: .int (nI a) :: rest)) :=
  lv_icmp_gt hexec hb hdg ht (fun z => kt ((nI_ltI hb2 ha).mp z)) (fun z => kf (Nat.le_of_not_lt (fun h => z ((nI_ltI hb2 ha).mpr h))))
theorem tn_icmp_le (hexec : p.tables.exec = Jvm.exec) (hb : c.code = cc) {a b : Nat} {off : Int} {tgt : Nat} (hdg : decode cc pc = .ok (.if_icmp .le off, 3)) (ht : (pc : Int) + off = (tgt : Int)) (ha : a < 2 ^ 31) (hb2 : b < 2 ^ 31) (kt : a ≤ b → W p l e R s m args below meth c H locs cells slots Q (F0 m (tgt) ls (rest))) (kf : b < a → W p l e R s m args below meth c H locs cells slots Q (F0 m (pc + 3) ls (rest))) : W p l e R s m args below meth c H locs cells slots Q (F0 m (pc) ls (.int (nI b) :: .int (nI a) :: rest)) :=
  lv_icmp_le hexec hb hdg ht (fun z => kt ((nI_leI ha hb2).mp z)) (fun z => kf (Nat.lt_of_not_le (fun h => z ((nI_leI ha hb2).mpr h))))
theorem tn_z {a : Nat} (ha : a < 2 ^ 31) : nI a = 0 ↔ a = 0 := by
  rw [← nI_0]
  exact nI_eq ha (by decide)
theorem tn_le0 {a : Nat} (ha : a < 2 ^ 31) : nI a ≤ 0 ↔ a = 0 := by
  rw [← nI_0, nI_leI ha (by decide)]
  omega
theorem tn_gt0 {a : Nat} (ha : a < 2 ^ 31) : 0 < nI a ↔ 0 < a := by
  rw [← nI_0, nI_ltI (by decide) ha]
theorem tn_if_eq (hexec : p.tables.exec = Jvm.exec) (hb : c.code = cc) {a : Nat} {off : Int} {tgt : Nat} (hdg : decode cc pc = .ok (.ifCond .eq off, 3)) (ht : (pc : Int) + off = (tgt : Int)) (ha : a < 2 ^ 31) (kt : a = 0 → W p l e R s m args below meth c H locs cells slots Q (F0 m (tgt) ls (rest))) (kf : a ≠ 0 → W p l e R s m args below meth c H locs cells slots Q (F0 m (pc + 3) ls (rest))) : W p l e R s m args below meth c H locs cells slots Q (F0 m (pc) ls (.int (nI a) :: rest)) :=
  lv_if_eq hexec hb hdg ht (fun z => kt ((tn_z ha).mp z)) (fun z => kf (fun h => z ((tn_z ha).mpr h)))
theorem tn_if_ne (hexec : p.tables.exec = Jvm.exec) (hb : c.code = cc) {a : Nat} {off : Int} {tgt : Nat} (hdg : decode cc pc = .ok (.ifCond .ne off, 3)) (ht : (pc : Int) + off = (tgt : Int)) (ha : a < 2 ^ 31) (kt : a ≠ 0 → W p l e R s m args below meth c H locs cells slots Q (F0 m (tgt) ls (rest))) (kf : a = 0 → W p l e R s m args below meth c H locs cells slots Q (F0 m (pc + 3) ls (rest))) : W p l e R s m args below meth c H locs cells slots Q (F0 m (pc) ls (.int (nI a) :: rest)) :=
  lv_if_ne hexec hb hdg ht (fun z => kt (fun h => z ((tn_z ha).mpr h))) (fun z => kf ((tn_z ha).mp z))
theorem tn_if_le (hexec : p.tables.exec = Jvm.exec) (hb : c.code = cc) {a : Nat} {off : Int} {tgt : Nat} (hdg : decode cc pc = .ok (.ifCond .le off, 3)) (ht : (pc : Int) + off = (tgt : Int)) (ha : a < 2 ^ 31) (kt : a = 0 → W p l e R s m args below meth c H locs cells slots Q (F0 m (tgt) ls (rest))) (kf : 0 < a → W p l e R s m args below meth c H locs cells slots Q (F0 m (pc + 3) ls (rest))) : W p l e R s m args below meth c H locs cells slots Q (F0 m (pc) ls (.int (nI a) :: rest)) :=
  lv_if_le hexec hb hdg ht (fun z => kt ((tn_le0 ha).mp z)) (fun z => kf (Nat.pos_of_ne_zero (fun h => z ((tn_le0 ha).mpr h))))
theorem tn_if_lt (hexec : p.tables.exec = Jvm.exec) (hb : c.code = cc) {a : Nat} {off : Int} {tgt : Nat} (hdg : decode cc pc = .ok (.ifCond .lt off, 3)) (ht : (pc : Int) + off = (tgt : Int)) (ha : a < 2 ^ 31) (kf : W p l e R s m args below meth c H locs cells slots Q (F0 m (pc + 3) ls (rest))) : W p l e R s m args below meth c H locs cells slots Q (F0 m (pc) ls (.int (nI a) :: rest)) :=
  lv_if_lt hexec hb hdg ht (fun z => absurd z (nI_pos ha)) (fun _ => kf)
theorem tn_if_ge (hexec : p.tables.exec = Jvm.exec) (hb : c.code = cc) {a : Nat} {off : Int} {tgt : Nat} (hdg : decode cc pc = .ok (.ifCond .ge off, 3)) (ht : (pc : Int) + off = (tgt : Int)) (ha : a < 2 ^ 31) (kt : W p l e R s m args below meth c H locs cells slots Q (F0 m (tgt) ls (rest))) : W p l e R s m args below meth c H locs cells slots Q (F0 m (pc) ls (.int (nI a) :: rest)) :=
  lv_if_ge hexec hb hdg ht (fun _ => kt) (fun z => absurd (nI_pos' ha) z)
theorem tn_for {st : List Value} (Inv : Nat → Array Slot → Prop) (e0 i0 : Nat) (hi : i0 ≤ e0) (h0 : Inv i0 ls)
    (step : ∀ (i : Nat) (ls : Array Slot), i < e0 → Inv i ls → (∀ ls2 : Array Slot, Inv (i + 1) ls2 → W p l e R s m args below meth c H locs cells slots Q (F0 m (pc) ls2 (st))) → W p l e R s m args below meth c H locs cells slots Q (F0 m (pc) ls (st)))
    (done : ∀ ls : Array Slot, Inv e0 ls → W p l e R s m args below meth c H locs cells slots Q (F0 m (pc) ls (st))) : W p l e R s m args below meth c H locs cells slots Q (F0 m (pc) ls (st)) := by
  have key : ∀ (k i : Nat) (ls : Array Slot), i + k = e0 → Inv i ls → W p l e R s m args below meth c H locs cells slots Q (F0 m (pc) ls (st)) := by
    intro k
    induction k with
    | zero =>
      intro i ls h hI
      have h2 : i = e0 := by omega
      subst h2
      exact done ls hI
    | succ k ih =>
      intro i ls h hI
      exact step i ls (by omega) hI (fun ls2 h2 => ih (i + 1) ls2 (by omega) h2)
  exact key (e0 - i0) i0 ls (by omega) h0
theorem tn_forH {st : List Value} (Inv : Nat → Heap → List Loc → Array Slot → Prop) (e0 i0 : Nat) (hi : i0 ≤ e0) (h0 : Inv i0 H locs ls)
    (step : ∀ (i : Nat) (H : Heap) (locs : List Loc) (ls : Array Slot), i < e0 → Inv i H locs ls → (∀ (H2 : Heap) (locs2 : List Loc) (ls2 : Array Slot), Inv (i + 1) H2 locs2 ls2 → W p l e R s m args below meth c H2 locs2 cells slots Q (F0 m (pc) ls2 (st))) → W p l e R s m args below meth c H locs cells slots Q (F0 m (pc) ls (st)))
    (done : ∀ (H : Heap) (locs : List Loc) (ls : Array Slot), Inv e0 H locs ls → W p l e R s m args below meth c H locs cells slots Q (F0 m (pc) ls (st))) : W p l e R s m args below meth c H locs cells slots Q (F0 m (pc) ls (st)) := by
  have key : ∀ (k i : Nat) (H : Heap) (locs : List Loc) (ls : Array Slot), i + k = e0 → Inv i H locs ls → W p l e R s m args below meth c H locs cells slots Q (F0 m (pc) ls (st)) := by
    intro k
    induction k with
    | zero =>
      intro i H locs ls h hI
      have h2 : i = e0 := by omega
      subst h2
      exact done H locs ls hI
    | succ k ih =>
      intro i H locs ls h hI
      exact step i H locs ls (by omega) hI (fun H2 locs2 ls2 h2 => ih (i + 1) H2 locs2 ls2 (by omega) h2)
  exact key (e0 - i0) i0 H locs ls (by omega) h0
variable {D : va_G} {cl : List vw_C} {A : Nat → Prop} {a : Nat} {tys : List (ClassId × FieldType)} {ws : va_W} {H0 : Heap}
theorem tn_iald (hexec : p.tables.exec = Jvm.exec) (hb : c.code = cc) (hK : va_K D cl tys s) (hP : va_P D cl ws H) (q0 t0 : Nat) {cA : ClassId} {n : Nat} {f : Nat → Int32} (ha : ws[q0]? = some (a, .inl (cA, n, .inl f))) (ht : tys[t0]? = some (cA, .int)) {j : Nat} (hj : j < n) (hn : n < 2 ^ 31) (hdg : decode cc pc = .ok (.iaload, 1))
    (kk : W p l e R s m args below meth c H locs cells slots Q (F0 m (pc + 1) ls (.int (f j) :: rest))) : W p l e R s m args below meth c H locs cells slots Q (F0 m (pc) ls (.int (nI j) :: .ref a :: rest)) :=
  va_iald hexec hb hK hP q0 t0 ha ht (vp_in_nI hj hn) hdg (by rw [nI_clamp (Nat.lt_trans hj hn)]; exact kk)
theorem tn_zald (hexec : p.tables.exec = Jvm.exec) (hb : c.code = cc) (hK : va_K D cl tys s) (hP : va_P D cl ws H) (q0 t0 : Nat) {cA : ClassId} {n : Nat} {f : Nat → Int32} (ha : ws[q0]? = some (a, .inl (cA, n, .inl f))) (ht : tys[t0]? = some (cA, .boolean)) {j : Nat} (hj : j < n) (hn : n < 2 ^ 31) (hdg : decode cc pc = .ok (.baload, 1))
    (kk : W p l e R s m args below meth c H locs cells slots Q (F0 m (pc + 1) ls (.int (f j) :: rest))) : W p l e R s m args below meth c H locs cells slots Q (F0 m (pc) ls (.int (nI j) :: .ref a :: rest)) :=
  va_zald hexec hb hK hP q0 t0 ha ht (vp_in_nI hj hn) hdg (by rw [nI_clamp (Nat.lt_trans hj hn)]; exact kk)
theorem tn_iast (hexec : p.tables.exec = Jvm.exec) (hb : c.code = cc) (hK : va_K D cl tys s) (hP : va_P D cl ws H) (hD : va_D A ws) (hS : va_S A H0 H locs) (q0 t0 : Nat) {cA : ClassId} {n : Nat} {f : Nat → Int32} (ha : ws[q0]? = some (a, .inl (cA, n, .inl f))) (ht : tys[t0]? = some (cA, .int)) {j : Nat} {x : Int32} (hj : j < n) (hn : n < 2 ^ 31) (hdg : decode cc pc = .ok (.iastore, 1))
    (kk : ∀ (H1 : Heap) (locs1 : List Loc), va_P D cl (ws.set q0 (a, .inl (cA, n, .inl (upd f j x)))) H1 → va_D A (ws.set q0 (a, .inl (cA, n, .inl (upd f j x)))) → va_S A H0 H1 locs1 → W p l e R s m args below meth c H1 locs1 cells slots Q (F0 m (pc + 1) ls (rest))) : W p l e R s m args below meth c H locs cells slots Q (F0 m (pc) ls (.int x :: .int (nI j) :: .ref a :: rest)) :=
  va_iast hexec hb hK hP hD hS q0 t0 ha ht (vp_in_nI hj hn) hdg (fun H1 locs1 h1 h2 h3 => by
    rw [nI_clamp (Nat.lt_trans hj hn)] at h1 h2
    exact kk H1 locs1 h1 h2 h3)
theorem tn_zast (hexec : p.tables.exec = Jvm.exec) (hb : c.code = cc) (hK : va_K D cl tys s) (hP : va_P D cl ws H) (hD : va_D A ws) (hS : va_S A H0 H locs) (q0 t0 : Nat) {cA : ClassId} {n : Nat} {f : Nat → Int32} (ha : ws[q0]? = some (a, .inl (cA, n, .inl f))) (ht : tys[t0]? = some (cA, .boolean)) {j : Nat} {x : Int32} (hj : j < n) (hn : n < 2 ^ 31) (hx : vp_nar .boolean x = x) (hdg : decode cc pc = .ok (.bastore, 1))
    (kk : ∀ (H1 : Heap) (locs1 : List Loc), va_P D cl (ws.set q0 (a, .inl (cA, n, .inl (upd f j x)))) H1 → va_D A (ws.set q0 (a, .inl (cA, n, .inl (upd f j x)))) → va_S A H0 H1 locs1 → W p l e R s m args below meth c H1 locs1 cells slots Q (F0 m (pc + 1) ls (rest))) : W p l e R s m args below meth c H locs cells slots Q (F0 m (pc) ls (.int x :: .int (nI j) :: .ref a :: rest)) :=
  va_zast hexec hb hK hP hD hS q0 t0 ha ht (vp_in_nI hj hn) hdg (fun H1 locs1 h1 h2 h3 => by
    rw [nI_clamp (Nat.lt_trans hj hn), hx] at h1 h2
    exact kk H1 locs1 h1 h2 h3)
end TN
/-- the world of a TripleJoin: the object and its ten arrays -/
def wJ (h : Nat) (a : Nat → Nat) (d : ClassId) (he : Int32) (ob pr su go si : Nat → Int32) (n : Int32) (pl : Nat → Int32) (nv : Int32) (vr bo ca vc : Nat → Int32) (sc : Int32) : va_W :=
  [(h, .inr (0, [.int he, .ref (a 1), .ref (a 2), .ref (a 3), .ref (a 4), .ref (a 5), .int n, .ref (a 7), .int nv, .ref (a 9), .ref (a 10), .ref (a 11), .ref (a 12), .int sc])),
   (a 1, .inl (d, 64, .inl ob)), (a 2, .inl (d, 64, .inl pr)), (a 3, .inl (d, 64, .inl su)), (a 4, .inl (d, 384, .inl go)), (a 5, .inl (d, 24, .inl si)), (a 7, .inl (d, 12, .inl pl)), (a 9, .inl (d, 4, .inl vr)), (a 10, .inl (d, 4, .inl bo)), (a 11, .inl (d, 5, .inl ca)), (a 12, .inl (d, 32, .inl vc))]
/-- the world of a TripleJoinModel -/
def wM (h : Nat) (a : Nat → Nat) (d z : ClassId) (fa : Nat → Int32) (n : Int32) (pl tr : Nat → Int32) : va_W :=
  [(h, .inr (1, [.ref (a 0), .int n, .ref (a 2), .ref (a 3)])), (a 0, .inl (z, 512, .inl fa)), (a 2, .inl (d, 12, .inl pl)), (a 3, .inl (d, 4, .inl tr))]
def oJ (h : Nat) (a : Nat → Nat) : Nat → Prop := fun q => q = h ∨ q = a 1 ∨ q = a 2 ∨ q = a 3 ∨ q = a 4 ∨ q = a 5 ∨ q = a 7 ∨ q = a 9 ∨ q = a 10 ∨ q = a 11 ∨ q = a 12
def oM (h : Nat) (a : Nat → Nat) : Nat → Prop := fun q => q = h ∨ q = a 0 ∨ q = a 2 ∨ q = a 3
/-- the addresses alone decide va_D -/
theorem va_D_re {A : Nat → Prop} {w w2 : va_W} (h : va_D A w) (e : w2.map Prod.fst = w.map Prod.fst) : va_D A w2 := by
  have key : ∀ (k : Nat) (q : Nat × va_E), w2[k]? = some q → ∃ q0 : Nat × va_E, w[k]? = some q0 ∧ q0.1 = q.1 := by
    intro k q hq
    have h1 : (w2.map Prod.fst)[k]? = some q.1 := by rw [List.getElem?_map, hq]; rfl
    rw [e, List.getElem?_map] at h1
    cases hw : w[k]? with
    | none => rw [hw] at h1; cases h1
    | some q0 => rw [hw] at h1; exact ⟨q0, rfl, Option.some.inj h1⟩
  refine ⟨fun i j x y hx hy hxy => ?_, fun k q hq => ?_⟩
  · obtain ⟨x0, a1, a2⟩ := key i x hx
    obtain ⟨y0, b1, b2⟩ := key j y hy
    exact h.1 i j x0 y0 a1 b1 (by rw [a2, b2]; exact hxy)
  · obtain ⟨q0, a1, a2⟩ := key k q hq
    rw [← a2]
    exact h.2 k q0 a1
section WJ
variable {h : Nat} {a : Nat → Nat} {d z : ClassId} {he : Int32} {ob pr su go si : Nat → Int32} {n : Int32} {pl : Nat → Int32} {nv : Int32} {vr bo ca vc : Nat → Int32} {sc : Int32} {fa tr : Nat → Int32} {B : Nat → Prop}
theorem oJ_D (hD : va_D B (wJ h a d he ob pr su go si n pl nv vr bo ca vc sc)) : va_D (oJ h a) (wJ h a d he ob pr su go si n pl nv vr bo ca vc sc) := by
  refine ⟨hD.1, fun k q hq => ?_⟩
  have h1 := List.mem_of_getElem? hq
  simp only [wJ, List.mem_cons, List.not_mem_nil, or_false] at h1
  rcases h1 with rfl | rfl | rfl | rfl | rfl | rfl | rfl | rfl | rfl | rfl | rfl <;> simp [oJ]
theorem oM_D (hD : va_D B (wM h a d z fa n pl tr)) : va_D (oM h a) (wM h a d z fa n pl tr) := by
  refine ⟨hD.1, fun k q hq => ?_⟩
  have h1 := List.mem_of_getElem? hq
  simp only [wM, List.mem_cons, List.not_mem_nil, or_false] at h1
  rcases h1 with rfl | rfl | rfl | rfl <;> simp [oM]
theorem oJ_in (hD : va_D B (wJ h a d he ob pr su go si n pl nv vr bo ca vc sc)) : ∀ q, oJ h a q → B q := by
  intro q hq
  rcases hq with rfl | rfl | rfl | rfl | rfl | rfl | rfl | rfl | rfl | rfl | rfl
  · exact hD.2 0 _ rfl
  · exact hD.2 1 _ rfl
  · exact hD.2 2 _ rfl
  · exact hD.2 3 _ rfl
  · exact hD.2 4 _ rfl
  · exact hD.2 5 _ rfl
  · exact hD.2 6 _ rfl
  · exact hD.2 7 _ rfl
  · exact hD.2 8 _ rfl
  · exact hD.2 9 _ rfl
  · exact hD.2 10 _ rfl
theorem oM_in (hD : va_D B (wM h a d z fa n pl tr)) : ∀ q, oM h a q → B q := by
  intro q hq
  rcases hq with rfl | rfl | rfl | rfl
  · exact hD.2 0 _ rfl
  · exact hD.2 1 _ rfl
  · exact hD.2 2 _ rfl
  · exact hD.2 3 _ rfl
end WJ
/-- a method's start over one of the two worlds -/
def pJ (D : va_G) (d z : ClassId) (w : va_W) (av : List Value) : Array Value → State → Prop := va_Pc av (fun U => va_P D vwCl w U.heap ∧ va_K D vwCl [(d, .int), (z, .boolean)] U ∧ va_D (fun _ => True) w)
def pS (av : List Value) : Array Value → State → Prop := va_Pc av (fun _ => True)
theorem pJ_blind {D : va_G} {d z : ClassId} {w : va_W} {av : List Value} : FrameBlind (pJ D d z w av) := by
  intro a U g mk q
  obtain ⟨q0, qP, qK, qD⟩ := q
  exact ⟨q0, qP, va_K.moved (u := U) (U := U.calling g mk a) (Vm.Alike.refl U.vm) qK, qD⟩
theorem pJ_preJ {s : State} {H : Heap} {D : va_G} {d z : ClassId} {w : va_W} {As : List Value} {h : Nat} {A : Nat → Prop} {fs : List Value} (hK : va_K D vwCl [(d, .int), (z, .boolean)] s) (hP : va_P D vwCl w H) (hD : va_D A w) (he : w[0]? = some (h, .inr (0, fs))) : PreV s H RX0 h (pJ D d z w (.ref h :: As)) As :=
  ⟨pJ_blind, va_recv hK hP (ci := 0) (q := (RX0, TX0, 14)) rfl he, fun U hU hW => ⟨rfl, by rw [hU]; exact hP, va_K.moved hW.alike hK, hD.weaken (fun _ _ _ _ => trivial)⟩⟩
theorem pJ_preM {s : State} {H : Heap} {D : va_G} {d z : ClassId} {w : va_W} {As : List Value} {h : Nat} {A : Nat → Prop} {fs : List Value} (hK : va_K D vwCl [(d, .int), (z, .boolean)] s) (hP : va_P D vwCl w H) (hD : va_D A w) (he : w[0]? = some (h, .inr (1, fs))) : PreV s H RX1 h (pJ D d z w (.ref h :: As)) As :=
  ⟨pJ_blind, va_recv hK hP (ci := 1) (q := (RX1, TX1, 4)) rfl he, fun U hU hW => ⟨rfl, by rw [hU]; exact hP, va_K.moved hW.alike hK, hD.weaken (fun _ _ _ _ => trivial)⟩⟩
theorem pS_pre {s : State} {H : Heap} {As : List Value} : PreS s H (pS As) As := ⟨fun _ _ _ _ q => ⟨q.1, trivial⟩, fun _ _ _ => ⟨rfl, trivial⟩⟩
end
section
theorem nx_and (a b : Nat) : nI a &&& nI b = nI (a &&& b) := by
  apply Int32.toBitVec_inj.1
  show BitVec.ofNat 32 a &&& BitVec.ofNat 32 b = BitVec.ofNat 32 (a &&& b)
  apply BitVec.eq_of_getLsbD_eq
  intro i hi
  simp [hi]
theorem nx_or (a b : Nat) : nI a ||| nI b = nI (a ||| b) := by
  apply Int32.toBitVec_inj.1
  show BitVec.ofNat 32 a ||| BitVec.ofNat 32 b = BitVec.ofNat 32 (a ||| b)
  apply BitVec.eq_of_getLsbD_eq
  intro i hi
  simp [hi]
theorem nx_xor (a b : Nat) : nI a ^^^ nI b = nI (a ^^^ b) := by
  apply Int32.toBitVec_inj.1
  show BitVec.ofNat 32 a ^^^ BitVec.ofNat 32 b = BitVec.ofNat 32 (a ^^^ b)
  apply BitVec.eq_of_getLsbD_eq
  intro i hi
  simp [hi]
theorem nx_cnt : ∀ j : Fin 32, (UInt32.ofNat j.val &&& Int32.toUInt32 31).toNat % 32 = j.val := by decide +kernel
theorem nx_ush {k j : Nat} (hk : k < 65536) (hj : j < 32) : ((nI k).toUInt32 >>> ((nI j).toUInt32 &&& Int32.toUInt32 31)).toInt32 = nI (k >>> j) := by
  have hs : k >>> j ≤ k := by
    rw [Nat.shiftRight_eq_div_pow]
    exact Nat.div_le_self _ _
  have e2 : UInt32.ofNat k >>> (UInt32.ofNat j &&& Int32.toUInt32 31) = UInt32.ofNat (k >>> j) := by
    apply UInt32.toNat_inj.1
    have h1 : (UInt32.ofNat k).toNat = k := Nat.mod_eq_of_lt (by omega)
    have h2 : (UInt32.ofNat (k >>> j)).toNat = k >>> j := Nat.mod_eq_of_lt (by omega)
    rw [UInt32.toNat_shiftRight, nx_cnt ⟨j, hj⟩, h1, h2]
  show (UInt32.ofNat k >>> (UInt32.ofNat j &&& Int32.toUInt32 31)).toInt32 = _
  rw [e2]
  rfl
/-- a truth value as a number -/
def tb (b : Bool) : Nat := if b = true then 1 else 0
theorem tb_lt (b : Bool) : tb b < 2 ^ 31 := by cases b <;> decide
theorem tb_0 {b : Bool} (h : tb b = 0) : b = false := by cases b <;> first | rfl | exact absurd h (by decide)
theorem tb_1 {b : Bool} (h : tb b ≠ 0) : b = true := by cases b <;> first | rfl | exact absurd rfl h
theorem tb_t {b : Bool} (h : b = true) : tb b = 1 := by rw [h]; rfl
theorem tb_f {b : Bool} (h : b = false) : tb b = 0 := by rw [h]; rfl
/-- how many numbers below k -/
def tcn (f : Nat → Bool) : Nat → Nat
  | 0 => 0
  | k + 1 => tcn f k + tb (f k)
/-- the mask of the numbers below k -/
def tmk (f : Nat → Bool) : Nat → Nat
  | 0 => 0
  | k + 1 => tmk f k + tb (f k) * 2 ^ k
theorem tb_le (b : Bool) : tb b ≤ 1 := by cases b <;> decide
theorem tcn_le (f : Nat → Bool) : ∀ k, tcn f k ≤ k
  | 0 => Nat.le_refl 0
  | k + 1 => Nat.add_le_add (tcn_le f k) (tb_le _)
theorem tcn_congr {f g : Nat → Bool} : ∀ k, (∀ i, i < k → f i = g i) → tcn f k = tcn g k
  | 0, _ => rfl
  | k + 1, h => by
    show tcn f k + tb (f k) = tcn g k + tb (g k)
    rw [tcn_congr k (fun i hi => h i (by omega)), h k (by omega)]
theorem tmk_congr {f g : Nat → Bool} : ∀ k, (∀ i, i < k → f i = g i) → tmk f k = tmk g k
  | 0, _ => rfl
  | k + 1, h => by
    show tmk f k + tb (f k) * 2 ^ k = tmk g k + tb (g k) * 2 ^ k
    rw [tmk_congr k (fun i hi => h i (by omega)), h k (by omega)]
theorem tmk_lt (f : Nat → Bool) : ∀ k, tmk f k < 2 ^ k
  | 0 => Nat.one_pos
  | k + 1 => by
    have h1 := tmk_lt f k
    have h2 := tb_le (f k)
    show tmk f k + tb (f k) * 2 ^ k < 2 ^ (k + 1)
    have h3 : tb (f k) * 2 ^ k ≤ 1 * 2 ^ k := Nat.mul_le_mul_right _ h2
    rw [Nat.pow_succ]
    omega
theorem tmk_bit (f : Nat → Bool) (j : Nat) : ∀ k, (tmk f k).testBit j = (decide (j < k) && f j)
  | 0 => by simp [tmk]
  | k + 1 => by
    show (tmk f k + tb (f k) * 2 ^ k).testBit j = _
    have ih := tmk_bit f j k
    have hlt := tmk_lt f k
    have hlt2 := tmk_lt f (k + 1)
    rcases Nat.lt_trichotomy j k with h | h | h
    · cases hf : f k with
      | false =>
        rw [show tb false = 0 from rfl, Nat.zero_mul, Nat.add_zero, ih]
        simp [h, show j < k + 1 by omega]
      | true =>
        rw [show tb true = 1 from rfl, Nat.one_mul, Nat.add_comm, Nat.testBit_two_pow_add_gt h, ih]
        simp [h, show j < k + 1 by omega]
    · subst h
      cases hf : f j with
      | false =>
        rw [show tb false = 0 from rfl, Nat.zero_mul, Nat.add_zero, Nat.testBit_lt_two_pow hlt]
        simp
      | true =>
        rw [show tb true = 1 from rfl, Nat.one_mul, Nat.add_comm, Nat.testBit_two_pow_add_eq, Nat.testBit_lt_two_pow hlt]
        simp
    · have h2 : tmk f k + tb (f k) * 2 ^ k < 2 ^ j := Nat.lt_of_lt_of_le hlt2 (Nat.pow_le_pow_right (by decide) h)
      rw [Nat.testBit_lt_two_pow h2]
      simp [show ¬ j < k + 1 by omega]
theorem tmk_ext {f : Nat → Bool} {M k : Nat} (hM : M < 2 ^ k) (h : ∀ j, j < k → M.testBit j = f j) : M = tmk f k := by
  apply Nat.eq_of_testBit_eq
  intro j
  rw [tmk_bit]
  by_cases hj : j < k
  · rw [h j hj]; simp [hj]
  · rw [Nat.testBit_lt_two_pow (Nat.lt_of_lt_of_le hM (Nat.pow_le_pow_right (by decide) (by omega)))]
    simp [hj]
theorem tmk_8 (f : Nat → Bool) : tmk f 8 < 256 := tmk_lt f 8
theorem t_shl : ∀ i, i < 8 → nI 1 <<< (nI i &&& 31) = nI (2 ^ i) := by decide +kernel
theorem t_or0 (x : Int32) : x ||| nI 0 = x := by
  apply Int32.toBitVec_inj.1
  show x.toBitVec ||| BitVec.ofNat 32 0 = x.toBitVec
  simp
theorem tmk_s1 {f : Nat → Bool} {i : Nat} (hi : i < 8) (hf : f i = true) : nI (tmk f i) ||| (nI 1 <<< (nI i &&& 31)) = nI (tmk f (i + 1)) := by
  rw [t_shl i hi, nx_or]
  have h := Nat.two_pow_add_eq_or_of_lt (tmk_lt f i) 1
  rw [Nat.mul_one] at h
  rw [Nat.or_comm, ← h]
  show _ = nI (tmk f i + tb (f i) * 2 ^ i)
  rw [hf, show tb true = 1 from rfl, Nat.one_mul, Nat.add_comm]
theorem tmk_s0 {f : Nat → Bool} {i : Nat} (hf : f i = false) : nI (tmk f i) ||| nI 0 = nI (tmk f (i + 1)) := by
  rw [t_or0]
  show _ = nI (tmk f i + tb (f i) * 2 ^ i)
  rw [hf, show tb false = 0 from rfl, Nat.zero_mul, Nat.add_zero]
theorem t_bit {M j : Nat} (hM : M < 256) (hj : j < 8) : ((nI M).toUInt32 >>> ((nI j).toUInt32 &&& Int32.toUInt32 31)).toInt32 &&& nI 1 = nI (tb (M.testBit j)) := by
  rw [nx_ush (by omega) (by omega), nx_and, Nat.and_one_is_mod, Nat.testBit_eq_decide_div_mod_eq, Nat.shiftRight_eq_div_pow]
  generalize M / 2 ^ j = z
  congr 1
  by_cases h : z % 2 = 1
  · rw [h]; rfl
  · rw [show z % 2 = 0 by omega]; rfl
theorem t_bitf {f : Nat → Bool} {x : Int32} {j : Nat} (hx : x = nI (tmk f 8)) (hj : j < 8) : (x.toUInt32 >>> ((nI j).toUInt32 &&& Int32.toUInt32 31)).toInt32 &&& nI 1 = nI (tb (f j)) := by
  rw [hx, t_bit (tmk_8 f) hj, tmk_bit]
  simp [hj]
/-- a part: 0 .. 7 -/
def tpa (x : Int32) : Bool := decide (0 ≤ x ∧ x ≤ 7)
theorem t_le {x y : Int32} : x ≤ y ↔ x.toInt ≤ y.toInt := Int32.le_iff_toInt_le
theorem t_lt {x y : Int32} : x < y ↔ x.toInt < y.toInt := Int32.lt_iff_toInt_lt
theorem tpa_nI {S : Nat} (h : S < 8) : tpa (nI S) = true := by
  unfold tpa
  rw [decide_eq_true_eq]
  exact ⟨nI_pos' (by omega), nI_le (b := 7) (by omega) (by decide)⟩
theorem tpa_t {x : Int32} (h : tpa x = true) : ∃ S : Nat, S < 8 ∧ x = nI S := by
  unfold tpa at h
  rw [decide_eq_true_eq] at h
  obtain ⟨j, h1, h2⟩ := nI_of2 (x := x) (M := 7) (n := 7) (by decide) (fun q => by rw [t_lt] at q; have := t_le.mp h.1; omega) h.2
  exact ⟨j, by omega, h2⟩
theorem tpa_or (x : Int32) : (∃ S : Nat, S < 8 ∧ x = nI S) ∨ tpa x = false := by
  cases h : tpa x with
  | true => exact Or.inl (tpa_t h)
  | false => exact Or.inr rfl
/-- the first bit that is set -/
def tlo (M : Nat) : Nat := if M.testBit 0 then 0 else if M.testBit 1 then 1 else if M.testBit 2 then 2 else if M.testBit 3 then 3 else if M.testBit 4 then 4 else if M.testBit 5 then 5 else if M.testBit 6 then 6 else 7
theorem tlo_eq {M j : Nat} (hj : j < 8) (h1 : M.testBit j = true) (h2 : ∀ k, k < j → M.testBit k = false) : tlo M = j := by
  unfold tlo
  rcases (show j = 0 ∨ j = 1 ∨ j = 2 ∨ j = 3 ∨ j = 4 ∨ j = 5 ∨ j = 6 ∨ j = 7 by omega) with rfl | rfl | rfl | rfl | rfl | rfl | rfl | rfl
  · simp [h1]
  · simp [h1, h2 0 (by omega)]
  · simp [h1, h2 0 (by omega), h2 1 (by omega)]
  · simp [h1, h2 0 (by omega), h2 1 (by omega), h2 2 (by omega)]
  · simp [h1, h2 0 (by omega), h2 1 (by omega), h2 2 (by omega), h2 3 (by omega)]
  · simp [h1, h2 0 (by omega), h2 1 (by omega), h2 2 (by omega), h2 3 (by omega), h2 4 (by omega)]
  · simp [h1, h2 0 (by omega), h2 1 (by omega), h2 2 (by omega), h2 3 (by omega), h2 4 (by omega), h2 5 (by omega)]
  · simp [h2 0 (by omega), h2 1 (by omega), h2 2 (by omega), h2 3 (by omega), h2 4 (by omega), h2 5 (by omega), h2 6 (by omega)]
/-- does the value stand at a place below k -/
def thit (pl : Nat → Int32) (v : Int32) : Nat → Bool
  | 0 => false
  | k + 1 => thit pl v k || decide (pl k = v)
theorem thit_f {pl : Nat → Int32} {v : Int32} : ∀ k, (∀ j, j < k → pl j ≠ v) → thit pl v k = false
  | 0, _ => rfl
  | k + 1, h => by
    show (thit pl v k || decide (pl k = v)) = false
    rw [thit_f k (fun j hj => h j (by omega))]
    simp [h k (by omega)]
theorem thit_t {pl : Nat → Int32} {v : Int32} {j : Nat} (hj : pl j = v) : ∀ k, j < k → thit pl v k = true
  | 0, h => absurd h (Nat.not_lt_zero j)
  | k + 1, h => by
    show (thit pl v k || decide (pl k = v)) = true
    by_cases e : j = k
    · subst e; simp [hj]
    · rw [thit_t hj k (by omega)]; rfl
theorem thit_iff {pl : Nat → Int32} {v : Int32} {k : Nat} : thit pl v k = true ↔ ∃ j, j < k ∧ pl j = v := by
  constructor
  · intro h
    refine Classical.byContradiction (fun q => ?_)
    rw [thit_f k (fun j hj e => q ⟨j, hj, e⟩)] at h
    cases h
  · rintro ⟨j, h1, h2⟩
    exact thit_t h2 k h1
/-- a variable's name -1 .. -4 -/
def tva (v : Int32) : Bool := decide (-4 ≤ v ∧ v ≤ -1)
def tsd (pl : Nat → Int32) (N : Nat) (v : Int32) : Bool := tva v && thit pl v (3 * N)
theorem t_neg : ∀ k, k < 4 → (-1 - nI k : Int32) < 0 := by decide +kernel
theorem tva_k : ∀ k, k < 4 → tva (-1 - nI k) = true := by decide +kernel
theorem tva_t {v : Int32} (h : tva v = true) : ∃ k : Nat, k < 4 ∧ v = -1 - nI k := by
  unfold tva at h
  rw [decide_eq_true_eq, t_le, t_le] at h
  have h1 : (-4 : Int32).toInt = -4 := by decide
  have h2 : (-1 : Int32).toInt = -1 := by decide
  rw [h1, h2] at h
  refine ⟨(-1 - v.toInt).toNat, by omega, ?_⟩
  apply Int32.toInt_inj.1
  have : (-1 - v.toInt).toNat = 0 ∨ (-1 - v.toInt).toNat = 1 ∨ (-1 - v.toInt).toNat = 2 ∨ (-1 - v.toInt).toNat = 3 := by omega
  rcases this with e | e | e | e <;> rw [e]
  · rw [show (-1 - nI 0 : Int32).toInt = -1 by decide]; omega
  · rw [show (-1 - nI 1 : Int32).toInt = -2 by decide]; omega
  · rw [show (-1 - nI 2 : Int32).toInt = -3 by decide]; omega
  · rw [show (-1 - nI 3 : Int32).toInt = -4 by decide]; omega
theorem t_back (k : Nat) : (-1 : Int32) - (-1 - nI k) = nI k := by
  generalize nI k = q
  grind
/-- a place agrees with a number -/
def tag (y : Int32) (i : Nat) : Bool := decide (y < 0 ∨ 7 < y) || decide (y = nI i)
/-- how many facts agree -/
def tC3 (F : Nat → Bool) (s p o : Int32) : Nat := tcn (fun i => F i && tag s (i / 64) && tag p (i / 8 % 8) && tag o (i % 8)) 512
theorem tC3_lt (F : Nat → Bool) (s p o : Int32) : tC3 F s p o < 2 ^ 31 := Nat.lt_of_le_of_lt (tcn_le _ _) (by decide)
/-- the indices of the class, as the facts say -/
def tTI (F : Nat → Bool) (he : Int32) (ob pr su go si : Nat → Int32) : Prop :=
  he = nI (tC3 F (-1) (-1) (-1)) ∧
  (∀ x y, x < 8 → y < 8 → ob (8 * x + y) = nI (tmk (fun q => F (64 * x + 8 * y + q)) 8) ∧ pr (8 * x + y) = nI (tmk (fun q => F (64 * x + 8 * q + y)) 8) ∧ su (8 * x + y) = nI (tmk (fun q => F (64 * q + 8 * x + y)) 8)) ∧
  (∀ x y, x < 8 → y < 8 → go (8 * x + y) = nI (tC3 F (nI x) (nI y) (-1)) ∧ go (64 + 8 * x + y) = nI (tC3 F (nI x) (-1) (nI y)) ∧ go (128 + 8 * x + y) = nI (tC3 F (nI y) (nI x) (-1)) ∧ go (192 + 8 * x + y) = nI (tC3 F (-1) (nI x) (nI y)) ∧ go (256 + 8 * x + y) = nI (tC3 F (nI y) (-1) (nI x)) ∧ go (320 + 8 * x + y) = nI (tC3 F (-1) (nI y) (nI x))) ∧
  (∀ x, x < 8 → si x = nI (tC3 F (nI x) (-1) (-1)) ∧ si (8 + x) = nI (tC3 F (-1) (nI x) (-1)) ∧ si (16 + x) = nI (tC3 F (-1) (-1) (nI x)))
def tix (s p o : Int32) : Nat := 64 * s.toNatClampNeg + 8 * p.toNatClampNeg + o.toNatClampNeg
theorem tix_nI {S P O : Nat} (hS : S < 8) (hP : P < 8) (hO : O < 8) : tix (nI S) (nI P) (nI O) = 64 * S + 8 * P + O := by
  unfold tix
  rw [nI_clamp (by omega), nI_clamp (by omega), nI_clamp (by omega)]
def thas (F : Nat → Bool) (s p o : Int32) : Bool := tpa s && tpa p && tpa o && F (tix s p o)
end
section
/-- the number at a place, or the one its variable is bound to -/
def tkn (bo : Nat → Int32) (x : Int32) : Int32 := if 0 ≤ x then x else bo (-1 - x).toNatClampNeg
theorem tkn_nI (bo : Nat → Int32) {S : Nat} (h : S < 8) : tkn bo (nI S) = nI S := if_pos (nI_pos' (by omega))
theorem tkn_k (bo : Nat → Int32) {k : Nat} (h : k < 4) : tkn bo (-1 - nI k) = bo k := by
  unfold tkn
  rw [if_neg (fun q => absurd (t_neg k h) (Int32.not_lt.mpr q)), t_back, nI_clamp (by omega)]
set_option maxHeartbeats 1000000 in
set_option maxRecDepth 100000 in
/-- isPart -/
theorem m_isPart (l : Launch) (x : Int32) : Met l yX0_isPart (ws_ yX0_isPart cX0_isPart 1 (some .boolean)) (rm_ 1 0) (pS [.int x]) (vp_Si (fun r_ => r_ = nI (tb (tpa x)))) 0 0 (fun _ => False) := by
  refine Met.ofW (cc := cX0_isPart) (maxL := 1) (ret := (some .boolean)) (by decide) rfl ?_
  intro p e s m args below meth c s₁ B hml hv
  obtain ⟨rfl, -⟩ := hv
  have hx := B.exec
  have hb := B.bytes
  have hr := B.returns
  have hts := atoms_spec (ws := (ws_ yX0_isPart cX0_isPart 1 (some .boolean))) B.pre
  have hts : ∀ w ∈ lw_all, w.before _ s = true := fun w h => hts w (List.mem_cons_of_mem _ h)
  have hown : s.vm.findClass RX0 = some m.cls := findClass_of_methodNamed B.named
  have hlocks := B.notSynchronized
  have hl := lv_entry ([.int x]) (n := 1) (Nat.le_of_ble_eq_true rfl)
  rw [lg_entry_eq]
  generalize (lg_sl ([.int x]) ++ List.replicate (1 - (lg_sl ([.int x])).length) Slot.unset).toArray = ls at hl ⊢
  have hl : lv_has ls 1 [(0, .int x)] := hl
  refine lv_iload_n hx hb dX0_isPart_0 rfl (lv_at hl 0 rfl) ?_
  refine lv_if_lt (tgt := 14) hx hb dX0_isPart_1 (by decide) (fun c_1 => ?_) (fun c_1 => ?_)
  · refine lv_iconst (v := nI 0) hx hb dX0_isPart_14 (by decide) ?_
    exact W.zret (v := nI 0) hx hb hr rfl (fun t ht hW => ⟨_, rfl, (by rw [show tpa x = false by unfold tpa; rw [decide_eq_false_iff_not]; exact fun q => Int32.not_lt.mpr q.1 c_1]; rfl), ht⟩) (fun _ h9 => nomatch h9) dX0_isPart_15
  · refine lv_iload_n hx hb dX0_isPart_4 rfl (lv_at hl 0 rfl) ?_
    refine lv_bipush (v := nI 7) hx hb dX0_isPart_5 (by decide) ?_
    refine lv_icmp_gt (tgt := 14) hx hb dX0_isPart_7 (by decide) (fun c_7 => ?_) (fun c_7 => ?_)
    · refine lv_iconst (v := nI 0) hx hb dX0_isPart_14 (by decide) ?_
      exact W.zret (v := nI 0) hx hb hr rfl (fun t ht hW => ⟨_, rfl, (by rw [show tpa x = false by unfold tpa; rw [decide_eq_false_iff_not]; exact fun q => Int32.not_lt.mpr q.2 c_7]; rfl), ht⟩) (fun _ h9 => nomatch h9) dX0_isPart_15
    · refine lv_iconst (v := nI 1) hx hb dX0_isPart_10 (by decide) ?_
      refine lv_goto (tgt := 15) hx hb dX0_isPart_11 (by decide) ?_
      exact W.zret (v := nI 1) hx hb hr rfl (fun t ht hW => ⟨_, rfl, (by rw [show tpa x = true by unfold tpa; rw [decide_eq_true_eq]; exact ⟨Int32.not_lt.mp c_1, Int32.not_lt.mp c_7⟩]; rfl), ht⟩) (fun _ h9 => nomatch h9) dX0_isPart_15

set_option maxHeartbeats 1000000 in
set_option maxRecDepth 100000 in
/-- outside -/
theorem mm_outside (l : Launch) (x : Int32) : Met l yX1_outside (ws_ yX1_outside cX1_outside 1 (some .boolean)) (rm_ 1 0) (pS [.int x]) (vp_Si (fun r_ => r_ = nI (tb (!tpa x)))) 0 0 (fun _ => False) := by
  refine Met.ofW (cc := cX1_outside) (maxL := 1) (ret := (some .boolean)) (by decide) rfl ?_
  intro p e s m args below meth c s₁ B hml hv
  obtain ⟨rfl, -⟩ := hv
  have hx := B.exec
  have hb := B.bytes
  have hr := B.returns
  have hts := atoms_spec (ws := (ws_ yX1_outside cX1_outside 1 (some .boolean))) B.pre
  have hts : ∀ w ∈ lw_all, w.before _ s = true := fun w h => hts w (List.mem_cons_of_mem _ h)
  have hown : s.vm.findClass RX1 = some m.cls := findClass_of_methodNamed B.named
  have hlocks := B.notSynchronized
  have hl := lv_entry ([.int x]) (n := 1) (Nat.le_of_ble_eq_true rfl)
  rw [lg_entry_eq]
  generalize (lg_sl ([.int x]) ++ List.replicate (1 - (lg_sl ([.int x])).length) Slot.unset).toArray = ls at hl ⊢
  have hl : lv_has ls 1 [(0, .int x)] := hl
  refine lv_iload_n hx hb dX1_outside_0 rfl (lv_at hl 0 rfl) ?_
  refine lv_if_lt (tgt := 10) hx hb dX1_outside_1 (by decide) (fun c_1 => ?_) (fun c_1 => ?_)
  · refine lv_iconst (v := nI 1) hx hb dX1_outside_10 (by decide) ?_
    refine lv_goto (tgt := 15) hx hb dX1_outside_11 (by decide) ?_
    exact W.zret (v := nI 1) hx hb hr rfl (fun t ht hW => ⟨_, rfl, (by rw [show tpa x = false by unfold tpa; rw [decide_eq_false_iff_not]; exact fun q => Int32.not_lt.mpr q.1 c_1]; rfl), ht⟩) (fun _ h9 => nomatch h9) dX1_outside_15
  · refine lv_iload_n hx hb dX1_outside_4 rfl (lv_at hl 0 rfl) ?_
    refine lv_bipush (v := nI 7) hx hb dX1_outside_5 (by decide) ?_
    refine lv_icmp_le (tgt := 14) hx hb dX1_outside_7 (by decide) (fun c_7 => ?_) (fun c_7 => ?_)
    · refine lv_iconst (v := nI 0) hx hb dX1_outside_14 (by decide) ?_
      exact W.zret (v := nI 0) hx hb hr rfl (fun t ht hW => ⟨_, rfl, (by rw [show tpa x = true by unfold tpa; rw [decide_eq_true_eq]; exact ⟨Int32.not_lt.mp c_1, c_7⟩]; rfl), ht⟩) (fun _ h9 => nomatch h9) dX1_outside_15
    · refine lv_iconst (v := nI 1) hx hb dX1_outside_10 (by decide) ?_
      refine lv_goto (tgt := 15) hx hb dX1_outside_11 (by decide) ?_
      exact W.zret (v := nI 1) hx hb hr rfl (fun t ht hW => ⟨_, rfl, (by rw [show tpa x = false by unfold tpa; rw [decide_eq_false_iff_not]; exact fun q => c_7 q.2]; rfl), ht⟩) (fun _ h9 => nomatch h9) dX1_outside_15

set_option maxHeartbeats 1000000 in
set_option maxRecDepth 100000 in
/-- ones -/
theorem m_ones (l : Launch) (M : Nat) (hM : M < 256) : Met l yX0_ones (ws_ yX0_ones cX0_ones 3 (some .int)) (rm_ 1 0) (pS [.int (nI M)]) (vp_Si (fun r_ => r_ = nI (tcn (fun k => M.testBit k) 8))) 0 0 (fun _ => False) := by
  refine Met.ofW (cc := cX0_ones) (maxL := 3) (ret := (some .int)) (by decide) rfl ?_
  intro p e s m args below meth c s₁ B hml hv
  obtain ⟨rfl, -⟩ := hv
  have hx := B.exec
  have hb := B.bytes
  have hr := B.returns
  have hts := atoms_spec (ws := (ws_ yX0_ones cX0_ones 3 (some .int))) B.pre
  have hts : ∀ w ∈ lw_all, w.before _ s = true := fun w h => hts w (List.mem_cons_of_mem _ h)
  have hown : s.vm.findClass RX0 = some m.cls := findClass_of_methodNamed B.named
  have hlocks := B.notSynchronized
  have hl := lv_entry ([.int (nI M)]) (n := 3) (Nat.le_of_ble_eq_true rfl)
  rw [lg_entry_eq]
  generalize (lg_sl ([.int (nI M)]) ++ List.replicate (3 - (lg_sl ([.int (nI M)])).length) Slot.unset).toArray = ls at hl ⊢
  have hl : lv_has ls 3 [(0, .int (nI M))] := hl
  refine lv_iconst (v := nI 0) hx hb dX0_ones_0 (by decide) ?_
  refine lv_istore_n (lv' := [(1, .int (nI 0)), (0, .int (nI M))]) hx hb dX0_ones_1 rfl hl (by decide) rfl (fun ls hl => ?_)
  refine lv_iconst (v := nI 0) hx hb dX0_ones_2 (by decide) ?_
  refine lv_istore_n (lv' := [(2, .int (nI 0)), (1, .int (nI 0)), (0, .int (nI M))]) hx hb dX0_ones_3 rfl hl (by decide) rfl (fun ls hl => ?_)
  refine tn_for (fun j ls => lv_has ls 3 [(2, .int (nI j)), (1, .int (nI (tcn (fun k => M.testBit k) j))), (0, .int (nI M))]) 8 0 (by decide) (lv_sub hl [0, 1, 2] rfl) (fun j ls hj hJ ih => ?_) (fun ls hJ => ?_)
  · have hl := hJ
    refine lv_iload_n hx hb dX0_ones_4 rfl (lv_at hl 0 rfl) ?_
    refine lv_bipush (v := nI 8) hx hb dX0_ones_5 (by decide) ?_
    refine tn_icmp_ge (tgt := 24) hx hb dX0_ones_7 (by decide) (by omega) (by decide) (fun z => absurd z (by omega)) (fun _ => ?_)
    refine lv_iload_n hx hb dX0_ones_10 rfl (lv_at hl 1 rfl) ?_
    refine lv_iload_n hx hb dX0_ones_11 rfl (lv_at hl 2 rfl) ?_
    refine lv_iload_n hx hb dX0_ones_12 rfl (lv_at hl 0 rfl) ?_
    refine lv_iushr hx hb dX0_ones_13 rfl ?_
    refine lv_iconst (v := nI 1) hx hb dX0_ones_14 (by decide) ?_
    refine lv_iand hx hb dX0_ones_15 ?_
    refine tn_as (nI (tb (M.testBit j))) (t_bit hM hj) ?_
    refine tn_iadd hx hb dX0_ones_16 ?_
    refine tn_as (nI (tcn (fun k => M.testBit k) (j + 1))) rfl ?_
    refine lv_istore_n (lv' := [(1, .int (nI (tcn (fun k => M.testBit k) (j + 1)))), (2, .int (nI j)), (0, .int (nI M))]) hx hb dX0_ones_17 rfl hl (by decide) rfl (fun ls hl => ?_)
    refine lv_iinc (v := nI (j + 1)) (lv' := [(2, .int (nI (j + 1))), (1, .int (nI (tcn (fun k => M.testBit k) (j + 1)))), (0, .int (nI M))]) hx hb dX0_ones_18 hl (k := 1) rfl (nI_1 _) (by decide) rfl (fun ls hl => ?_)
    refine lv_goto (tgt := 4) hx hb dX0_ones_21 (by decide) ?_
    exact ih _ (lv_sub hl [0, 1, 2] rfl)
  · have hl := hJ
    refine lv_iload_n hx hb dX0_ones_4 rfl (lv_at hl 0 rfl) ?_
    refine lv_bipush (v := nI 8) hx hb dX0_ones_5 (by decide) ?_
    refine tn_icmp_ge (tgt := 24) hx hb dX0_ones_7 (by decide) (by decide) (by decide) (fun _ => ?_) (fun z => absurd z (by decide))
    refine lv_iload_n hx hb dX0_ones_24 rfl (lv_at hl 1 rfl) ?_
    exact W.iret (v := nI (tcn (fun k => M.testBit k) 8)) hx hb hr (fun t ht hW => ⟨_, rfl, rfl, ht⟩) (fun _ h9 => nomatch h9) dX0_ones_25

set_option maxHeartbeats 1000000 in
set_option maxRecDepth 100000 in
/-- lowest -/
theorem m_lowest (l : Launch) (M : Nat) (hM : M < 256) (h0 : ∃ j, j < 8 ∧ M.testBit j = true) : Met l yX0_lowest (ws_ yX0_lowest cX0_lowest 2 (some .int)) (rm_ 1 0) (pS [.int (nI M)]) (vp_Si (fun r_ => r_ = nI (tlo M))) 0 0 (fun _ => False) := by
  refine Met.ofW (cc := cX0_lowest) (maxL := 2) (ret := (some .int)) (by decide) rfl ?_
  intro p e s m args below meth c s₁ B hml hv
  obtain ⟨rfl, -⟩ := hv
  have hx := B.exec
  have hb := B.bytes
  have hr := B.returns
  have hts := atoms_spec (ws := (ws_ yX0_lowest cX0_lowest 2 (some .int))) B.pre
  have hts : ∀ w ∈ lw_all, w.before _ s = true := fun w h => hts w (List.mem_cons_of_mem _ h)
  have hown : s.vm.findClass RX0 = some m.cls := findClass_of_methodNamed B.named
  have hlocks := B.notSynchronized
  have hl := lv_entry ([.int (nI M)]) (n := 2) (Nat.le_of_ble_eq_true rfl)
  rw [lg_entry_eq]
  generalize (lg_sl ([.int (nI M)]) ++ List.replicate (2 - (lg_sl ([.int (nI M)])).length) Slot.unset).toArray = ls at hl ⊢
  have hl : lv_has ls 2 [(0, .int (nI M))] := hl
  refine lv_iconst (v := nI 0) hx hb dX0_lowest_0 (by decide) ?_
  refine lv_istore_n (lv' := [(1, .int (nI 0)), (0, .int (nI M))]) hx hb dX0_lowest_1 rfl hl (by decide) rfl (fun ls hl => ?_)
  refine tn_for (fun j ls => lv_has ls 2 [(1, .int (nI j)), (0, .int (nI M))] ∧ (∀ k, k < j → M.testBit k = false)) 8 0 (by decide) ⟨lv_sub hl [0, 1] rfl, (fun k hk => absurd hk (Nat.not_lt_zero k))⟩ (fun j ls hj hJ ih => ?_) (fun ls hJ => ?_)
  · obtain ⟨hl, hE⟩ := hJ
    refine lv_iload_n hx hb dX0_lowest_2 rfl (lv_at hl 0 rfl) ?_
    refine lv_bipush (v := nI 8) hx hb dX0_lowest_3 (by decide) ?_
    refine tn_icmp_ge (tgt := 24) hx hb dX0_lowest_5 (by decide) (by omega) (by decide) (fun z => absurd z (by omega)) (fun _ => ?_)
    refine lv_iload_n hx hb dX0_lowest_8 rfl (lv_at hl 1 rfl) ?_
    refine lv_iload_n hx hb dX0_lowest_9 rfl (lv_at hl 0 rfl) ?_
    refine lv_iushr hx hb dX0_lowest_10 rfl ?_
    refine lv_iconst (v := nI 1) hx hb dX0_lowest_11 (by decide) ?_
    refine lv_iand hx hb dX0_lowest_12 ?_
    refine tn_as (nI (tb (M.testBit j))) (t_bit hM hj) ?_
    refine tn_if_eq (tgt := 18) hx hb dX0_lowest_13 (by decide) (tb_lt _) (fun c_13 => ?_) (fun c_13 => ?_)
    · refine lv_iinc (v := nI (j + 1)) (lv' := [(1, .int (nI (j + 1))), (0, .int (nI M))]) hx hb dX0_lowest_18 hl (k := 0) rfl (nI_1 _) (by decide) rfl (fun ls hl => ?_)
      refine lv_goto (tgt := 2) hx hb dX0_lowest_21 (by decide) ?_
      exact ih _ ⟨lv_sub hl [0, 1] rfl, (fun k hk => by
              by_cases e : k = j
              · rw [e]; exact tb_0 c_13
              · exact hE k (by omega))⟩
    · refine lv_iload_n hx hb dX0_lowest_16 rfl (lv_at hl 0 rfl) ?_
      exact W.iret (v := nI j) hx hb hr (fun t ht hW => ⟨_, rfl, (by rw [tlo_eq hj (tb_1 c_13) hE]), ht⟩) (fun _ h9 => nomatch h9) dX0_lowest_17
  · obtain ⟨hl, hE⟩ := hJ
    obtain ⟨j0, h1, h2⟩ := h0
    rw [hE j0 h1] at h2
    cases h2

set_option maxHeartbeats 1000000 in
set_option maxRecDepth 100000 in
/-- known -/
theorem m_known {l : Launch} {D : va_G} {d z : ClassId} {h : Nat} {a : Nat → Nat} {he : Int32} {ob pr su go si : Nat → Int32} {N : Nat} {pl : Nat → Int32} {nv : Int32} {vr bo ca vc : Nat → Int32} {sc : Int32} (x : Int32) (hx0 : (∃ S : Nat, S < 8 ∧ x = nI S) ∨ ∃ k : Nat, k < 4 ∧ x = -1 - nI k) : Met l yX0_known (ws_ yX0_known cX0_known 2 (some .int)) (rm_ 1 0) (pJ D d z (wJ h a d he ob pr su go si (nI N) pl nv vr bo ca vc sc) [.ref h, .int x]) (vp_Si (fun r_ => r_ = tkn bo x)) 0 0 (fun _ => False) := by
  refine Met.ofW (cc := cX0_known) (maxL := 2) (ret := (some .int)) (by decide) rfl ?_
  intro p e s m args below meth c s₁ B hml hv
  obtain ⟨rfl, hP, hK, hD⟩ := hv
  have hx := B.exec
  have hb := B.bytes
  have hr := B.returns
  have hts := atoms_spec (ws := (ws_ yX0_known cX0_known 2 (some .int))) B.pre
  have hts : ∀ w ∈ lw_all, w.before _ s = true := fun w h => hts w (List.mem_cons_of_mem _ h)
  have hown : s.vm.findClass RX0 = some m.cls := findClass_of_methodNamed B.named
  have hlocks := B.notSynchronized
  have hl := lv_entry ([.ref h, .int x]) (n := 2) (Nat.le_of_ble_eq_true rfl)
  rw [lg_entry_eq]
  generalize (lg_sl ([.ref h, .int x]) ++ List.replicate (2 - (lg_sl ([.ref h, .int x])).length) Slot.unset).toArray = ls at hl ⊢
  have hl : lv_has ls 2 [(0, .ref h), (1, .int x)] := hl
  rcases hx0 with ⟨S, hS, rfl⟩ | ⟨k, hk, rfl⟩
  · refine lv_iload_n hx hb dX0_known_0 rfl (lv_at hl 1 rfl) ?_
    refine tn_if_lt (tgt := 8) hx hb dX0_known_1 (by decide) (by omega) ?_
    refine lv_iload_n hx hb dX0_known_4 rfl (lv_at hl 1 rfl) ?_
    refine lv_goto (tgt := 16) hx hb dX0_known_5 (by decide) ?_
    exact W.iret (v := nI S) hx hb hr (fun t ht hW => ⟨_, rfl, (tkn_nI bo hS).symm, ht⟩) (fun _ h9 => nomatch h9) dX0_known_16
  · refine lv_iload_n hx hb dX0_known_0 rfl (lv_at hl 1 rfl) ?_
    refine lv_if_lt (tgt := 8) hx hb dX0_known_1 (by decide) (fun _ => ?_) (fun z => absurd z (fun q => q (t_neg k hk)))
    refine lv_aload_n hx hb dX0_known_8 rfl (lv_at hl 0 rfl) ?_
    refine va_get (D := D) (ci := 0) (v := .ref (a 10)) (C := RX0) (T := TX0) (N := 14) hx hb hts in_X0 hown hK hP 0 rfl rfl 10 (by decide) (hts _ q38) (fun _ h9 => h9) rfl dX0_known_9 ?_
    refine lv_iconst (v := (-1)) hx hb dX0_known_12 (by decide) ?_
    refine lv_iload_n hx hb dX0_known_13 rfl (lv_at hl 1 rfl) ?_
    refine lv_isub hx hb dX0_known_14 ?_
    refine tn_as (nI k) (t_back k) ?_
    refine tn_iald hx hb hK hP 8 0 rfl rfl (j := k) (by omega) (by decide) dX0_known_15 ?_
    exact W.iret (v := bo k) hx hb hr (fun t ht hW => ⟨_, rfl, (tkn_k bo hk).symm, ht⟩) (fun _ h9 => nomatch h9) dX0_known_16

set_option maxHeartbeats 1000000 in
set_option maxRecDepth 100000 in
/-- stands -/
theorem m_stands {l : Launch} {D : va_G} {d z : ClassId} {h : Nat} {a : Nat → Nat} {he : Int32} {ob pr su go si : Nat → Int32} {N : Nat} {pl : Nat → Int32} {nv : Int32} {vr bo ca vc : Nat → Int32} {sc : Int32} (hN : N ≤ 4) (v : Int32) : Met l yX0_stands (ws_ yX0_stands cX0_stands 3 (some .boolean)) (rm_ 1 0) (pJ D d z (wJ h a d he ob pr su go si (nI N) pl nv vr bo ca vc sc) [.ref h, .int v]) (vp_Si (fun r_ => r_ = nI (tb (tsd pl N v)))) 0 0 (fun _ => False) := by
  refine Met.ofW (cc := cX0_stands) (maxL := 3) (ret := (some .boolean)) (by decide) rfl ?_
  intro p e s m args below meth c s₁ B hml hv
  obtain ⟨rfl, hP, hK, hD⟩ := hv
  have hx := B.exec
  have hb := B.bytes
  have hr := B.returns
  have hts := atoms_spec (ws := (ws_ yX0_stands cX0_stands 3 (some .boolean))) B.pre
  have hts : ∀ w ∈ lw_all, w.before _ s = true := fun w h => hts w (List.mem_cons_of_mem _ h)
  have hown : s.vm.findClass RX0 = some m.cls := findClass_of_methodNamed B.named
  have hlocks := B.notSynchronized
  have hl := lv_entry ([.ref h, .int v]) (n := 3) (Nat.le_of_ble_eq_true rfl)
  rw [lg_entry_eq]
  generalize (lg_sl ([.ref h, .int v]) ++ List.replicate (3 - (lg_sl ([.ref h, .int v])).length) Slot.unset).toArray = ls at hl ⊢
  have hl : lv_has ls 3 [(0, .ref h), (1, .int v)] := hl
  refine lv_iload_n hx hb dX0_stands_0 rfl (lv_at hl 1 rfl) ?_
  refine lv_bipush (v := (-4)) hx hb dX0_stands_1 (by decide) ?_
  refine lv_icmp_lt (tgt := 11) hx hb dX0_stands_3 (by decide) (fun c_3 => ?_) (fun c_3 => ?_)
  · refine lv_iconst (v := nI 0) hx hb dX0_stands_11 (by decide) ?_
    exact W.zret (v := nI 0) hx hb hr rfl (fun t ht hW => ⟨_, rfl, (by rw [show tsd pl N v = false by unfold tsd; rw [show tva v = false by unfold tva; rw [decide_eq_false_iff_not]; exact fun q => Int32.not_lt.mpr q.1 c_3]; rfl]; rfl), ht⟩) (fun _ h9 => nomatch h9) dX0_stands_12
  · refine lv_iload_n hx hb dX0_stands_6 rfl (lv_at hl 1 rfl) ?_
    refine lv_iconst (v := (-1)) hx hb dX0_stands_7 (by decide) ?_
    refine lv_icmp_le (tgt := 13) hx hb dX0_stands_8 (by decide) (fun c_8 => ?_) (fun c_8 => ?_)
    · have hv : tva v = true := by unfold tva; rw [decide_eq_true_eq]; exact ⟨Int32.not_lt.mp c_3, c_8⟩
      refine lv_iconst (v := nI 0) hx hb dX0_stands_13 (by decide) ?_
      refine lv_istore_n (lv' := [(2, .int (nI 0)), (0, .ref h), (1, .int v)]) hx hb dX0_stands_14 rfl hl (by decide) rfl (fun ls hl => ?_)
      refine tn_for (fun j ls => lv_has ls 3 [(2, .int (nI j)), (0, .ref h), (1, .int v)] ∧ (∀ k, k < j → pl k ≠ v)) (3 * N) 0 (by omega) ⟨lv_sub hl [0, 1, 2] rfl, (fun k hk => absurd hk (Nat.not_lt_zero k))⟩ (fun j ls hj hJ ih => ?_) (fun ls hJ => ?_)
      · obtain ⟨hl, hE⟩ := hJ
        refine lv_iload_n hx hb dX0_stands_15 rfl (lv_at hl 0 rfl) ?_
        refine lv_iconst (v := nI 3) hx hb dX0_stands_16 (by decide) ?_
        refine lv_aload_n hx hb dX0_stands_17 rfl (lv_at hl 1 rfl) ?_
        refine va_get (D := D) (ci := 0) (v := .int (nI N)) (C := RX0) (T := TX0) (N := 14) hx hb hts in_X0 hown hK hP 0 rfl rfl 6 (by decide) (hts _ q34) (fun _ h9 => h9) rfl dX0_stands_18 ?_
        refine tn_imul hx hb dX0_stands_21 ?_
        refine tn_icmp_ge (tgt := 43) hx hb dX0_stands_22 (by decide) (by omega) (by omega) (fun z => absurd z (by omega)) (fun _ => ?_)
        refine lv_aload_n hx hb dX0_stands_25 rfl (lv_at hl 1 rfl) ?_
        refine va_get (D := D) (ci := 0) (v := .ref (a 7)) (C := RX0) (T := TX0) (N := 14) hx hb hts in_X0 hown hK hP 0 rfl rfl 7 (by decide) (hts _ q35) (fun _ h9 => h9) rfl dX0_stands_26 ?_
        refine lv_iload_n hx hb dX0_stands_29 rfl (lv_at hl 0 rfl) ?_
        refine tn_iald hx hb hK hP 6 0 rfl rfl (j := j) (by omega) (by decide) dX0_stands_30 ?_
        refine lv_iload_n hx hb dX0_stands_31 rfl (lv_at hl 2 rfl) ?_
        refine lv_icmp_ne (tgt := 37) hx hb dX0_stands_32 (by decide) (fun c_32 => ?_) (fun c_32 => ?_)
        · refine lv_iinc (v := nI (j + 1)) (lv' := [(2, .int (nI (j + 1))), (0, .ref h), (1, .int v)]) hx hb dX0_stands_37 hl (k := 0) rfl (nI_1 _) (by decide) rfl (fun ls hl => ?_)
          refine lv_goto (tgt := 15) hx hb dX0_stands_40 (by decide) ?_
          exact ih _ ⟨lv_sub hl [0, 1, 2] rfl, (fun k hk => by
                      by_cases e : k = j
                      · rw [e]; exact c_32
                      · exact hE k (by omega))⟩
        · refine lv_iconst (v := nI 1) hx hb dX0_stands_35 (by decide) ?_
          exact W.zret (v := nI 1) hx hb hr rfl (fun t ht hW => ⟨_, rfl, (by rw [show tsd pl N v = true by unfold tsd; rw [hv, thit_t c_32 (3 * N) hj]; rfl]; rfl), ht⟩) (fun _ h9 => nomatch h9) dX0_stands_36
      · obtain ⟨hl, hE⟩ := hJ
        refine lv_iload_n hx hb dX0_stands_15 rfl (lv_at hl 0 rfl) ?_
        refine lv_iconst (v := nI 3) hx hb dX0_stands_16 (by decide) ?_
        refine lv_aload_n hx hb dX0_stands_17 rfl (lv_at hl 1 rfl) ?_
        refine va_get (D := D) (ci := 0) (v := .int (nI N)) (C := RX0) (T := TX0) (N := 14) hx hb hts in_X0 hown hK hP 0 rfl rfl 6 (by decide) (hts _ q34) (fun _ h9 => h9) rfl dX0_stands_18 ?_
        refine tn_imul hx hb dX0_stands_21 ?_
        refine tn_icmp_ge (tgt := 43) hx hb dX0_stands_22 (by decide) (by omega) (by omega) (fun _ => ?_) (fun z => absurd z (by omega))
        refine lv_iconst (v := nI 0) hx hb dX0_stands_43 (by decide) ?_
        exact W.zret (v := nI 0) hx hb hr rfl (fun t ht hW => ⟨_, rfl, (by rw [show tsd pl N v = false by unfold tsd; rw [thit_f (3 * N) hE, Bool.and_false]]; rfl), ht⟩) (fun _ h9 => nomatch h9) dX0_stands_44
    · refine lv_iconst (v := nI 0) hx hb dX0_stands_11 (by decide) ?_
      exact W.zret (v := nI 0) hx hb hr rfl (fun t ht hW => ⟨_, rfl, (by rw [show tsd pl N v = false by unfold tsd; rw [show tva v = false by unfold tva; rw [decide_eq_false_iff_not]; exact fun q => c_8 q.2]; rfl]; rfl), ht⟩) (fun _ h9 => nomatch h9) dX0_stands_12

set_option maxHeartbeats 1000000 in
set_option maxRecDepth 100000 in
/-- ways -/
theorem m_ways {l : Launch} {D : va_G} {d z : ClassId} {h : Nat} {a : Nat → Nat} {he : Int32} {ob pr su go si : Nat → Int32} {N : Nat} {pl : Nat → Int32} {nv : Int32} {vr bo ca vc : Nat → Int32} {sc : Int32} (O P : Nat) (hO : O < 6) (hP8 : P < 8) : Met l yX0_ways (ws_ yX0_ways cX0_ways 5 (some .int)) (rm_ 1 0) (pJ D d z (wJ h a d he ob pr su go si (nI N) pl nv vr bo ca vc sc) [.ref h, .int (nI O), .int (nI P)]) (vp_Si (fun r_ => r_ = nI (tmk (fun q_ => decide (0 < go (64 * O + 8 * P + q_))) 8))) 0 0 (fun _ => False) := by
  refine Met.ofW (cc := cX0_ways) (maxL := 5) (ret := (some .int)) (by decide) rfl ?_
  intro p e s m args below meth c s₁ B hml hv
  obtain ⟨rfl, hP, hK, hD⟩ := hv
  have hx := B.exec
  have hb := B.bytes
  have hr := B.returns
  have hts := atoms_spec (ws := (ws_ yX0_ways cX0_ways 5 (some .int))) B.pre
  have hts : ∀ w ∈ lw_all, w.before _ s = true := fun w h => hts w (List.mem_cons_of_mem _ h)
  have hown : s.vm.findClass RX0 = some m.cls := findClass_of_methodNamed B.named
  have hlocks := B.notSynchronized
  have hl := lv_entry ([.ref h, .int (nI O), .int (nI P)]) (n := 5) (Nat.le_of_ble_eq_true rfl)
  rw [lg_entry_eq]
  generalize (lg_sl ([.ref h, .int (nI O), .int (nI P)]) ++ List.replicate (5 - (lg_sl ([.ref h, .int (nI O), .int (nI P)])).length) Slot.unset).toArray = ls at hl ⊢
  have hl : lv_has ls 5 [(0, .ref h), (1, .int (nI O)), (2, .int (nI P))] := hl
  refine lv_iconst (v := nI 0) hx hb dX0_ways_0 (by decide) ?_
  refine lv_istore_n (lv' := [(3, .int (nI 0)), (0, .ref h), (1, .int (nI O)), (2, .int (nI P))]) hx hb dX0_ways_1 rfl hl (by decide) rfl (fun ls hl => ?_)
  refine lv_iconst (v := nI 0) hx hb dX0_ways_2 (by decide) ?_
  refine lv_istore (lv' := [(4, .int (nI 0)), (3, .int (nI 0)), (0, .ref h), (1, .int (nI O)), (2, .int (nI P))]) hx hb dX0_ways_3 hl (by decide) rfl (fun ls hl => ?_)
  refine tn_for (fun j ls => lv_has ls 5 [(4, .int (nI j)), (3, .int (nI (tmk (fun q_ => decide (0 < go (64 * O + 8 * P + q_))) j))), (0, .ref h), (1, .int (nI O)), (2, .int (nI P))]) 8 0 (by decide) (lv_sub hl [0, 1, 2, 3, 4] rfl) (fun j ls hj hJ ih => ?_) (fun ls hJ => ?_)
  · have hl := hJ
    refine lv_iload hx hb dX0_ways_5 (lv_at hl 0 rfl) ?_
    refine lv_bipush (v := nI 8) hx hb dX0_ways_7 (by decide) ?_
    refine tn_icmp_ge (tgt := 49) hx hb dX0_ways_9 (by decide) (by omega) (by decide) (fun z => absurd z (by omega)) (fun _ => ?_)
    refine lv_iload_n hx hb dX0_ways_12 rfl (lv_at hl 1 rfl) ?_
    refine lv_aload_n hx hb dX0_ways_13 rfl (lv_at hl 2 rfl) ?_
    refine va_get (D := D) (ci := 0) (v := .ref (a 4)) (C := RX0) (T := TX0) (N := 14) hx hb hts in_X0 hown hK hP 0 rfl rfl 4 (by decide) (hts _ q32) (fun _ h9 => h9) rfl dX0_ways_14 ?_
    refine lv_bipush (v := nI 64) hx hb dX0_ways_17 (by decide) ?_
    refine lv_iload_n hx hb dX0_ways_19 rfl (lv_at hl 3 rfl) ?_
    refine tn_imul hx hb dX0_ways_20 ?_
    refine lv_bipush (v := nI 8) hx hb dX0_ways_21 (by decide) ?_
    refine lv_iload_n hx hb dX0_ways_23 rfl (lv_at hl 4 rfl) ?_
    refine tn_imul hx hb dX0_ways_24 ?_
    refine tn_iadd hx hb dX0_ways_25 ?_
    refine lv_iload hx hb dX0_ways_26 (lv_at hl 0 rfl) ?_
    refine tn_iadd hx hb dX0_ways_28 ?_
    refine tn_iald hx hb hK hP 4 0 rfl rfl (j := ((64 * O) + (8 * P)) + j) (by omega) (by decide) dX0_ways_29 ?_
    refine lv_if_le (tgt := 40) hx hb dX0_ways_30 (by decide) (fun c_30 => ?_) (fun c_30 => ?_)
    · refine lv_iconst (v := nI 0) hx hb dX0_ways_40 (by decide) ?_
      refine lv_ior hx hb dX0_ways_41 ?_
      refine tn_as (nI (tmk (fun q_ => decide (0 < go (64 * O + 8 * P + q_))) (j + 1))) (tmk_s0 (decide_eq_false (fun q => by rw [t_le] at c_30; rw [t_lt] at q; omega))) ?_
      refine lv_istore_n (lv' := [(3, .int (nI (tmk (fun q_ => decide (0 < go (64 * O + 8 * P + q_))) (j + 1)))), (4, .int (nI j)), (0, .ref h), (1, .int (nI O)), (2, .int (nI P))]) hx hb dX0_ways_42 rfl hl (by decide) rfl (fun ls hl => ?_)
      refine lv_iinc (v := nI (j + 1)) (lv' := [(4, .int (nI (j + 1))), (3, .int (nI (tmk (fun q_ => decide (0 < go (64 * O + 8 * P + q_))) (j + 1)))), (0, .ref h), (1, .int (nI O)), (2, .int (nI P))]) hx hb dX0_ways_43 hl (k := 1) rfl (nI_1 _) (by decide) rfl (fun ls hl => ?_)
      refine lv_goto (tgt := 5) hx hb dX0_ways_46 (by decide) ?_
      exact ih _ (lv_sub hl [0, 1, 2, 3, 4] rfl)
    · refine lv_iconst (v := nI 1) hx hb dX0_ways_33 (by decide) ?_
      refine lv_iload hx hb dX0_ways_34 (lv_at hl 0 rfl) ?_
      refine lv_ishl hx hb dX0_ways_36 ?_
      refine lv_goto (tgt := 41) hx hb dX0_ways_37 (by decide) ?_
      refine lv_ior hx hb dX0_ways_41 ?_
      refine tn_as (nI (tmk (fun q_ => decide (0 < go (64 * O + 8 * P + q_))) (j + 1))) (tmk_s1 hj (decide_eq_true (by rw [t_le] at c_30; rw [t_lt]; omega))) ?_
      refine lv_istore_n (lv' := [(3, .int (nI (tmk (fun q_ => decide (0 < go (64 * O + 8 * P + q_))) (j + 1)))), (4, .int (nI j)), (0, .ref h), (1, .int (nI O)), (2, .int (nI P))]) hx hb dX0_ways_42 rfl hl (by decide) rfl (fun ls hl => ?_)
      refine lv_iinc (v := nI (j + 1)) (lv' := [(4, .int (nI (j + 1))), (3, .int (nI (tmk (fun q_ => decide (0 < go (64 * O + 8 * P + q_))) (j + 1)))), (0, .ref h), (1, .int (nI O)), (2, .int (nI P))]) hx hb dX0_ways_43 hl (k := 1) rfl (nI_1 _) (by decide) rfl (fun ls hl => ?_)
      refine lv_goto (tgt := 5) hx hb dX0_ways_46 (by decide) ?_
      exact ih _ (lv_sub hl [0, 1, 2, 3, 4] rfl)
  · have hl := hJ
    refine lv_iload hx hb dX0_ways_5 (lv_at hl 0 rfl) ?_
    refine lv_bipush (v := nI 8) hx hb dX0_ways_7 (by decide) ?_
    refine tn_icmp_ge (tgt := 49) hx hb dX0_ways_9 (by decide) (by decide) (by decide) (fun _ => ?_) (fun z => absurd z (by decide))
    refine lv_iload_n hx hb dX0_ways_49 rfl (lv_at hl 1 rfl) ?_
    exact W.iret (v := nI (tmk (fun q_ => decide (0 < go (64 * O + 8 * P + q_))) 8)) hx hb hr (fun t ht hW => ⟨_, rfl, rfl, ht⟩) (fun _ h9 => nomatch h9) dX0_ways_50

set_option maxHeartbeats 1000000 in
set_option maxRecDepth 100000 in
/-- alone -/
theorem m_alone {l : Launch} {D : va_G} {d z : ClassId} {h : Nat} {a : Nat → Nat} {he : Int32} {ob pr su go si : Nat → Int32} {N : Nat} {pl : Nat → Int32} {nv : Int32} {vr bo ca vc : Nat → Int32} {sc : Int32} (O : Nat) (hO : O < 3) : Met l yX0_alone (ws_ yX0_alone cX0_alone 4 (some .int)) (rm_ 1 0) (pJ D d z (wJ h a d he ob pr su go si (nI N) pl nv vr bo ca vc sc) [.ref h, .int (nI O)]) (vp_Si (fun r_ => r_ = nI (tmk (fun q_ => decide (0 < si (8 * O + q_))) 8))) 0 0 (fun _ => False) := by
  refine Met.ofW (cc := cX0_alone) (maxL := 4) (ret := (some .int)) (by decide) rfl ?_
  intro p e s m args below meth c s₁ B hml hv
  obtain ⟨rfl, hP, hK, hD⟩ := hv
  have hx := B.exec
  have hb := B.bytes
  have hr := B.returns
  have hts := atoms_spec (ws := (ws_ yX0_alone cX0_alone 4 (some .int))) B.pre
  have hts : ∀ w ∈ lw_all, w.before _ s = true := fun w h => hts w (List.mem_cons_of_mem _ h)
  have hown : s.vm.findClass RX0 = some m.cls := findClass_of_methodNamed B.named
  have hlocks := B.notSynchronized
  have hl := lv_entry ([.ref h, .int (nI O)]) (n := 4) (Nat.le_of_ble_eq_true rfl)
  rw [lg_entry_eq]
  generalize (lg_sl ([.ref h, .int (nI O)]) ++ List.replicate (4 - (lg_sl ([.ref h, .int (nI O)])).length) Slot.unset).toArray = ls at hl ⊢
  have hl : lv_has ls 4 [(0, .ref h), (1, .int (nI O))] := hl
  refine lv_iconst (v := nI 0) hx hb dX0_alone_0 (by decide) ?_
  refine lv_istore_n (lv' := [(2, .int (nI 0)), (0, .ref h), (1, .int (nI O))]) hx hb dX0_alone_1 rfl hl (by decide) rfl (fun ls hl => ?_)
  refine lv_iconst (v := nI 0) hx hb dX0_alone_2 (by decide) ?_
  refine lv_istore_n (lv' := [(3, .int (nI 0)), (2, .int (nI 0)), (0, .ref h), (1, .int (nI O))]) hx hb dX0_alone_3 rfl hl (by decide) rfl (fun ls hl => ?_)
  refine tn_for (fun j ls => lv_has ls 4 [(3, .int (nI j)), (2, .int (nI (tmk (fun q_ => decide (0 < si (8 * O + q_))) j))), (0, .ref h), (1, .int (nI O))]) 8 0 (by decide) (lv_sub hl [0, 1, 2, 3] rfl) (fun j ls hj hJ ih => ?_) (fun ls hJ => ?_)
  · have hl := hJ
    refine lv_iload_n hx hb dX0_alone_4 rfl (lv_at hl 0 rfl) ?_
    refine lv_bipush (v := nI 8) hx hb dX0_alone_5 (by decide) ?_
    refine tn_icmp_ge (tgt := 40) hx hb dX0_alone_7 (by decide) (by omega) (by decide) (fun z => absurd z (by omega)) (fun _ => ?_)
    refine lv_iload_n hx hb dX0_alone_10 rfl (lv_at hl 1 rfl) ?_
    refine lv_aload_n hx hb dX0_alone_11 rfl (lv_at hl 2 rfl) ?_
    refine va_get (D := D) (ci := 0) (v := .ref (a 5)) (C := RX0) (T := TX0) (N := 14) hx hb hts in_X0 hown hK hP 0 rfl rfl 5 (by decide) (hts _ q33) (fun _ h9 => h9) rfl dX0_alone_12 ?_
    refine lv_bipush (v := nI 8) hx hb dX0_alone_15 (by decide) ?_
    refine lv_iload_n hx hb dX0_alone_17 rfl (lv_at hl 3 rfl) ?_
    refine tn_imul hx hb dX0_alone_18 ?_
    refine lv_iload_n hx hb dX0_alone_19 rfl (lv_at hl 0 rfl) ?_
    refine tn_iadd hx hb dX0_alone_20 ?_
    refine tn_iald hx hb hK hP 5 0 rfl rfl (j := (8 * O) + j) (by omega) (by decide) dX0_alone_21 ?_
    refine lv_if_le (tgt := 31) hx hb dX0_alone_22 (by decide) (fun c_22 => ?_) (fun c_22 => ?_)
    · refine lv_iconst (v := nI 0) hx hb dX0_alone_31 (by decide) ?_
      refine lv_ior hx hb dX0_alone_32 ?_
      refine tn_as (nI (tmk (fun q_ => decide (0 < si (8 * O + q_))) (j + 1))) (tmk_s0 (decide_eq_false (fun q => by rw [t_le] at c_22; rw [t_lt] at q; omega))) ?_
      refine lv_istore_n (lv' := [(2, .int (nI (tmk (fun q_ => decide (0 < si (8 * O + q_))) (j + 1)))), (3, .int (nI j)), (0, .ref h), (1, .int (nI O))]) hx hb dX0_alone_33 rfl hl (by decide) rfl (fun ls hl => ?_)
      refine lv_iinc (v := nI (j + 1)) (lv' := [(3, .int (nI (j + 1))), (2, .int (nI (tmk (fun q_ => decide (0 < si (8 * O + q_))) (j + 1)))), (0, .ref h), (1, .int (nI O))]) hx hb dX0_alone_34 hl (k := 1) rfl (nI_1 _) (by decide) rfl (fun ls hl => ?_)
      refine lv_goto (tgt := 4) hx hb dX0_alone_37 (by decide) ?_
      exact ih _ (lv_sub hl [0, 1, 2, 3] rfl)
    · refine lv_iconst (v := nI 1) hx hb dX0_alone_25 (by decide) ?_
      refine lv_iload_n hx hb dX0_alone_26 rfl (lv_at hl 0 rfl) ?_
      refine lv_ishl hx hb dX0_alone_27 ?_
      refine lv_goto (tgt := 32) hx hb dX0_alone_28 (by decide) ?_
      refine lv_ior hx hb dX0_alone_32 ?_
      refine tn_as (nI (tmk (fun q_ => decide (0 < si (8 * O + q_))) (j + 1))) (tmk_s1 hj (decide_eq_true (by rw [t_le] at c_22; rw [t_lt]; omega))) ?_
      refine lv_istore_n (lv' := [(2, .int (nI (tmk (fun q_ => decide (0 < si (8 * O + q_))) (j + 1)))), (3, .int (nI j)), (0, .ref h), (1, .int (nI O))]) hx hb dX0_alone_33 rfl hl (by decide) rfl (fun ls hl => ?_)
      refine lv_iinc (v := nI (j + 1)) (lv' := [(3, .int (nI (j + 1))), (2, .int (nI (tmk (fun q_ => decide (0 < si (8 * O + q_))) (j + 1)))), (0, .ref h), (1, .int (nI O))]) hx hb dX0_alone_34 hl (k := 1) rfl (nI_1 _) (by decide) rfl (fun ls hl => ?_)
      refine lv_goto (tgt := 4) hx hb dX0_alone_37 (by decide) ?_
      exact ih _ (lv_sub hl [0, 1, 2, 3] rfl)
  · have hl := hJ
    refine lv_iload_n hx hb dX0_alone_4 rfl (lv_at hl 0 rfl) ?_
    refine lv_bipush (v := nI 8) hx hb dX0_alone_5 (by decide) ?_
    refine tn_icmp_ge (tgt := 40) hx hb dX0_alone_7 (by decide) (by decide) (by decide) (fun _ => ?_) (fun z => absurd z (by decide))
    refine lv_iload_n hx hb dX0_alone_40 rfl (lv_at hl 1 rfl) ?_
    exact W.iret (v := nI (tmk (fun q_ => decide (0 < si (8 * O + q_))) 8)) hx hb hr (fun t ht hW => ⟨_, rfl, rfl, ht⟩) (fun _ h9 => nomatch h9) dX0_alone_41

set_option maxHeartbeats 1000000 in
set_option maxRecDepth 100000 in
/-- has -/
theorem m_has {l : Launch} {D : va_G} {d z : ClassId} {h : Nat} {a : Nat → Nat} {he : Int32} {ob pr su go si : Nat → Int32} {N : Nat} {pl : Nat → Int32} {nv : Int32} {vr bo ca vc : Nat → Int32} {sc : Int32} {F : Nat → Bool} (hI : tTI F he ob pr su go si) (s_ p_ o_ : Int32) : Met l yX0_has (ws_ yX0_has cX0_has 4 (some .int)) (rm_ 2 20) (pJ D d z (wJ h a d he ob pr su go si (nI N) pl nv vr bo ca vc sc) [.ref h, .int s_, .int p_, .int o_]) (vp_Si (fun r_ => r_ = nI (tb (thas F s_ p_ o_)))) 0 0 (fun _ => False) := by
  refine Met.ofW (cc := cX0_has) (maxL := 4) (ret := (some .int)) (by decide) rfl ?_
  intro p e s m args below meth c s₁ B hml hv
  obtain ⟨rfl, hP, hK, hD⟩ := hv
  have hx := B.exec
  have hb := B.bytes
  have hr := B.returns
  have hts := atoms_spec (ws := (ws_ yX0_has cX0_has 4 (some .int))) B.pre
  have hts : ∀ w ∈ lw_all, w.before _ s = true := fun w h => hts w (List.mem_cons_of_mem _ h)
  have hown : s.vm.findClass RX0 = some m.cls := findClass_of_methodNamed B.named
  have hlocks := B.notSynchronized
  have hl := lv_entry ([.ref h, .int s_, .int p_, .int o_]) (n := 4) (Nat.le_of_ble_eq_true rfl)
  rw [lg_entry_eq]
  generalize (lg_sl ([.ref h, .int s_, .int p_, .int o_]) ++ List.replicate (4 - (lg_sl ([.ref h, .int s_, .int p_, .int o_])).length) Slot.unset).toArray = ls at hl ⊢
  have hl : lv_has ls 4 [(0, .ref h), (1, .int s_), (2, .int p_), (3, .int o_)] := hl
  refine lv_iload_n hx hb dX0_has_0 rfl (lv_at hl 1 rfl) ?_
  refine vp_callSi (W.runS (As := [.int s_]) (rest := []) ⟨hx, hb, hml, hown, hts⟩ (m_isPart l s_) (va_cwS 1 hts (lw_S q76 q77 q18 q78) rfl rfl rfl (by decide +kernel) ⟨Nat.le_of_ble_eq_true rfl, Nat.le_of_ble_eq_true rfl⟩) pS_pre rfl rfl hl.1 rfl (lv_room (Nat.le_of_ble_eq_true rfl)) dX0_has_1 ⟨Nat.le_refl _, Nat.le_refl _⟩) (fun r_1 hr_1 => ?_)
  subst hr_1
  refine tn_if_eq (tgt := 39) hx hb dX0_has_4 (by decide) (tb_lt _) (fun c_4 => ?_) (fun c_4 => ?_)
  · refine lv_iconst (v := nI 0) hx hb dX0_has_39 (by decide) ?_
    exact W.iret (v := nI 0) hx hb hr (fun t ht hW => ⟨_, rfl, (by rw [show thas F s_ p_ o_ = false by unfold thas; rw [tb_0 c_4]; simp]; rfl), ht⟩) (fun _ h9 => nomatch h9) dX0_has_40
  · obtain ⟨S, hS8, rfl⟩ := tpa_t (tb_1 c_4)
    refine lv_iload_n hx hb dX0_has_7 rfl (lv_at hl 2 rfl) ?_
    refine vp_callSi (W.runS (As := [.int p_]) (rest := []) ⟨hx, hb, hml, hown, hts⟩ (m_isPart l p_) (va_cwS 1 hts (lw_S q76 q77 q18 q78) rfl rfl rfl (by decide +kernel) ⟨Nat.le_of_ble_eq_true rfl, Nat.le_of_ble_eq_true rfl⟩) pS_pre rfl rfl hl.1 rfl (lv_room (Nat.le_of_ble_eq_true rfl)) dX0_has_8 ⟨Nat.le_refl _, Nat.le_refl _⟩) (fun r_8 hr_8 => ?_)
    subst hr_8
    refine tn_if_eq (tgt := 39) hx hb dX0_has_11 (by decide) (tb_lt _) (fun c_11 => ?_) (fun c_11 => ?_)
    · refine lv_iconst (v := nI 0) hx hb dX0_has_39 (by decide) ?_
      exact W.iret (v := nI 0) hx hb hr (fun t ht hW => ⟨_, rfl, (by rw [show thas F (nI S) p_ o_ = false by unfold thas; rw [tb_0 c_11]; simp]; rfl), ht⟩) (fun _ h9 => nomatch h9) dX0_has_40
    · obtain ⟨P, hP8, rfl⟩ := tpa_t (tb_1 c_11)
      refine lv_iload_n hx hb dX0_has_14 rfl (lv_at hl 3 rfl) ?_
      refine vp_callSi (W.runS (As := [.int o_]) (rest := []) ⟨hx, hb, hml, hown, hts⟩ (m_isPart l o_) (va_cwS 1 hts (lw_S q76 q77 q18 q78) rfl rfl rfl (by decide +kernel) ⟨Nat.le_of_ble_eq_true rfl, Nat.le_of_ble_eq_true rfl⟩) pS_pre rfl rfl hl.1 rfl (lv_room (Nat.le_of_ble_eq_true rfl)) dX0_has_15 ⟨Nat.le_refl _, Nat.le_refl _⟩) (fun r_15 hr_15 => ?_)
      subst hr_15
      refine tn_if_eq (tgt := 39) hx hb dX0_has_18 (by decide) (tb_lt _) (fun c_18 => ?_) (fun c_18 => ?_)
      · refine lv_iconst (v := nI 0) hx hb dX0_has_39 (by decide) ?_
        exact W.iret (v := nI 0) hx hb hr (fun t ht hW => ⟨_, rfl, (by rw [show thas F (nI S) (nI P) o_ = false by unfold thas; rw [tb_0 c_18]; simp]; rfl), ht⟩) (fun _ h9 => nomatch h9) dX0_has_40
      · obtain ⟨O, hO8, rfl⟩ := tpa_t (tb_1 c_18)
        refine lv_aload_n hx hb dX0_has_21 rfl (lv_at hl 0 rfl) ?_
        refine va_get (D := D) (ci := 0) (v := .ref (a 1)) (C := RX0) (T := TX0) (N := 14) hx hb hts in_X0 hown hK hP 0 rfl rfl 1 (by decide) (hts _ q29) (fun _ h9 => h9) rfl dX0_has_22 ?_
        refine lv_bipush (v := nI 8) hx hb dX0_has_25 (by decide) ?_
        refine lv_iload_n hx hb dX0_has_27 rfl (lv_at hl 1 rfl) ?_
        refine tn_imul hx hb dX0_has_28 ?_
        refine lv_iload_n hx hb dX0_has_29 rfl (lv_at hl 2 rfl) ?_
        refine tn_iadd hx hb dX0_has_30 ?_
        refine tn_iald hx hb hK hP 1 0 rfl rfl (j := (8 * S) + P) (by omega) (by decide) dX0_has_31 ?_
        refine lv_iload_n hx hb dX0_has_32 rfl (lv_at hl 3 rfl) ?_
        refine lv_iushr hx hb dX0_has_33 rfl ?_
        refine lv_iconst (v := nI 1) hx hb dX0_has_34 (by decide) ?_
        refine lv_iand hx hb dX0_has_35 ?_
        refine tn_as (nI (tb (F (64 * S + 8 * P + O)))) (t_bitf (hI.2.1 S P hS8 hP8).1 hO8) ?_
        refine lv_goto (tgt := 40) hx hb dX0_has_36 (by decide) ?_
        exact W.iret (v := nI (tb (F (64 * S + 8 * P + O)))) hx hb hr (fun t ht hW => ⟨_, rfl, (by rw [show thas F (nI S) (nI P) (nI O) = F (64 * S + 8 * P + O) by unfold thas; rw [tpa_nI hS8, tpa_nI hP8, tpa_nI hO8, tix_nI hS8 hP8 hO8]; rfl]), ht⟩) (fun _ h9 => nomatch h9) dX0_has_40
end
section
/-- sums -/
def tsm (f : Nat → Nat) : Nat → Nat
  | 0 => 0
  | k + 1 => tsm f k + f k
theorem tsm_congr {f g : Nat → Nat} : ∀ k, (∀ i, i < k → f i = g i) → tsm f k = tsm g k
  | 0, _ => rfl
  | k + 1, h => by
    show tsm f k + f k = tsm g k + g k
    rw [tsm_congr k (fun i hi => h i (by omega)), h k (by omega)]
theorem tsm_zero {f : Nat → Nat} : ∀ k, (∀ i, i < k → f i = 0) → tsm f k = 0
  | 0, _ => rfl
  | k + 1, h => by
    show tsm f k + f k = 0
    rw [tsm_zero k (fun i hi => h i (by omega)), h k (by omega)]
theorem tsm_one {f : Nat → Nat} {S : Nat} : ∀ k, S < k → (∀ i, i < k → i ≠ S → f i = 0) → tsm f k = f S
  | 0, h, _ => absurd h (Nat.not_lt_zero S)
  | k + 1, h, h0 => by
    show tsm f k + f k = f S
    by_cases e : S = k
    · subst e
      rw [tsm_zero S (fun i hi => h0 i (by omega) (by omega)), Nat.zero_add]
    · rw [tsm_one k (by omega) (fun i hi q => h0 i (by omega) q), h0 k (by omega) (fun q => e q.symm), Nat.add_zero]
theorem tcn_sum (f : Nat → Bool) : ∀ k, tcn f k = tsm (fun i => tb (f i)) k
  | 0 => rfl
  | k + 1 => by
    show tcn f k + tb (f k) = tsm (fun i => tb (f i)) k + tb (f k)
    rw [tcn_sum f k]
theorem tsm_add (f : Nat → Nat) (a : Nat) : ∀ b, tsm f (a + b) = tsm f a + tsm (fun j => f (a + j)) b
  | 0 => rfl
  | b + 1 => by
    show tsm f (a + b) + f (a + b) = tsm f a + (tsm (fun j => f (a + j)) b + f (a + b))
    rw [tsm_add f a b, Nat.add_assoc]
theorem tsm_blocks (f : Nat → Nat) (m : Nat) : ∀ k, tsm f (m * k) = tsm (fun u => tsm (fun j => f (m * u + j)) m) k
  | 0 => rfl
  | k + 1 => by
    rw [Nat.mul_succ, tsm_add]
    show _ = tsm (fun u => tsm (fun j => f (m * u + j)) m) k + tsm (fun j => f (m * k + j)) m
    rw [tsm_blocks f m k]
theorem tC3_eq (F : Nat → Bool) (s p o : Int32) : tC3 F s p o = tsm (fun x => tsm (fun y => tsm (fun q => tb (F (64 * x + 8 * y + q) && tag s x && tag p y && tag o q)) 8) 8) 8 := by
  unfold tC3
  rw [tcn_sum, show 512 = 64 * 8 from rfl, tsm_blocks]
  refine tsm_congr 8 (fun x hx => ?_)
  show tsm (fun j => tb (F (64 * x + j) && tag s ((64 * x + j) / 64) && tag p ((64 * x + j) / 8 % 8) && tag o ((64 * x + j) % 8))) 64 = _
  rw [show 64 = 8 * 8 from rfl, tsm_blocks]
  refine tsm_congr 8 (fun y hy => ?_)
  refine tsm_congr 8 (fun q hq => ?_)
  show tb (F (8 * 8 * x + (8 * y + q)) && tag s ((8 * 8 * x + (8 * y + q)) / 64) && tag p ((8 * 8 * x + (8 * y + q)) / 8 % 8) && tag o ((8 * 8 * x + (8 * y + q)) % 8)) = _
  rw [show 8 * 8 * x + (8 * y + q) = 64 * x + 8 * y + q by omega, show (64 * x + 8 * y + q) / 64 = x by omega, show (64 * x + 8 * y + q) / 8 % 8 = y by omega, show (64 * x + 8 * y + q) % 8 = q by omega]
theorem tag_nI {S i : Nat} (hS : S < 8) (hi : i < 8) : tag (nI S) i = decide (S = i) := by
  unfold tag
  have h := tpa_nI hS
  unfold tpa at h
  rw [decide_eq_true_eq] at h
  rw [decide_eq_false (fun q => q.elim (fun q => absurd q (Int32.not_lt.mpr h.1)) (fun q => absurd q (Int32.not_lt.mpr h.2))), Bool.false_or]
  congr 1
  exact propext (nI_eq (by omega) (by omega))
theorem tag_self {S : Nat} (hS : S < 8) : tag (nI S) S = true := by rw [tag_nI hS hS]; simp
theorem tag_ne {S i : Nat} (hS : S < 8) (hi : i < 8) (h : i ≠ S) : tag (nI S) i = false := by rw [tag_nI hS hi]; exact decide_eq_false (fun q => h q.symm)
theorem tag_m1 (i : Nat) : tag (-1) i = true := by
  unfold tag
  rw [decide_eq_true (Or.inl (by decide)), Bool.true_or]
theorem tag_w {y : Int32} (h : tpa y = false) (i : Nat) : tag y i = true := by
  unfold tag
  unfold tpa at h
  rw [decide_eq_false_iff_not] at h
  rw [decide_eq_true, Bool.true_or]
  by_cases q : y < 0
  · exact Or.inl q
  · exact Or.inr (Int32.not_le.mp (fun q2 => h ⟨Int32.not_lt.mp q, q2⟩))
theorem tag_wf {y : Int32} (h : tpa y = false) : tag y = tag (-1) := funext (fun i => by rw [tag_w h, tag_m1])
theorem tC3_3 (F : Nat → Bool) {S P O : Nat} (hS : S < 8) (hP : P < 8) (hO : O < 8) : tC3 F (nI S) (nI P) (nI O) = tb (F (64 * S + 8 * P + O)) := by
  rw [tC3_eq, tsm_one (S := S) 8 hS (fun i hi q => tsm_zero 8 (fun j hj => tsm_zero 8 (fun k hk => by rw [tag_ne hS hi q]; simp [tb])))]
  rw [tsm_one (S := P) 8 hP (fun i hi q => tsm_zero 8 (fun k hk => by rw [tag_ne hP hi q]; simp [tb]))]
  rw [tsm_one (S := O) 8 hO (fun i hi q => by rw [tag_ne hO hi q]; simp [tb])]
  rw [tag_self hS, tag_self hP, tag_self hO]
  simp
theorem tC3_sp (F : Nat → Bool) {S P : Nat} (hS : S < 8) (hP : P < 8) : tcn (fun q => F (64 * S + 8 * P + q)) 8 = tC3 F (nI S) (nI P) (-1) := by
  rw [tC3_eq, tsm_one (S := S) 8 hS (fun i hi q => tsm_zero 8 (fun j hj => tsm_zero 8 (fun k hk => by rw [tag_ne hS hi q]; simp [tb])))]
  rw [tsm_one (S := P) 8 hP (fun i hi q => tsm_zero 8 (fun k hk => by rw [tag_ne hP hi q]; simp [tb]))]
  rw [tcn_sum]
  refine tsm_congr 8 (fun q hq => ?_)
  rw [tag_self hS, tag_self hP, tag_m1]
  simp
theorem tC3_so (F : Nat → Bool) {S O : Nat} (hS : S < 8) (hO : O < 8) : tcn (fun q => F (64 * S + 8 * q + O)) 8 = tC3 F (nI S) (-1) (nI O) := by
  rw [tC3_eq, tsm_one (S := S) 8 hS (fun i hi q => tsm_zero 8 (fun j hj => tsm_zero 8 (fun k hk => by rw [tag_ne hS hi q]; simp [tb])))]
  rw [tcn_sum]
  refine tsm_congr 8 (fun y hy => ?_)
  rw [tsm_one (S := O) 8 hO (fun i hi q => by rw [tag_ne hO hi q]; simp [tb])]
  rw [tag_self hS, tag_self hO, tag_m1]
  simp
theorem tC3_po (F : Nat → Bool) {P O : Nat} (hP : P < 8) (hO : O < 8) : tcn (fun q => F (64 * q + 8 * P + O)) 8 = tC3 F (-1) (nI P) (nI O) := by
  rw [tC3_eq, tcn_sum]
  refine tsm_congr 8 (fun x hx => ?_)
  rw [tsm_one (S := P) 8 hP (fun i hi q => tsm_zero 8 (fun k hk => by rw [tag_ne hP hi q]; simp [tb]))]
  rw [tsm_one (S := O) 8 hO (fun i hi q => by rw [tag_ne hO hi q]; simp [tb])]
  rw [tag_self hP, tag_self hO, tag_m1]
  simp
theorem tC3_w1 (F : Nat → Bool) {s : Int32} (p o : Int32) (h : tpa s = false) : tC3 F s p o = tC3 F (-1) p o := by unfold tC3; rw [tag_wf h]
theorem tC3_w2 (F : Nat → Bool) (s : Int32) {p : Int32} (o : Int32) (h : tpa p = false) : tC3 F s p o = tC3 F s (-1) o := by unfold tC3; rw [tag_wf h]
theorem tC3_w3 (F : Nat → Bool) (s p : Int32) {o : Int32} (h : tpa o = false) : tC3 F s p o = tC3 F s p (-1) := by unfold tC3; rw [tag_wf h]
theorem tmk_pop (f : Nat → Bool) : tcn (fun k => (tmk f 8).testBit k) 8 = tcn f 8 := tcn_congr 8 (fun i hi => by rw [tmk_bit]; simp [hi])
theorem tb_pos {b : Bool} : decide (0 < tb b) = b := by cases b <;> decide
theorem tn_pos {x : Int32} {k : Nat} (h : x = nI k) (hk : k < 2 ^ 31) : decide (0 < x) = decide (0 < k) := by
  subst h
  congr 1
  exact propext (tn_gt0 hk)
theorem tmk_and (f g : Nat → Bool) : nI (tmk f 8) &&& nI (tmk g 8) = nI (tmk (fun q => f q && g q) 8) := by
  rw [nx_and]
  congr 1
  refine tmk_ext ?_ (fun j hj => ?_)
  · exact Nat.lt_of_le_of_lt Nat.and_le_left (tmk_lt f 8)
  · rw [Nat.testBit_and, tmk_bit, tmk_bit]; simp [hj]
theorem tn_cut {p : Program} {l : Launch} {e : Env} {R : Room} {s : State} {m : MethodId} {args : Array Value} {below : List Frame} {meth : Method} {c : Code} {H : Heap} {locs : List Loc} {cells slots : Nat} {Q : State → Prop} {pc1 : Nat} {ls : Array Slot} {st1 : List Value} (pc2 : Nat) (rest : List Value) (P : Int32 → Prop) (k : ∀ y : Int32, P y → W p l e R s m args below meth c H locs cells slots Q (F0 m pc2 ls (.int y :: rest))) (h : (∀ y : Int32, P y → W p l e R s m args below meth c H locs cells slots Q (F0 m pc2 ls (.int y :: rest))) → W p l e R s m args below meth c H locs cells slots Q (F0 m pc1 ls st1)) : W p l e R s m args below meth c H locs cells slots Q (F0 m pc1 ls st1) := h k
/-- a variable's place is tried with x -/
def tsb (pl : Nat → Int32) (v x : Nat) (y : Int32) (j : Nat) : Int32 := if pl j = -1 - nI v then nI x else y
/-- what a pattern allows the variable v -/
def tab (F : Nat → Bool) (pl : Nat → Int32) (v : Nat) (s p o : Int32) (j : Nat) : Nat → Bool := fun x => decide (0 < tC3 F (tsb pl v x s j) (tsb pl v x p (j + 1)) (tsb pl v x o (j + 2)))
/-- does the variable stand in the pattern -/
def tin (pl : Nat → Int32) (v k : Nat) : Bool := decide (pl (3 * k) = -1 - nI v) || decide (pl (3 * k + 1) = -1 - nI v) || decide (pl (3 * k + 2) = -1 - nI v)
/-- what the first k patterns allow the variable v -/
def tal (F : Nat → Bool) (pl bo : Nat → Int32) (v x : Nat) : Nat → Bool
  | 0 => true
  | k + 1 => tal F pl bo v x k && (!tin pl v k || tab F pl v (tkn bo (pl (3 * k))) (tkn bo (pl (3 * k + 1))) (tkn bo (pl (3 * k + 2))) (3 * k) x)
/-- no variable in the pattern -/
def tgr (pl : Nat → Int32) (k : Nat) : Bool := decide (0 ≤ pl (3 * k)) && decide (0 ≤ pl (3 * k + 1)) && decide (0 ≤ pl (3 * k + 2))
def tgh (F : Nat → Bool) (pl : Nat → Int32) : Nat → Bool
  | 0 => true
  | k + 1 => tgh F pl k && (!tgr pl k || decide (0 < tC3 F (pl (3 * k)) (pl (3 * k + 1)) (pl (3 * k + 2))))
/-- what may stand at a place -/
def tok (x : Int32) : Prop := (∃ S : Nat, S < 8 ∧ x = nI S) ∨ ∃ k : Nat, k < 4 ∧ x = -1 - nI k
/-- what may be known of it -/
def tkk (x : Int32) : Prop := (∃ S : Nat, S < 8 ∧ x = nI S) ∨ x = -1
theorem tkn_ok {bo : Nat → Int32} {x : Int32} (hx : tok x) (hb : ∀ v, v < 4 → tkk (bo v)) : tkk (tkn bo x) := by
  rcases hx with ⟨S, hS, rfl⟩ | ⟨k, hk, rfl⟩
  · rw [tkn_nI bo hS]; exact Or.inl ⟨S, hS, rfl⟩
  · rw [tkn_k bo hk]; exact hb k hk
theorem tpa_m1 : tpa (-1) = false := by decide
end
section
theorem tok_p {x : Int32} (h : tok x) (h0 : ¬ x < 0) : ∃ S : Nat, S < 8 ∧ x = nI S := by
  rcases h with q | ⟨k, hk, rfl⟩
  · exact q
  · exact absurd (t_neg k hk) h0
theorem tgh_f {F : Nat → Bool} {pl : Nat → Int32} {k : Nat} : ∀ {N : Nat}, k < N → tgh F pl (k + 1) = false → tgh F pl N = false
  | 0, h, _ => absurd h (Nat.not_lt_zero k)
  | N + 1, h, e => by
    by_cases q : k = N
    · subst q; exact e
    · show (tgh F pl N && _) = false
      rw [tgh_f (N := N) (by omega) e]; rfl
set_option maxHeartbeats 1000000 in
set_option maxRecDepth 100000 in
/-- count -/
theorem m_count {l : Launch} {D : va_G} {d z : ClassId} {h : Nat} {a : Nat → Nat} {he : Int32} {ob pr su go si : Nat → Int32} {N : Nat} {pl : Nat → Int32} {nv : Int32} {vr bo ca vc : Nat → Int32} {sc : Int32} {F : Nat → Bool} (hI : tTI F he ob pr su go si) (s_ p_ o_ : Int32) : Met l yX0_count (ws_ yX0_count cX0_count 8 (some .int)) (rm_ 2 22) (pJ D d z (wJ h a d he ob pr su go si (nI N) pl nv vr bo ca vc sc) [.ref h, .int s_, .int p_, .int o_]) (vp_Si (fun r_ => r_ = nI (tC3 F s_ p_ o_))) 0 0 (fun _ => False) := by
  refine Met.ofW (cc := cX0_count) (maxL := 8) (ret := (some .int)) (by decide) rfl ?_
  intro p e s m args below meth c s₁ B hml hv
  obtain ⟨rfl, hP, hK, hD⟩ := hv
  have hx := B.exec
  have hb := B.bytes
  have hr := B.returns
  have hts := atoms_spec (ws := (ws_ yX0_count cX0_count 8 (some .int))) B.pre
  have hts : ∀ w ∈ lw_all, w.before _ s = true := fun w h => hts w (List.mem_cons_of_mem _ h)
  have hown : s.vm.findClass RX0 = some m.cls := findClass_of_methodNamed B.named
  have hlocks := B.notSynchronized
  have hl := lv_entry ([.ref h, .int s_, .int p_, .int o_]) (n := 8) (Nat.le_of_ble_eq_true rfl)
  rw [lg_entry_eq]
  generalize (lg_sl ([.ref h, .int s_, .int p_, .int o_]) ++ List.replicate (8 - (lg_sl ([.ref h, .int s_, .int p_, .int o_])).length) Slot.unset).toArray = ls at hl ⊢
  have hl : lv_has ls 8 [(0, .ref h), (1, .int s_), (2, .int p_), (3, .int o_)] := hl
  rcases tpa_or s_ with ⟨S, hS8, rfl⟩ | hs
  · rcases tpa_or p_ with ⟨P, hP8, rfl⟩ | hp
    · rcases tpa_or o_ with ⟨O, hO8, rfl⟩ | ho
      · refine lv_iload_n hx hb dX0_count_0 rfl (lv_at hl 1 rfl) ?_
        refine vp_callSi (W.runS (As := [.int (nI S)]) (rest := []) ⟨hx, hb, hml, hown, hts⟩ (m_isPart l (nI S)) (va_cwS 1 hts (lw_S q76 q77 q18 q78) rfl rfl rfl (by decide +kernel) ⟨Nat.le_of_ble_eq_true rfl, Nat.le_of_ble_eq_true rfl⟩) pS_pre rfl rfl hl.1 rfl (lv_room (Nat.le_of_ble_eq_true rfl)) dX0_count_1 ⟨Nat.le_refl _, Nat.le_refl _⟩) (fun r_1 hr_1 => ?_)
        subst hr_1
        refine tn_as (nI 1) (by rw [tpa_nI hS8]; rfl) ?_
        refine lv_istore (lv' := [(4, .int (nI 1)), (0, .ref h), (1, .int (nI S)), (2, .int (nI P)), (3, .int (nI O))]) hx hb dX0_count_4 hl (by decide) rfl (fun ls hl => ?_)
        refine lv_iload_n hx hb dX0_count_6 rfl (lv_at hl 3 rfl) ?_
        refine vp_callSi (W.runS (As := [.int (nI P)]) (rest := []) ⟨hx, hb, hml, hown, hts⟩ (m_isPart l (nI P)) (va_cwS 1 hts (lw_S q76 q77 q18 q78) rfl rfl rfl (by decide +kernel) ⟨Nat.le_of_ble_eq_true rfl, Nat.le_of_ble_eq_true rfl⟩) pS_pre rfl rfl hl.1 rfl (lv_room (Nat.le_of_ble_eq_true rfl)) dX0_count_7 ⟨Nat.le_refl _, Nat.le_refl _⟩) (fun r_7 hr_7 => ?_)
        subst hr_7
        refine tn_as (nI 1) (by rw [tpa_nI hP8]; rfl) ?_
        refine lv_istore (lv' := [(5, .int (nI 1)), (4, .int (nI 1)), (0, .ref h), (1, .int (nI S)), (2, .int (nI P)), (3, .int (nI O))]) hx hb dX0_count_10 hl (by decide) rfl (fun ls hl => ?_)
        refine lv_iload_n hx hb dX0_count_12 rfl (lv_at hl 5 rfl) ?_
        refine vp_callSi (W.runS (As := [.int (nI O)]) (rest := []) ⟨hx, hb, hml, hown, hts⟩ (m_isPart l (nI O)) (va_cwS 1 hts (lw_S q76 q77 q18 q78) rfl rfl rfl (by decide +kernel) ⟨Nat.le_of_ble_eq_true rfl, Nat.le_of_ble_eq_true rfl⟩) pS_pre rfl rfl hl.1 rfl (lv_room (Nat.le_of_ble_eq_true rfl)) dX0_count_13 ⟨Nat.le_refl _, Nat.le_refl _⟩) (fun r_13 hr_13 => ?_)
        subst hr_13
        refine tn_as (nI 1) (by rw [tpa_nI hO8]; rfl) ?_
        refine lv_istore (lv' := [(6, .int (nI 1)), (5, .int (nI 1)), (4, .int (nI 1)), (0, .ref h), (1, .int (nI S)), (2, .int (nI P)), (3, .int (nI O))]) hx hb dX0_count_16 hl (by decide) rfl (fun ls hl => ?_)
        refine lv_iload hx hb dX0_count_18 (lv_at hl 2 rfl) ?_
        refine tn_if_eq (tgt := 27) hx hb dX0_count_20 (by decide) (by decide) (fun z => absurd z (by decide)) (fun _ => ?_)
        refine lv_iconst (v := nI 1) hx hb dX0_count_23 (by decide) ?_
        refine lv_goto (tgt := 28) hx hb dX0_count_24 (by decide) ?_
        refine lv_iload hx hb dX0_count_28 (lv_at hl 1 rfl) ?_
        refine tn_if_eq (tgt := 37) hx hb dX0_count_30 (by decide) (by decide) (fun z => absurd z (by decide)) (fun _ => ?_)
        refine lv_iconst (v := nI 1) hx hb dX0_count_33 (by decide) ?_
        refine lv_goto (tgt := 38) hx hb dX0_count_34 (by decide) ?_
        refine tn_iadd hx hb dX0_count_38 ?_
        refine lv_iload hx hb dX0_count_39 (lv_at hl 0 rfl) ?_
        refine tn_if_eq (tgt := 48) hx hb dX0_count_41 (by decide) (by decide) (fun z => absurd z (by decide)) (fun _ => ?_)
        refine lv_iconst (v := nI 1) hx hb dX0_count_44 (by decide) ?_
        refine lv_goto (tgt := 49) hx hb dX0_count_45 (by decide) ?_
        refine tn_iadd hx hb dX0_count_49 ?_
        refine lv_istore (lv' := [(7, .int (nI ((1 + 1) + 1))), (6, .int (nI 1)), (5, .int (nI 1)), (4, .int (nI 1)), (0, .ref h), (1, .int (nI S)), (2, .int (nI P)), (3, .int (nI O))]) hx hb dX0_count_50 hl (by decide) rfl (fun ls hl => ?_)
        refine lv_iload hx hb dX0_count_52 (lv_at hl 0 rfl) ?_
        refine lv_iconst (v := nI 3) hx hb dX0_count_54 (by decide) ?_
        refine tn_icmp_ne (tgt := 74) hx hb dX0_count_55 (by decide) (by decide) (by decide) (fun z => absurd z (by decide)) (fun _ => ?_)
        refine lv_aload_n hx hb dX0_count_58 rfl (lv_at hl 4 rfl) ?_
        refine va_get (D := D) (ci := 0) (v := .ref (a 1)) (C := RX0) (T := TX0) (N := 14) hx hb hts in_X0 hown hK hP 0 rfl rfl 1 (by decide) (hts _ q29) (fun _ h9 => h9) rfl dX0_count_59 ?_
        refine lv_bipush (v := nI 8) hx hb dX0_count_62 (by decide) ?_
        refine lv_iload_n hx hb dX0_count_64 rfl (lv_at hl 5 rfl) ?_
        refine tn_imul hx hb dX0_count_65 ?_
        refine lv_iload_n hx hb dX0_count_66 rfl (lv_at hl 6 rfl) ?_
        refine tn_iadd hx hb dX0_count_67 ?_
        refine tn_iald hx hb hK hP 1 0 rfl rfl (j := (8 * S) + P) (by omega) (by decide) dX0_count_68 ?_
        refine lv_iload_n hx hb dX0_count_69 rfl (lv_at hl 7 rfl) ?_
        refine lv_iushr hx hb dX0_count_70 rfl ?_
        refine lv_iconst (v := nI 1) hx hb dX0_count_71 (by decide) ?_
        refine lv_iand hx hb dX0_count_72 ?_
        refine tn_as (nI (tb (F (64 * S + 8 * P + O)))) (t_bitf (hI.2.1 S P hS8 hP8).1 hO8) ?_
        exact W.iret (v := nI (tb (F (64 * S + 8 * P + O)))) hx hb hr (fun t ht hW => ⟨_, rfl, (by rw [tC3_3 F hS8 hP8 hO8]), ht⟩) (fun _ h9 => nomatch h9) dX0_count_73
      · refine lv_iload_n hx hb dX0_count_0 rfl (lv_at hl 1 rfl) ?_
        refine vp_callSi (W.runS (As := [.int (nI S)]) (rest := []) ⟨hx, hb, hml, hown, hts⟩ (m_isPart l (nI S)) (va_cwS 1 hts (lw_S q76 q77 q18 q78) rfl rfl rfl (by decide +kernel) ⟨Nat.le_of_ble_eq_true rfl, Nat.le_of_ble_eq_true rfl⟩) pS_pre rfl rfl hl.1 rfl (lv_room (Nat.le_of_ble_eq_true rfl)) dX0_count_1 ⟨Nat.le_refl _, Nat.le_refl _⟩) (fun r_1 hr_1 => ?_)
        subst hr_1
        refine tn_as (nI 1) (by rw [tpa_nI hS8]; rfl) ?_
        refine lv_istore (lv' := [(4, .int (nI 1)), (0, .ref h), (1, .int (nI S)), (2, .int (nI P)), (3, .int o_)]) hx hb dX0_count_4 hl (by decide) rfl (fun ls hl => ?_)
        refine lv_iload_n hx hb dX0_count_6 rfl (lv_at hl 3 rfl) ?_
        refine vp_callSi (W.runS (As := [.int (nI P)]) (rest := []) ⟨hx, hb, hml, hown, hts⟩ (m_isPart l (nI P)) (va_cwS 1 hts (lw_S q76 q77 q18 q78) rfl rfl rfl (by decide +kernel) ⟨Nat.le_of_ble_eq_true rfl, Nat.le_of_ble_eq_true rfl⟩) pS_pre rfl rfl hl.1 rfl (lv_room (Nat.le_of_ble_eq_true rfl)) dX0_count_7 ⟨Nat.le_refl _, Nat.le_refl _⟩) (fun r_7 hr_7 => ?_)
        subst hr_7
        refine tn_as (nI 1) (by rw [tpa_nI hP8]; rfl) ?_
        refine lv_istore (lv' := [(5, .int (nI 1)), (4, .int (nI 1)), (0, .ref h), (1, .int (nI S)), (2, .int (nI P)), (3, .int o_)]) hx hb dX0_count_10 hl (by decide) rfl (fun ls hl => ?_)
        refine lv_iload_n hx hb dX0_count_12 rfl (lv_at hl 5 rfl) ?_
        refine vp_callSi (W.runS (As := [.int o_]) (rest := []) ⟨hx, hb, hml, hown, hts⟩ (m_isPart l o_) (va_cwS 1 hts (lw_S q76 q77 q18 q78) rfl rfl rfl (by decide +kernel) ⟨Nat.le_of_ble_eq_true rfl, Nat.le_of_ble_eq_true rfl⟩) pS_pre rfl rfl hl.1 rfl (lv_room (Nat.le_of_ble_eq_true rfl)) dX0_count_13 ⟨Nat.le_refl _, Nat.le_refl _⟩) (fun r_13 hr_13 => ?_)
        subst hr_13
        refine tn_as (nI 0) (by rw [ho]; rfl) ?_
        refine lv_istore (lv' := [(6, .int (nI 0)), (5, .int (nI 1)), (4, .int (nI 1)), (0, .ref h), (1, .int (nI S)), (2, .int (nI P)), (3, .int o_)]) hx hb dX0_count_16 hl (by decide) rfl (fun ls hl => ?_)
        refine lv_iload hx hb dX0_count_18 (lv_at hl 2 rfl) ?_
        refine tn_if_eq (tgt := 27) hx hb dX0_count_20 (by decide) (by decide) (fun z => absurd z (by decide)) (fun _ => ?_)
        refine lv_iconst (v := nI 1) hx hb dX0_count_23 (by decide) ?_
        refine lv_goto (tgt := 28) hx hb dX0_count_24 (by decide) ?_
        refine lv_iload hx hb dX0_count_28 (lv_at hl 1 rfl) ?_
        refine tn_if_eq (tgt := 37) hx hb dX0_count_30 (by decide) (by decide) (fun z => absurd z (by decide)) (fun _ => ?_)
        refine lv_iconst (v := nI 1) hx hb dX0_count_33 (by decide) ?_
        refine lv_goto (tgt := 38) hx hb dX0_count_34 (by decide) ?_
        refine tn_iadd hx hb dX0_count_38 ?_
        refine lv_iload hx hb dX0_count_39 (lv_at hl 0 rfl) ?_
        refine tn_if_eq (tgt := 48) hx hb dX0_count_41 (by decide) (by decide) (fun _ => ?_) (fun z => absurd z (by decide))
        refine lv_iconst (v := nI 0) hx hb dX0_count_48 (by decide) ?_
        refine tn_iadd hx hb dX0_count_49 ?_
        refine lv_istore (lv' := [(7, .int (nI ((1 + 1) + 0))), (6, .int (nI 0)), (5, .int (nI 1)), (4, .int (nI 1)), (0, .ref h), (1, .int (nI S)), (2, .int (nI P)), (3, .int o_)]) hx hb dX0_count_50 hl (by decide) rfl (fun ls hl => ?_)
        refine lv_iload hx hb dX0_count_52 (lv_at hl 0 rfl) ?_
        refine lv_iconst (v := nI 3) hx hb dX0_count_54 (by decide) ?_
        refine tn_icmp_ne (tgt := 74) hx hb dX0_count_55 (by decide) (by decide) (by decide) (fun _ => ?_) (fun z => absurd z (by decide))
        refine lv_iload hx hb dX0_count_74 (lv_at hl 0 rfl) ?_
        refine lv_iconst (v := nI 2) hx hb dX0_count_76 (by decide) ?_
        refine tn_icmp_ne (tgt := 133) hx hb dX0_count_77 (by decide) (by decide) (by decide) (fun z => absurd z (by decide)) (fun _ => ?_)
        refine lv_iload hx hb dX0_count_80 (lv_at hl 1 rfl) ?_
        refine tn_if_ne (tgt := 99) hx hb dX0_count_82 (by decide) (by decide) (fun z => absurd z (by decide)) (fun _ => ?_)
        refine lv_aload_n hx hb dX0_count_85 rfl (lv_at hl 4 rfl) ?_
        refine va_get (D := D) (ci := 0) (v := .ref (a 1)) (C := RX0) (T := TX0) (N := 14) hx hb hts in_X0 hown hK hP 0 rfl rfl 1 (by decide) (hts _ q29) (fun _ h9 => h9) rfl dX0_count_86 ?_
        refine lv_bipush (v := nI 8) hx hb dX0_count_89 (by decide) ?_
        refine lv_iload_n hx hb dX0_count_91 rfl (lv_at hl 5 rfl) ?_
        refine tn_imul hx hb dX0_count_92 ?_
        refine lv_iload_n hx hb dX0_count_93 rfl (lv_at hl 6 rfl) ?_
        refine tn_iadd hx hb dX0_count_94 ?_
        refine tn_iald hx hb hK hP 1 0 rfl rfl (j := (8 * S) + P) (by omega) (by decide) dX0_count_95 ?_
        refine lv_goto (tgt := 129) hx hb dX0_count_96 (by decide) ?_
        refine tn_as (nI (tmk (fun q => F (64 * S + 8 * P + q)) 8)) (hI.2.1 S P hS8 hP8).1 ?_
        refine vp_callSi (W.runS (As := [.int (nI (tmk (fun q => F (64 * S + 8 * P + q)) 8))]) (rest := []) ⟨hx, hb, hml, hown, hts⟩ (m_ones l (tmk (fun q => F (64 * S + 8 * P + q)) 8) (tmk_8 _)) (va_cwS 1 hts (lw_S q135 q136 q18 q137) rfl rfl rfl (by decide +kernel) ⟨Nat.le_of_ble_eq_true rfl, Nat.le_of_ble_eq_true rfl⟩) pS_pre rfl rfl hl.1 rfl (lv_room (Nat.le_of_ble_eq_true rfl)) dX0_count_129 ⟨Nat.le_refl _, Nat.le_refl _⟩) (fun r_129 hr_129 => ?_)
        subst hr_129
        exact W.iret (v := nI (tcn (fun k => (tmk (fun q => F (64 * S + 8 * P + q)) 8).testBit k) 8)) hx hb hr (fun t ht hW => ⟨_, rfl, (by rw [tC3_w3 F _ _ ho, tmk_pop, tC3_sp F hS8 hP8]), ht⟩) (fun _ h9 => nomatch h9) dX0_count_132
    · rcases tpa_or o_ with ⟨O, hO8, rfl⟩ | ho
      · refine lv_iload_n hx hb dX0_count_0 rfl (lv_at hl 1 rfl) ?_
        refine vp_callSi (W.runS (As := [.int (nI S)]) (rest := []) ⟨hx, hb, hml, hown, hts⟩ (m_isPart l (nI S)) (va_cwS 1 hts (lw_S q76 q77 q18 q78) rfl rfl rfl (by decide +kernel) ⟨Nat.le_of_ble_eq_true rfl, Nat.le_of_ble_eq_true rfl⟩) pS_pre rfl rfl hl.1 rfl (lv_room (Nat.le_of_ble_eq_true rfl)) dX0_count_1 ⟨Nat.le_refl _, Nat.le_refl _⟩) (fun r_1 hr_1 => ?_)
        subst hr_1
        refine tn_as (nI 1) (by rw [tpa_nI hS8]; rfl) ?_
        refine lv_istore (lv' := [(4, .int (nI 1)), (0, .ref h), (1, .int (nI S)), (2, .int p_), (3, .int (nI O))]) hx hb dX0_count_4 hl (by decide) rfl (fun ls hl => ?_)
        refine lv_iload_n hx hb dX0_count_6 rfl (lv_at hl 3 rfl) ?_
        refine vp_callSi (W.runS (As := [.int p_]) (rest := []) ⟨hx, hb, hml, hown, hts⟩ (m_isPart l p_) (va_cwS 1 hts (lw_S q76 q77 q18 q78) rfl rfl rfl (by decide +kernel) ⟨Nat.le_of_ble_eq_true rfl, Nat.le_of_ble_eq_true rfl⟩) pS_pre rfl rfl hl.1 rfl (lv_room (Nat.le_of_ble_eq_true rfl)) dX0_count_7 ⟨Nat.le_refl _, Nat.le_refl _⟩) (fun r_7 hr_7 => ?_)
        subst hr_7
        refine tn_as (nI 0) (by rw [hp]; rfl) ?_
        refine lv_istore (lv' := [(5, .int (nI 0)), (4, .int (nI 1)), (0, .ref h), (1, .int (nI S)), (2, .int p_), (3, .int (nI O))]) hx hb dX0_count_10 hl (by decide) rfl (fun ls hl => ?_)
        refine lv_iload_n hx hb dX0_count_12 rfl (lv_at hl 5 rfl) ?_
        refine vp_callSi (W.runS (As := [.int (nI O)]) (rest := []) ⟨hx, hb, hml, hown, hts⟩ (m_isPart l (nI O)) (va_cwS 1 hts (lw_S q76 q77 q18 q78) rfl rfl rfl (by decide +kernel) ⟨Nat.le_of_ble_eq_true rfl, Nat.le_of_ble_eq_true rfl⟩) pS_pre rfl rfl hl.1 rfl (lv_room (Nat.le_of_ble_eq_true rfl)) dX0_count_13 ⟨Nat.le_refl _, Nat.le_refl _⟩) (fun r_13 hr_13 => ?_)
        subst hr_13
        refine tn_as (nI 1) (by rw [tpa_nI hO8]; rfl) ?_
        refine lv_istore (lv' := [(6, .int (nI 1)), (5, .int (nI 0)), (4, .int (nI 1)), (0, .ref h), (1, .int (nI S)), (2, .int p_), (3, .int (nI O))]) hx hb dX0_count_16 hl (by decide) rfl (fun ls hl => ?_)
        refine lv_iload hx hb dX0_count_18 (lv_at hl 2 rfl) ?_
        refine tn_if_eq (tgt := 27) hx hb dX0_count_20 (by decide) (by decide) (fun z => absurd z (by decide)) (fun _ => ?_)
        refine lv_iconst (v := nI 1) hx hb dX0_count_23 (by decide) ?_
        refine lv_goto (tgt := 28) hx hb dX0_count_24 (by decide) ?_
        refine lv_iload hx hb dX0_count_28 (lv_at hl 1 rfl) ?_
        refine tn_if_eq (tgt := 37) hx hb dX0_count_30 (by decide) (by decide) (fun _ => ?_) (fun z => absurd z (by decide))
        refine lv_iconst (v := nI 0) hx hb dX0_count_37 (by decide) ?_
        refine tn_iadd hx hb dX0_count_38 ?_
        refine lv_iload hx hb dX0_count_39 (lv_at hl 0 rfl) ?_
        refine tn_if_eq (tgt := 48) hx hb dX0_count_41 (by decide) (by decide) (fun z => absurd z (by decide)) (fun _ => ?_)
        refine lv_iconst (v := nI 1) hx hb dX0_count_44 (by decide) ?_
        refine lv_goto (tgt := 49) hx hb dX0_count_45 (by decide) ?_
        refine tn_iadd hx hb dX0_count_49 ?_
        refine lv_istore (lv' := [(7, .int (nI ((1 + 0) + 1))), (6, .int (nI 1)), (5, .int (nI 0)), (4, .int (nI 1)), (0, .ref h), (1, .int (nI S)), (2, .int p_), (3, .int (nI O))]) hx hb dX0_count_50 hl (by decide) rfl (fun ls hl => ?_)
        refine lv_iload hx hb dX0_count_52 (lv_at hl 0 rfl) ?_
        refine lv_iconst (v := nI 3) hx hb dX0_count_54 (by decide) ?_
        refine tn_icmp_ne (tgt := 74) hx hb dX0_count_55 (by decide) (by decide) (by decide) (fun _ => ?_) (fun z => absurd z (by decide))
        refine lv_iload hx hb dX0_count_74 (lv_at hl 0 rfl) ?_
        refine lv_iconst (v := nI 2) hx hb dX0_count_76 (by decide) ?_
        refine tn_icmp_ne (tgt := 133) hx hb dX0_count_77 (by decide) (by decide) (by decide) (fun z => absurd z (by decide)) (fun _ => ?_)
        refine lv_iload hx hb dX0_count_80 (lv_at hl 1 rfl) ?_
        refine tn_if_ne (tgt := 99) hx hb dX0_count_82 (by decide) (by decide) (fun _ => ?_) (fun z => absurd z (by decide))
        refine lv_iload hx hb dX0_count_99 (lv_at hl 2 rfl) ?_
        refine tn_if_ne (tgt := 118) hx hb dX0_count_101 (by decide) (by decide) (fun z => absurd z (by decide)) (fun _ => ?_)
        refine lv_aload_n hx hb dX0_count_104 rfl (lv_at hl 4 rfl) ?_
        refine va_get (D := D) (ci := 0) (v := .ref (a 2)) (C := RX0) (T := TX0) (N := 14) hx hb hts in_X0 hown hK hP 0 rfl rfl 2 (by decide) (hts _ q30) (fun _ h9 => h9) rfl dX0_count_105 ?_
        refine lv_bipush (v := nI 8) hx hb dX0_count_108 (by decide) ?_
        refine lv_iload_n hx hb dX0_count_110 rfl (lv_at hl 5 rfl) ?_
        refine tn_imul hx hb dX0_count_111 ?_
        refine lv_iload_n hx hb dX0_count_112 rfl (lv_at hl 7 rfl) ?_
        refine tn_iadd hx hb dX0_count_113 ?_
        refine tn_iald hx hb hK hP 2 0 rfl rfl (j := (8 * S) + O) (by omega) (by decide) dX0_count_114 ?_
        refine lv_goto (tgt := 129) hx hb dX0_count_115 (by decide) ?_
        refine tn_as (nI (tmk (fun q => F (64 * S + 8 * q + O)) 8)) (hI.2.1 S O hS8 hO8).2.1 ?_
        refine vp_callSi (W.runS (As := [.int (nI (tmk (fun q => F (64 * S + 8 * q + O)) 8))]) (rest := []) ⟨hx, hb, hml, hown, hts⟩ (m_ones l (tmk (fun q => F (64 * S + 8 * q + O)) 8) (tmk_8 _)) (va_cwS 1 hts (lw_S q135 q136 q18 q137) rfl rfl rfl (by decide +kernel) ⟨Nat.le_of_ble_eq_true rfl, Nat.le_of_ble_eq_true rfl⟩) pS_pre rfl rfl hl.1 rfl (lv_room (Nat.le_of_ble_eq_true rfl)) dX0_count_129 ⟨Nat.le_refl _, Nat.le_refl _⟩) (fun r_129 hr_129 => ?_)
        subst hr_129
        exact W.iret (v := nI (tcn (fun k => (tmk (fun q => F (64 * S + 8 * q + O)) 8).testBit k) 8)) hx hb hr (fun t ht hW => ⟨_, rfl, (by rw [tC3_w2 F _ _ hp, tmk_pop, tC3_so F hS8 hO8]), ht⟩) (fun _ h9 => nomatch h9) dX0_count_132
      · refine lv_iload_n hx hb dX0_count_0 rfl (lv_at hl 1 rfl) ?_
        refine vp_callSi (W.runS (As := [.int (nI S)]) (rest := []) ⟨hx, hb, hml, hown, hts⟩ (m_isPart l (nI S)) (va_cwS 1 hts (lw_S q76 q77 q18 q78) rfl rfl rfl (by decide +kernel) ⟨Nat.le_of_ble_eq_true rfl, Nat.le_of_ble_eq_true rfl⟩) pS_pre rfl rfl hl.1 rfl (lv_room (Nat.le_of_ble_eq_true rfl)) dX0_count_1 ⟨Nat.le_refl _, Nat.le_refl _⟩) (fun r_1 hr_1 => ?_)
        subst hr_1
        refine tn_as (nI 1) (by rw [tpa_nI hS8]; rfl) ?_
        refine lv_istore (lv' := [(4, .int (nI 1)), (0, .ref h), (1, .int (nI S)), (2, .int p_), (3, .int o_)]) hx hb dX0_count_4 hl (by decide) rfl (fun ls hl => ?_)
        refine lv_iload_n hx hb dX0_count_6 rfl (lv_at hl 3 rfl) ?_
        refine vp_callSi (W.runS (As := [.int p_]) (rest := []) ⟨hx, hb, hml, hown, hts⟩ (m_isPart l p_) (va_cwS 1 hts (lw_S q76 q77 q18 q78) rfl rfl rfl (by decide +kernel) ⟨Nat.le_of_ble_eq_true rfl, Nat.le_of_ble_eq_true rfl⟩) pS_pre rfl rfl hl.1 rfl (lv_room (Nat.le_of_ble_eq_true rfl)) dX0_count_7 ⟨Nat.le_refl _, Nat.le_refl _⟩) (fun r_7 hr_7 => ?_)
        subst hr_7
        refine tn_as (nI 0) (by rw [hp]; rfl) ?_
        refine lv_istore (lv' := [(5, .int (nI 0)), (4, .int (nI 1)), (0, .ref h), (1, .int (nI S)), (2, .int p_), (3, .int o_)]) hx hb dX0_count_10 hl (by decide) rfl (fun ls hl => ?_)
        refine lv_iload_n hx hb dX0_count_12 rfl (lv_at hl 5 rfl) ?_
        refine vp_callSi (W.runS (As := [.int o_]) (rest := []) ⟨hx, hb, hml, hown, hts⟩ (m_isPart l o_) (va_cwS 1 hts (lw_S q76 q77 q18 q78) rfl rfl rfl (by decide +kernel) ⟨Nat.le_of_ble_eq_true rfl, Nat.le_of_ble_eq_true rfl⟩) pS_pre rfl rfl hl.1 rfl (lv_room (Nat.le_of_ble_eq_true rfl)) dX0_count_13 ⟨Nat.le_refl _, Nat.le_refl _⟩) (fun r_13 hr_13 => ?_)
        subst hr_13
        refine tn_as (nI 0) (by rw [ho]; rfl) ?_
        refine lv_istore (lv' := [(6, .int (nI 0)), (5, .int (nI 0)), (4, .int (nI 1)), (0, .ref h), (1, .int (nI S)), (2, .int p_), (3, .int o_)]) hx hb dX0_count_16 hl (by decide) rfl (fun ls hl => ?_)
        refine lv_iload hx hb dX0_count_18 (lv_at hl 2 rfl) ?_
        refine tn_if_eq (tgt := 27) hx hb dX0_count_20 (by decide) (by decide) (fun z => absurd z (by decide)) (fun _ => ?_)
        refine lv_iconst (v := nI 1) hx hb dX0_count_23 (by decide) ?_
        refine lv_goto (tgt := 28) hx hb dX0_count_24 (by decide) ?_
        refine lv_iload hx hb dX0_count_28 (lv_at hl 1 rfl) ?_
        refine tn_if_eq (tgt := 37) hx hb dX0_count_30 (by decide) (by decide) (fun _ => ?_) (fun z => absurd z (by decide))
        refine lv_iconst (v := nI 0) hx hb dX0_count_37 (by decide) ?_
        refine tn_iadd hx hb dX0_count_38 ?_
        refine lv_iload hx hb dX0_count_39 (lv_at hl 0 rfl) ?_
        refine tn_if_eq (tgt := 48) hx hb dX0_count_41 (by decide) (by decide) (fun _ => ?_) (fun z => absurd z (by decide))
        refine lv_iconst (v := nI 0) hx hb dX0_count_48 (by decide) ?_
        refine tn_iadd hx hb dX0_count_49 ?_
        refine lv_istore (lv' := [(7, .int (nI ((1 + 0) + 0))), (6, .int (nI 0)), (5, .int (nI 0)), (4, .int (nI 1)), (0, .ref h), (1, .int (nI S)), (2, .int p_), (3, .int o_)]) hx hb dX0_count_50 hl (by decide) rfl (fun ls hl => ?_)
        refine lv_iload hx hb dX0_count_52 (lv_at hl 0 rfl) ?_
        refine lv_iconst (v := nI 3) hx hb dX0_count_54 (by decide) ?_
        refine tn_icmp_ne (tgt := 74) hx hb dX0_count_55 (by decide) (by decide) (by decide) (fun _ => ?_) (fun z => absurd z (by decide))
        refine lv_iload hx hb dX0_count_74 (lv_at hl 0 rfl) ?_
        refine lv_iconst (v := nI 2) hx hb dX0_count_76 (by decide) ?_
        refine tn_icmp_ne (tgt := 133) hx hb dX0_count_77 (by decide) (by decide) (by decide) (fun _ => ?_) (fun z => absurd z (by decide))
        refine lv_iload hx hb dX0_count_133 (lv_at hl 0 rfl) ?_
        refine lv_iconst (v := nI 1) hx hb dX0_count_135 (by decide) ?_
        refine tn_icmp_ne (tgt := 180) hx hb dX0_count_136 (by decide) (by decide) (by decide) (fun z => absurd z (by decide)) (fun _ => ?_)
        refine lv_iload hx hb dX0_count_139 (lv_at hl 3 rfl) ?_
        refine tn_if_eq (tgt := 153) hx hb dX0_count_141 (by decide) (by decide) (fun z => absurd z (by decide)) (fun _ => ?_)
        refine lv_aload_n hx hb dX0_count_144 rfl (lv_at hl 4 rfl) ?_
        refine va_get (D := D) (ci := 0) (v := .ref (a 5)) (C := RX0) (T := TX0) (N := 14) hx hb hts in_X0 hown hK hP 0 rfl rfl 5 (by decide) (hts _ q33) (fun _ h9 => h9) rfl dX0_count_145 ?_
        refine lv_iload_n hx hb dX0_count_148 rfl (lv_at hl 5 rfl) ?_
        refine tn_iald hx hb hK hP 5 0 rfl rfl (j := S) (by omega) (by decide) dX0_count_149 ?_
        refine lv_goto (tgt := 179) hx hb dX0_count_150 (by decide) ?_
        exact W.iret (v := si S) hx hb hr (fun t ht hW => ⟨_, rfl, (by rw [tC3_w2 F _ _ hp, tC3_w3 F _ _ ho]; exact (hI.2.2.2 S hS8).1), ht⟩) (fun _ h9 => nomatch h9) dX0_count_179
  · rcases tpa_or p_ with ⟨P, hP8, rfl⟩ | hp
    · rcases tpa_or o_ with ⟨O, hO8, rfl⟩ | ho
      · refine lv_iload_n hx hb dX0_count_0 rfl (lv_at hl 1 rfl) ?_
        refine vp_callSi (W.runS (As := [.int s_]) (rest := []) ⟨hx, hb, hml, hown, hts⟩ (m_isPart l s_) (va_cwS 1 hts (lw_S q76 q77 q18 q78) rfl rfl rfl (by decide +kernel) ⟨Nat.le_of_ble_eq_true rfl, Nat.le_of_ble_eq_true rfl⟩) pS_pre rfl rfl hl.1 rfl (lv_room (Nat.le_of_ble_eq_true rfl)) dX0_count_1 ⟨Nat.le_refl _, Nat.le_refl _⟩) (fun r_1 hr_1 => ?_)
        subst hr_1
        refine tn_as (nI 0) (by rw [hs]; rfl) ?_
        refine lv_istore (lv' := [(4, .int (nI 0)), (0, .ref h), (1, .int s_), (2, .int (nI P)), (3, .int (nI O))]) hx hb dX0_count_4 hl (by decide) rfl (fun ls hl => ?_)
        refine lv_iload_n hx hb dX0_count_6 rfl (lv_at hl 3 rfl) ?_
        refine vp_callSi (W.runS (As := [.int (nI P)]) (rest := []) ⟨hx, hb, hml, hown, hts⟩ (m_isPart l (nI P)) (va_cwS 1 hts (lw_S q76 q77 q18 q78) rfl rfl rfl (by decide +kernel) ⟨Nat.le_of_ble_eq_true rfl, Nat.le_of_ble_eq_true rfl⟩) pS_pre rfl rfl hl.1 rfl (lv_room (Nat.le_of_ble_eq_true rfl)) dX0_count_7 ⟨Nat.le_refl _, Nat.le_refl _⟩) (fun r_7 hr_7 => ?_)
        subst hr_7
        refine tn_as (nI 1) (by rw [tpa_nI hP8]; rfl) ?_
        refine lv_istore (lv' := [(5, .int (nI 1)), (4, .int (nI 0)), (0, .ref h), (1, .int s_), (2, .int (nI P)), (3, .int (nI O))]) hx hb dX0_count_10 hl (by decide) rfl (fun ls hl => ?_)
        refine lv_iload_n hx hb dX0_count_12 rfl (lv_at hl 5 rfl) ?_
        refine vp_callSi (W.runS (As := [.int (nI O)]) (rest := []) ⟨hx, hb, hml, hown, hts⟩ (m_isPart l (nI O)) (va_cwS 1 hts (lw_S q76 q77 q18 q78) rfl rfl rfl (by decide +kernel) ⟨Nat.le_of_ble_eq_true rfl, Nat.le_of_ble_eq_true rfl⟩) pS_pre rfl rfl hl.1 rfl (lv_room (Nat.le_of_ble_eq_true rfl)) dX0_count_13 ⟨Nat.le_refl _, Nat.le_refl _⟩) (fun r_13 hr_13 => ?_)
        subst hr_13
        refine tn_as (nI 1) (by rw [tpa_nI hO8]; rfl) ?_
        refine lv_istore (lv' := [(6, .int (nI 1)), (5, .int (nI 1)), (4, .int (nI 0)), (0, .ref h), (1, .int s_), (2, .int (nI P)), (3, .int (nI O))]) hx hb dX0_count_16 hl (by decide) rfl (fun ls hl => ?_)
        refine lv_iload hx hb dX0_count_18 (lv_at hl 2 rfl) ?_
        refine tn_if_eq (tgt := 27) hx hb dX0_count_20 (by decide) (by decide) (fun _ => ?_) (fun z => absurd z (by decide))
        refine lv_iconst (v := nI 0) hx hb dX0_count_27 (by decide) ?_
        refine lv_iload hx hb dX0_count_28 (lv_at hl 1 rfl) ?_
        refine tn_if_eq (tgt := 37) hx hb dX0_count_30 (by decide) (by decide) (fun z => absurd z (by decide)) (fun _ => ?_)
        refine lv_iconst (v := nI 1) hx hb dX0_count_33 (by decide) ?_
        refine lv_goto (tgt := 38) hx hb dX0_count_34 (by decide) ?_
        refine tn_iadd hx hb dX0_count_38 ?_
        refine lv_iload hx hb dX0_count_39 (lv_at hl 0 rfl) ?_
        refine tn_if_eq (tgt := 48) hx hb dX0_count_41 (by decide) (by decide) (fun z => absurd z (by decide)) (fun _ => ?_)
        refine lv_iconst (v := nI 1) hx hb dX0_count_44 (by decide) ?_
        refine lv_goto (tgt := 49) hx hb dX0_count_45 (by decide) ?_
        refine tn_iadd hx hb dX0_count_49 ?_
        refine lv_istore (lv' := [(7, .int (nI ((0 + 1) + 1))), (6, .int (nI 1)), (5, .int (nI 1)), (4, .int (nI 0)), (0, .ref h), (1, .int s_), (2, .int (nI P)), (3, .int (nI O))]) hx hb dX0_count_50 hl (by decide) rfl (fun ls hl => ?_)
        refine lv_iload hx hb dX0_count_52 (lv_at hl 0 rfl) ?_
        refine lv_iconst (v := nI 3) hx hb dX0_count_54 (by decide) ?_
        refine tn_icmp_ne (tgt := 74) hx hb dX0_count_55 (by decide) (by decide) (by decide) (fun _ => ?_) (fun z => absurd z (by decide))
        refine lv_iload hx hb dX0_count_74 (lv_at hl 0 rfl) ?_
        refine lv_iconst (v := nI 2) hx hb dX0_count_76 (by decide) ?_
        refine tn_icmp_ne (tgt := 133) hx hb dX0_count_77 (by decide) (by decide) (by decide) (fun z => absurd z (by decide)) (fun _ => ?_)
        refine lv_iload hx hb dX0_count_80 (lv_at hl 1 rfl) ?_
        refine tn_if_ne (tgt := 99) hx hb dX0_count_82 (by decide) (by decide) (fun _ => ?_) (fun z => absurd z (by decide))
        refine lv_iload hx hb dX0_count_99 (lv_at hl 2 rfl) ?_
        refine tn_if_ne (tgt := 118) hx hb dX0_count_101 (by decide) (by decide) (fun _ => ?_) (fun z => absurd z (by decide))
        refine lv_aload_n hx hb dX0_count_118 rfl (lv_at hl 4 rfl) ?_
        refine va_get (D := D) (ci := 0) (v := .ref (a 3)) (C := RX0) (T := TX0) (N := 14) hx hb hts in_X0 hown hK hP 0 rfl rfl 3 (by decide) (hts _ q31) (fun _ h9 => h9) rfl dX0_count_119 ?_
        refine lv_bipush (v := nI 8) hx hb dX0_count_122 (by decide) ?_
        refine lv_iload_n hx hb dX0_count_124 rfl (lv_at hl 6 rfl) ?_
        refine tn_imul hx hb dX0_count_125 ?_
        refine lv_iload_n hx hb dX0_count_126 rfl (lv_at hl 7 rfl) ?_
        refine tn_iadd hx hb dX0_count_127 ?_
        refine tn_iald hx hb hK hP 3 0 rfl rfl (j := (8 * P) + O) (by omega) (by decide) dX0_count_128 ?_
        refine tn_as (nI (tmk (fun q => F (64 * q + 8 * P + O)) 8)) (hI.2.1 P O hP8 hO8).2.2 ?_
        refine vp_callSi (W.runS (As := [.int (nI (tmk (fun q => F (64 * q + 8 * P + O)) 8))]) (rest := []) ⟨hx, hb, hml, hown, hts⟩ (m_ones l (tmk (fun q => F (64 * q + 8 * P + O)) 8) (tmk_8 _)) (va_cwS 1 hts (lw_S q135 q136 q18 q137) rfl rfl rfl (by decide +kernel) ⟨Nat.le_of_ble_eq_true rfl, Nat.le_of_ble_eq_true rfl⟩) pS_pre rfl rfl hl.1 rfl (lv_room (Nat.le_of_ble_eq_true rfl)) dX0_count_129 ⟨Nat.le_refl _, Nat.le_refl _⟩) (fun r_129 hr_129 => ?_)
        subst hr_129
        exact W.iret (v := nI (tcn (fun k => (tmk (fun q => F (64 * q + 8 * P + O)) 8).testBit k) 8)) hx hb hr (fun t ht hW => ⟨_, rfl, (by rw [tC3_w1 F _ _ hs, tmk_pop, tC3_po F hP8 hO8]), ht⟩) (fun _ h9 => nomatch h9) dX0_count_132
      · refine lv_iload_n hx hb dX0_count_0 rfl (lv_at hl 1 rfl) ?_
        refine vp_callSi (W.runS (As := [.int s_]) (rest := []) ⟨hx, hb, hml, hown, hts⟩ (m_isPart l s_) (va_cwS 1 hts (lw_S q76 q77 q18 q78) rfl rfl rfl (by decide +kernel) ⟨Nat.le_of_ble_eq_true rfl, Nat.le_of_ble_eq_true rfl⟩) pS_pre rfl rfl hl.1 rfl (lv_room (Nat.le_of_ble_eq_true rfl)) dX0_count_1 ⟨Nat.le_refl _, Nat.le_refl _⟩) (fun r_1 hr_1 => ?_)
        subst hr_1
        refine tn_as (nI 0) (by rw [hs]; rfl) ?_
        refine lv_istore (lv' := [(4, .int (nI 0)), (0, .ref h), (1, .int s_), (2, .int (nI P)), (3, .int o_)]) hx hb dX0_count_4 hl (by decide) rfl (fun ls hl => ?_)
        refine lv_iload_n hx hb dX0_count_6 rfl (lv_at hl 3 rfl) ?_
        refine vp_callSi (W.runS (As := [.int (nI P)]) (rest := []) ⟨hx, hb, hml, hown, hts⟩ (m_isPart l (nI P)) (va_cwS 1 hts (lw_S q76 q77 q18 q78) rfl rfl rfl (by decide +kernel) ⟨Nat.le_of_ble_eq_true rfl, Nat.le_of_ble_eq_true rfl⟩) pS_pre rfl rfl hl.1 rfl (lv_room (Nat.le_of_ble_eq_true rfl)) dX0_count_7 ⟨Nat.le_refl _, Nat.le_refl _⟩) (fun r_7 hr_7 => ?_)
        subst hr_7
        refine tn_as (nI 1) (by rw [tpa_nI hP8]; rfl) ?_
        refine lv_istore (lv' := [(5, .int (nI 1)), (4, .int (nI 0)), (0, .ref h), (1, .int s_), (2, .int (nI P)), (3, .int o_)]) hx hb dX0_count_10 hl (by decide) rfl (fun ls hl => ?_)
        refine lv_iload_n hx hb dX0_count_12 rfl (lv_at hl 5 rfl) ?_
        refine vp_callSi (W.runS (As := [.int o_]) (rest := []) ⟨hx, hb, hml, hown, hts⟩ (m_isPart l o_) (va_cwS 1 hts (lw_S q76 q77 q18 q78) rfl rfl rfl (by decide +kernel) ⟨Nat.le_of_ble_eq_true rfl, Nat.le_of_ble_eq_true rfl⟩) pS_pre rfl rfl hl.1 rfl (lv_room (Nat.le_of_ble_eq_true rfl)) dX0_count_13 ⟨Nat.le_refl _, Nat.le_refl _⟩) (fun r_13 hr_13 => ?_)
        subst hr_13
        refine tn_as (nI 0) (by rw [ho]; rfl) ?_
        refine lv_istore (lv' := [(6, .int (nI 0)), (5, .int (nI 1)), (4, .int (nI 0)), (0, .ref h), (1, .int s_), (2, .int (nI P)), (3, .int o_)]) hx hb dX0_count_16 hl (by decide) rfl (fun ls hl => ?_)
        refine lv_iload hx hb dX0_count_18 (lv_at hl 2 rfl) ?_
        refine tn_if_eq (tgt := 27) hx hb dX0_count_20 (by decide) (by decide) (fun _ => ?_) (fun z => absurd z (by decide))
        refine lv_iconst (v := nI 0) hx hb dX0_count_27 (by decide) ?_
        refine lv_iload hx hb dX0_count_28 (lv_at hl 1 rfl) ?_
        refine tn_if_eq (tgt := 37) hx hb dX0_count_30 (by decide) (by decide) (fun z => absurd z (by decide)) (fun _ => ?_)
        refine lv_iconst (v := nI 1) hx hb dX0_count_33 (by decide) ?_
        refine lv_goto (tgt := 38) hx hb dX0_count_34 (by decide) ?_
        refine tn_iadd hx hb dX0_count_38 ?_
        refine lv_iload hx hb dX0_count_39 (lv_at hl 0 rfl) ?_
        refine tn_if_eq (tgt := 48) hx hb dX0_count_41 (by decide) (by decide) (fun _ => ?_) (fun z => absurd z (by decide))
        refine lv_iconst (v := nI 0) hx hb dX0_count_48 (by decide) ?_
        refine tn_iadd hx hb dX0_count_49 ?_
        refine lv_istore (lv' := [(7, .int (nI ((0 + 1) + 0))), (6, .int (nI 0)), (5, .int (nI 1)), (4, .int (nI 0)), (0, .ref h), (1, .int s_), (2, .int (nI P)), (3, .int o_)]) hx hb dX0_count_50 hl (by decide) rfl (fun ls hl => ?_)
        refine lv_iload hx hb dX0_count_52 (lv_at hl 0 rfl) ?_
        refine lv_iconst (v := nI 3) hx hb dX0_count_54 (by decide) ?_
        refine tn_icmp_ne (tgt := 74) hx hb dX0_count_55 (by decide) (by decide) (by decide) (fun _ => ?_) (fun z => absurd z (by decide))
        refine lv_iload hx hb dX0_count_74 (lv_at hl 0 rfl) ?_
        refine lv_iconst (v := nI 2) hx hb dX0_count_76 (by decide) ?_
        refine tn_icmp_ne (tgt := 133) hx hb dX0_count_77 (by decide) (by decide) (by decide) (fun _ => ?_) (fun z => absurd z (by decide))
        refine lv_iload hx hb dX0_count_133 (lv_at hl 0 rfl) ?_
        refine lv_iconst (v := nI 1) hx hb dX0_count_135 (by decide) ?_
        refine tn_icmp_ne (tgt := 180) hx hb dX0_count_136 (by decide) (by decide) (by decide) (fun z => absurd z (by decide)) (fun _ => ?_)
        refine lv_iload hx hb dX0_count_139 (lv_at hl 3 rfl) ?_
        refine tn_if_eq (tgt := 153) hx hb dX0_count_141 (by decide) (by decide) (fun _ => ?_) (fun z => absurd z (by decide))
        refine lv_iload hx hb dX0_count_153 (lv_at hl 2 rfl) ?_
        refine tn_if_eq (tgt := 170) hx hb dX0_count_155 (by decide) (by decide) (fun z => absurd z (by decide)) (fun _ => ?_)
        refine lv_aload_n hx hb dX0_count_158 rfl (lv_at hl 4 rfl) ?_
        refine va_get (D := D) (ci := 0) (v := .ref (a 5)) (C := RX0) (T := TX0) (N := 14) hx hb hts in_X0 hown hK hP 0 rfl rfl 5 (by decide) (hts _ q33) (fun _ h9 => h9) rfl dX0_count_159 ?_
        refine lv_bipush (v := nI 8) hx hb dX0_count_162 (by decide) ?_
        refine lv_iload_n hx hb dX0_count_164 rfl (lv_at hl 6 rfl) ?_
        refine tn_iadd hx hb dX0_count_165 ?_
        refine tn_iald hx hb hK hP 5 0 rfl rfl (j := 8 + P) (by omega) (by decide) dX0_count_166 ?_
        refine lv_goto (tgt := 179) hx hb dX0_count_167 (by decide) ?_
        exact W.iret (v := si (8 + P)) hx hb hr (fun t ht hW => ⟨_, rfl, (by rw [tC3_w1 F _ _ hs, tC3_w3 F _ _ ho]; exact (hI.2.2.2 P hP8).2.1), ht⟩) (fun _ h9 => nomatch h9) dX0_count_179
    · rcases tpa_or o_ with ⟨O, hO8, rfl⟩ | ho
      · refine lv_iload_n hx hb dX0_count_0 rfl (lv_at hl 1 rfl) ?_
        refine vp_callSi (W.runS (As := [.int s_]) (rest := []) ⟨hx, hb, hml, hown, hts⟩ (m_isPart l s_) (va_cwS 1 hts (lw_S q76 q77 q18 q78) rfl rfl rfl (by decide +kernel) ⟨Nat.le_of_ble_eq_true rfl, Nat.le_of_ble_eq_true rfl⟩) pS_pre rfl rfl hl.1 rfl (lv_room (Nat.le_of_ble_eq_true rfl)) dX0_count_1 ⟨Nat.le_refl _, Nat.le_refl _⟩) (fun r_1 hr_1 => ?_)
        subst hr_1
        refine tn_as (nI 0) (by rw [hs]; rfl) ?_
        refine lv_istore (lv' := [(4, .int (nI 0)), (0, .ref h), (1, .int s_), (2, .int p_), (3, .int (nI O))]) hx hb dX0_count_4 hl (by decide) rfl (fun ls hl => ?_)
        refine lv_iload_n hx hb dX0_count_6 rfl (lv_at hl 3 rfl) ?_
        refine vp_callSi (W.runS (As := [.int p_]) (rest := []) ⟨hx, hb, hml, hown, hts⟩ (m_isPart l p_) (va_cwS 1 hts (lw_S q76 q77 q18 q78) rfl rfl rfl (by decide +kernel) ⟨Nat.le_of_ble_eq_true rfl, Nat.le_of_ble_eq_true rfl⟩) pS_pre rfl rfl hl.1 rfl (lv_room (Nat.le_of_ble_eq_true rfl)) dX0_count_7 ⟨Nat.le_refl _, Nat.le_refl _⟩) (fun r_7 hr_7 => ?_)
        subst hr_7
        refine tn_as (nI 0) (by rw [hp]; rfl) ?_
        refine lv_istore (lv' := [(5, .int (nI 0)), (4, .int (nI 0)), (0, .ref h), (1, .int s_), (2, .int p_), (3, .int (nI O))]) hx hb dX0_count_10 hl (by decide) rfl (fun ls hl => ?_)
        refine lv_iload_n hx hb dX0_count_12 rfl (lv_at hl 5 rfl) ?_
        refine vp_callSi (W.runS (As := [.int (nI O)]) (rest := []) ⟨hx, hb, hml, hown, hts⟩ (m_isPart l (nI O)) (va_cwS 1 hts (lw_S q76 q77 q18 q78) rfl rfl rfl (by decide +kernel) ⟨Nat.le_of_ble_eq_true rfl, Nat.le_of_ble_eq_true rfl⟩) pS_pre rfl rfl hl.1 rfl (lv_room (Nat.le_of_ble_eq_true rfl)) dX0_count_13 ⟨Nat.le_refl _, Nat.le_refl _⟩) (fun r_13 hr_13 => ?_)
        subst hr_13
        refine tn_as (nI 1) (by rw [tpa_nI hO8]; rfl) ?_
        refine lv_istore (lv' := [(6, .int (nI 1)), (5, .int (nI 0)), (4, .int (nI 0)), (0, .ref h), (1, .int s_), (2, .int p_), (3, .int (nI O))]) hx hb dX0_count_16 hl (by decide) rfl (fun ls hl => ?_)
        refine lv_iload hx hb dX0_count_18 (lv_at hl 2 rfl) ?_
        refine tn_if_eq (tgt := 27) hx hb dX0_count_20 (by decide) (by decide) (fun _ => ?_) (fun z => absurd z (by decide))
        refine lv_iconst (v := nI 0) hx hb dX0_count_27 (by decide) ?_
        refine lv_iload hx hb dX0_count_28 (lv_at hl 1 rfl) ?_
        refine tn_if_eq (tgt := 37) hx hb dX0_count_30 (by decide) (by decide) (fun _ => ?_) (fun z => absurd z (by decide))
        refine lv_iconst (v := nI 0) hx hb dX0_count_37 (by decide) ?_
        refine tn_iadd hx hb dX0_count_38 ?_
        refine lv_iload hx hb dX0_count_39 (lv_at hl 0 rfl) ?_
        refine tn_if_eq (tgt := 48) hx hb dX0_count_41 (by decide) (by decide) (fun z => absurd z (by decide)) (fun _ => ?_)
        refine lv_iconst (v := nI 1) hx hb dX0_count_44 (by decide) ?_
        refine lv_goto (tgt := 49) hx hb dX0_count_45 (by decide) ?_
        refine tn_iadd hx hb dX0_count_49 ?_
        refine lv_istore (lv' := [(7, .int (nI ((0 + 0) + 1))), (6, .int (nI 1)), (5, .int (nI 0)), (4, .int (nI 0)), (0, .ref h), (1, .int s_), (2, .int p_), (3, .int (nI O))]) hx hb dX0_count_50 hl (by decide) rfl (fun ls hl => ?_)
        refine lv_iload hx hb dX0_count_52 (lv_at hl 0 rfl) ?_
        refine lv_iconst (v := nI 3) hx hb dX0_count_54 (by decide) ?_
        refine tn_icmp_ne (tgt := 74) hx hb dX0_count_55 (by decide) (by decide) (by decide) (fun _ => ?_) (fun z => absurd z (by decide))
        refine lv_iload hx hb dX0_count_74 (lv_at hl 0 rfl) ?_
        refine lv_iconst (v := nI 2) hx hb dX0_count_76 (by decide) ?_
        refine tn_icmp_ne (tgt := 133) hx hb dX0_count_77 (by decide) (by decide) (by decide) (fun _ => ?_) (fun z => absurd z (by decide))
        refine lv_iload hx hb dX0_count_133 (lv_at hl 0 rfl) ?_
        refine lv_iconst (v := nI 1) hx hb dX0_count_135 (by decide) ?_
        refine tn_icmp_ne (tgt := 180) hx hb dX0_count_136 (by decide) (by decide) (by decide) (fun z => absurd z (by decide)) (fun _ => ?_)
        refine lv_iload hx hb dX0_count_139 (lv_at hl 3 rfl) ?_
        refine tn_if_eq (tgt := 153) hx hb dX0_count_141 (by decide) (by decide) (fun _ => ?_) (fun z => absurd z (by decide))
        refine lv_iload hx hb dX0_count_153 (lv_at hl 2 rfl) ?_
        refine tn_if_eq (tgt := 170) hx hb dX0_count_155 (by decide) (by decide) (fun _ => ?_) (fun z => absurd z (by decide))
        refine lv_aload_n hx hb dX0_count_170 rfl (lv_at hl 4 rfl) ?_
        refine va_get (D := D) (ci := 0) (v := .ref (a 5)) (C := RX0) (T := TX0) (N := 14) hx hb hts in_X0 hown hK hP 0 rfl rfl 5 (by decide) (hts _ q33) (fun _ h9 => h9) rfl dX0_count_171 ?_
        refine lv_bipush (v := nI 16) hx hb dX0_count_174 (by decide) ?_
        refine lv_iload_n hx hb dX0_count_176 rfl (lv_at hl 7 rfl) ?_
        refine tn_iadd hx hb dX0_count_177 ?_
        refine tn_iald hx hb hK hP 5 0 rfl rfl (j := 16 + O) (by omega) (by decide) dX0_count_178 ?_
        exact W.iret (v := si (16 + O)) hx hb hr (fun t ht hW => ⟨_, rfl, (by rw [tC3_w1 F _ _ hs, tC3_w2 F _ _ hp]; exact (hI.2.2.2 O hO8).2.2), ht⟩) (fun _ h9 => nomatch h9) dX0_count_179
      · refine lv_iload_n hx hb dX0_count_0 rfl (lv_at hl 1 rfl) ?_
        refine vp_callSi (W.runS (As := [.int s_]) (rest := []) ⟨hx, hb, hml, hown, hts⟩ (m_isPart l s_) (va_cwS 1 hts (lw_S q76 q77 q18 q78) rfl rfl rfl (by decide +kernel) ⟨Nat.le_of_ble_eq_true rfl, Nat.le_of_ble_eq_true rfl⟩) pS_pre rfl rfl hl.1 rfl (lv_room (Nat.le_of_ble_eq_true rfl)) dX0_count_1 ⟨Nat.le_refl _, Nat.le_refl _⟩) (fun r_1 hr_1 => ?_)
        subst hr_1
        refine tn_as (nI 0) (by rw [hs]; rfl) ?_
        refine lv_istore (lv' := [(4, .int (nI 0)), (0, .ref h), (1, .int s_), (2, .int p_), (3, .int o_)]) hx hb dX0_count_4 hl (by decide) rfl (fun ls hl => ?_)
        refine lv_iload_n hx hb dX0_count_6 rfl (lv_at hl 3 rfl) ?_
        refine vp_callSi (W.runS (As := [.int p_]) (rest := []) ⟨hx, hb, hml, hown, hts⟩ (m_isPart l p_) (va_cwS 1 hts (lw_S q76 q77 q18 q78) rfl rfl rfl (by decide +kernel) ⟨Nat.le_of_ble_eq_true rfl, Nat.le_of_ble_eq_true rfl⟩) pS_pre rfl rfl hl.1 rfl (lv_room (Nat.le_of_ble_eq_true rfl)) dX0_count_7 ⟨Nat.le_refl _, Nat.le_refl _⟩) (fun r_7 hr_7 => ?_)
        subst hr_7
        refine tn_as (nI 0) (by rw [hp]; rfl) ?_
        refine lv_istore (lv' := [(5, .int (nI 0)), (4, .int (nI 0)), (0, .ref h), (1, .int s_), (2, .int p_), (3, .int o_)]) hx hb dX0_count_10 hl (by decide) rfl (fun ls hl => ?_)
        refine lv_iload_n hx hb dX0_count_12 rfl (lv_at hl 5 rfl) ?_
        refine vp_callSi (W.runS (As := [.int o_]) (rest := []) ⟨hx, hb, hml, hown, hts⟩ (m_isPart l o_) (va_cwS 1 hts (lw_S q76 q77 q18 q78) rfl rfl rfl (by decide +kernel) ⟨Nat.le_of_ble_eq_true rfl, Nat.le_of_ble_eq_true rfl⟩) pS_pre rfl rfl hl.1 rfl (lv_room (Nat.le_of_ble_eq_true rfl)) dX0_count_13 ⟨Nat.le_refl _, Nat.le_refl _⟩) (fun r_13 hr_13 => ?_)
        subst hr_13
        refine tn_as (nI 0) (by rw [ho]; rfl) ?_
        refine lv_istore (lv' := [(6, .int (nI 0)), (5, .int (nI 0)), (4, .int (nI 0)), (0, .ref h), (1, .int s_), (2, .int p_), (3, .int o_)]) hx hb dX0_count_16 hl (by decide) rfl (fun ls hl => ?_)
        refine lv_iload hx hb dX0_count_18 (lv_at hl 2 rfl) ?_
        refine tn_if_eq (tgt := 27) hx hb dX0_count_20 (by decide) (by decide) (fun _ => ?_) (fun z => absurd z (by decide))
        refine lv_iconst (v := nI 0) hx hb dX0_count_27 (by decide) ?_
        refine lv_iload hx hb dX0_count_28 (lv_at hl 1 rfl) ?_
        refine tn_if_eq (tgt := 37) hx hb dX0_count_30 (by decide) (by decide) (fun _ => ?_) (fun z => absurd z (by decide))
        refine lv_iconst (v := nI 0) hx hb dX0_count_37 (by decide) ?_
        refine tn_iadd hx hb dX0_count_38 ?_
        refine lv_iload hx hb dX0_count_39 (lv_at hl 0 rfl) ?_
        refine tn_if_eq (tgt := 48) hx hb dX0_count_41 (by decide) (by decide) (fun _ => ?_) (fun z => absurd z (by decide))
        refine lv_iconst (v := nI 0) hx hb dX0_count_48 (by decide) ?_
        refine tn_iadd hx hb dX0_count_49 ?_
        refine lv_istore (lv' := [(7, .int (nI ((0 + 0) + 0))), (6, .int (nI 0)), (5, .int (nI 0)), (4, .int (nI 0)), (0, .ref h), (1, .int s_), (2, .int p_), (3, .int o_)]) hx hb dX0_count_50 hl (by decide) rfl (fun ls hl => ?_)
        refine lv_iload hx hb dX0_count_52 (lv_at hl 0 rfl) ?_
        refine lv_iconst (v := nI 3) hx hb dX0_count_54 (by decide) ?_
        refine tn_icmp_ne (tgt := 74) hx hb dX0_count_55 (by decide) (by decide) (by decide) (fun _ => ?_) (fun z => absurd z (by decide))
        refine lv_iload hx hb dX0_count_74 (lv_at hl 0 rfl) ?_
        refine lv_iconst (v := nI 2) hx hb dX0_count_76 (by decide) ?_
        refine tn_icmp_ne (tgt := 133) hx hb dX0_count_77 (by decide) (by decide) (by decide) (fun _ => ?_) (fun z => absurd z (by decide))
        refine lv_iload hx hb dX0_count_133 (lv_at hl 0 rfl) ?_
        refine lv_iconst (v := nI 1) hx hb dX0_count_135 (by decide) ?_
        refine tn_icmp_ne (tgt := 180) hx hb dX0_count_136 (by decide) (by decide) (by decide) (fun _ => ?_) (fun z => absurd z (by decide))
        refine lv_aload_n hx hb dX0_count_180 rfl (lv_at hl 4 rfl) ?_
        refine va_get (D := D) (ci := 0) (v := .int he) (C := RX0) (T := TX0) (N := 14) hx hb hts in_X0 hown hK hP 0 rfl rfl 0 (by decide) (hts _ q28) (fun _ h9 => h9) rfl dX0_count_181 ?_
        exact W.iret (v := he) hx hb hr (fun t ht hW => ⟨_, rfl, (by rw [tC3_w1 F _ _ hs, tC3_w2 F _ _ hp, tC3_w3 F _ _ ho]; exact hI.1), ht⟩) (fun _ h9 => nomatch h9) dX0_count_184

set_option maxHeartbeats 1000000 in
set_option maxRecDepth 100000 in
/-- allowedTwice -/
theorem m_allowedTwice {l : Launch} {D : va_G} {d z : ClassId} {h : Nat} {a : Nat → Nat} {he : Int32} {ob pr su go si : Nat → Int32} {N : Nat} {pl : Nat → Int32} {nv : Int32} {vr bo ca vc : Nat → Int32} {sc : Int32} {F : Nat → Bool} (hI : tTI F he ob pr su go si) (s_ p_ o_ : Int32) (V A : Nat) (hV : V < 4) (hA : A + 2 < 12) : Met l yX0_allowedTwice (ws_ yX0_allowedTwice cX0_allowedTwice 9 (some .int)) (rm_ 3 49) (pJ D d z (wJ h a d he ob pr su go si (nI N) pl nv vr bo ca vc sc) [.ref h, .int s_, .int p_, .int o_, .int (nI V), .int (nI A)]) (vp_Si (fun r_ => r_ = nI (tmk (tab F pl V s_ p_ o_ A) 8))) 0 0 (fun _ => False) := by
  refine Met.ofW (cc := cX0_allowedTwice) (maxL := 9) (ret := (some .int)) (by decide) rfl ?_
  intro p e s m args below meth c s₁ B hml hv
  obtain ⟨rfl, hP, hK, hD⟩ := hv
  have hx := B.exec
  have hb := B.bytes
  have hr := B.returns
  have hts := atoms_spec (ws := (ws_ yX0_allowedTwice cX0_allowedTwice 9 (some .int))) B.pre
  have hts : ∀ w ∈ lw_all, w.before _ s = true := fun w h => hts w (List.mem_cons_of_mem _ h)
  have hown : s.vm.findClass RX0 = some m.cls := findClass_of_methodNamed B.named
  have hlocks := B.notSynchronized
  have hl := lv_entry ([.ref h, .int s_, .int p_, .int o_, .int (nI V), .int (nI A)]) (n := 9) (Nat.le_of_ble_eq_true rfl)
  rw [lg_entry_eq]
  generalize (lg_sl ([.ref h, .int s_, .int p_, .int o_, .int (nI V), .int (nI A)]) ++ List.replicate (9 - (lg_sl ([.ref h, .int s_, .int p_, .int o_, .int (nI V), .int (nI A)])).length) Slot.unset).toArray = ls at hl ⊢
  have hl : lv_has ls 9 [(0, .ref h), (1, .int s_), (2, .int p_), (3, .int o_), (4, .int (nI V)), (5, .int (nI A))] := hl
  refine lv_iconst (v := nI 0) hx hb dX0_allowedTwice_0 (by decide) ?_
  refine lv_istore (lv' := [(6, .int (nI 0)), (0, .ref h), (1, .int s_), (2, .int p_), (3, .int o_), (4, .int (nI V)), (5, .int (nI A))]) hx hb dX0_allowedTwice_1 hl (by decide) rfl (fun ls hl => ?_)
  refine lv_iconst (v := nI 0) hx hb dX0_allowedTwice_3 (by decide) ?_
  refine lv_istore (lv' := [(7, .int (nI 0)), (6, .int (nI 0)), (0, .ref h), (1, .int s_), (2, .int p_), (3, .int o_), (4, .int (nI V)), (5, .int (nI A))]) hx hb dX0_allowedTwice_4 hl (by decide) rfl (fun ls hl => ?_)
  refine tn_for (fun j ls => lv_has ls 9 [(7, .int (nI j)), (6, .int (nI (tmk (tab F pl V s_ p_ o_ A) j))), (0, .ref h), (1, .int s_), (2, .int p_), (3, .int o_), (4, .int (nI V)), (5, .int (nI A))]) 8 0 (by decide) (lv_sub hl [0, 1, 2, 3, 4, 5, 6, 7] rfl) (fun j ls hj hJ ih => ?_) (fun ls hJ => ?_)
  · have hl := hJ
    refine lv_iload hx hb dX0_allowedTwice_6 (lv_at hl 0 rfl) ?_
    refine lv_bipush (v := nI 8) hx hb dX0_allowedTwice_8 (by decide) ?_
    refine tn_icmp_ge (tgt := 107) hx hb dX0_allowedTwice_10 (by decide) (by omega) (by decide) (fun z => absurd z (by omega)) (fun _ => ?_)
    refine lv_aload_n hx hb dX0_allowedTwice_13 rfl (lv_at hl 2 rfl) ?_
    refine tn_cut 34 [.ref h] (fun y => y = tsb pl V j s_ A) (fun y hy => ?_) (fun kk => ?_)
    · subst hy
      refine tn_cut 56 [.int (tsb pl V j s_ A), .ref h] (fun y => y = tsb pl V j p_ (A + 1)) (fun y hy => ?_) (fun kk => ?_)
      · subst hy
        refine tn_cut 78 [.int (tsb pl V j p_ (A + 1)), .int (tsb pl V j s_ A), .ref h] (fun y => y = tsb pl V j o_ (A + 2)) (fun y hy => ?_) (fun kk => ?_)
        · subst hy
          refine vp_callSi (W.runV (As := [.int (tsb pl V j s_ A), .int (tsb pl V j p_ (A + 1)), .int (tsb pl V j o_ (A + 2))]) (rest := []) ⟨hx, hb, hml, hown, hts⟩ (m_count hI _ _ _) (cwV 3 hts (lw_V q131 q132 q133 q18 q134) rfl rfl rfl (by decide +kernel) ⟨Nat.le_of_ble_eq_true rfl, Nat.le_of_ble_eq_true rfl⟩) (pJ_preJ hK hP hD rfl) rfl rfl hl.1 rfl (lv_room (Nat.le_of_ble_eq_true rfl)) dX0_allowedTwice_78 ⟨Nat.le_refl _, Nat.le_refl _⟩) (fun r_78 hr_78 => ?_)
          subst hr_78
          refine lv_istore (lv' := [(8, .int (nI (tC3 F (tsb pl V j s_ A) (tsb pl V j p_ (A + 1)) (tsb pl V j o_ (A + 2))))), (7, .int (nI j)), (6, .int (nI (tmk (tab F pl V s_ p_ o_ A) j))), (0, .ref h), (1, .int s_), (2, .int p_), (3, .int o_), (4, .int (nI V)), (5, .int (nI A))]) hx hb dX0_allowedTwice_81 hl (by decide) rfl (fun ls hl => ?_)
          refine lv_iload hx hb dX0_allowedTwice_83 (lv_at hl 2 rfl) ?_
          refine lv_iload hx hb dX0_allowedTwice_85 (lv_at hl 0 rfl) ?_
          refine tn_if_le (tgt := 97) hx hb dX0_allowedTwice_87 (by decide) (tC3_lt _ _ _ _) (fun c_87 => ?_) (fun c_87 => ?_)
          · refine lv_iconst (v := nI 0) hx hb dX0_allowedTwice_97 (by decide) ?_
            refine lv_ior hx hb dX0_allowedTwice_98 ?_
            refine tn_as (nI (tmk (tab F pl V s_ p_ o_ A) (j + 1))) (tmk_s0 (decide_eq_false (by omega))) ?_
            refine lv_istore (lv' := [(6, .int (nI (tmk (tab F pl V s_ p_ o_ A) (j + 1)))), (8, .int (nI (tC3 F (tsb pl V j s_ A) (tsb pl V j p_ (A + 1)) (tsb pl V j o_ (A + 2))))), (7, .int (nI j)), (0, .ref h), (1, .int s_), (2, .int p_), (3, .int o_), (4, .int (nI V)), (5, .int (nI A))]) hx hb dX0_allowedTwice_99 hl (by decide) rfl (fun ls hl => ?_)
            refine lv_iinc (v := nI (j + 1)) (lv' := [(7, .int (nI (j + 1))), (6, .int (nI (tmk (tab F pl V s_ p_ o_ A) (j + 1)))), (8, .int (nI (tC3 F (tsb pl V j s_ A) (tsb pl V j p_ (A + 1)) (tsb pl V j o_ (A + 2))))), (0, .ref h), (1, .int s_), (2, .int p_), (3, .int o_), (4, .int (nI V)), (5, .int (nI A))]) hx hb dX0_allowedTwice_101 hl (k := 2) rfl (nI_1 _) (by decide) rfl (fun ls hl => ?_)
            refine lv_goto (tgt := 6) hx hb dX0_allowedTwice_104 (by decide) ?_
            exact ih _ (lv_sub hl [0, 1, 3, 4, 5, 6, 7, 8] rfl)
          · refine lv_iconst (v := nI 1) hx hb dX0_allowedTwice_90 (by decide) ?_
            refine lv_iload hx hb dX0_allowedTwice_91 (lv_at hl 1 rfl) ?_
            refine lv_ishl hx hb dX0_allowedTwice_93 ?_
            refine lv_goto (tgt := 98) hx hb dX0_allowedTwice_94 (by decide) ?_
            refine lv_ior hx hb dX0_allowedTwice_98 ?_
            refine tn_as (nI (tmk (tab F pl V s_ p_ o_ A) (j + 1))) (tmk_s1 hj (decide_eq_true c_87)) ?_
            refine lv_istore (lv' := [(6, .int (nI (tmk (tab F pl V s_ p_ o_ A) (j + 1)))), (8, .int (nI (tC3 F (tsb pl V j s_ A) (tsb pl V j p_ (A + 1)) (tsb pl V j o_ (A + 2))))), (7, .int (nI j)), (0, .ref h), (1, .int s_), (2, .int p_), (3, .int o_), (4, .int (nI V)), (5, .int (nI A))]) hx hb dX0_allowedTwice_99 hl (by decide) rfl (fun ls hl => ?_)
            refine lv_iinc (v := nI (j + 1)) (lv' := [(7, .int (nI (j + 1))), (6, .int (nI (tmk (tab F pl V s_ p_ o_ A) (j + 1)))), (8, .int (nI (tC3 F (tsb pl V j s_ A) (tsb pl V j p_ (A + 1)) (tsb pl V j o_ (A + 2))))), (0, .ref h), (1, .int s_), (2, .int p_), (3, .int o_), (4, .int (nI V)), (5, .int (nI A))]) hx hb dX0_allowedTwice_101 hl (k := 2) rfl (nI_1 _) (by decide) rfl (fun ls hl => ?_)
            refine lv_goto (tgt := 6) hx hb dX0_allowedTwice_104 (by decide) ?_
            exact ih _ (lv_sub hl [0, 1, 3, 4, 5, 6, 7, 8] rfl)
        · refine lv_aload_n hx hb dX0_allowedTwice_56 rfl (lv_at hl 2 rfl) ?_
          refine va_get (D := D) (ci := 0) (v := .ref (a 7)) (C := RX0) (T := TX0) (N := 14) hx hb hts in_X0 hown hK hP 0 rfl rfl 7 (by decide) (hts _ q35) (fun _ h9 => h9) rfl dX0_allowedTwice_57 ?_
          refine lv_iload hx hb dX0_allowedTwice_60 (lv_at hl 7 rfl) ?_
          refine lv_iconst (v := nI 2) hx hb dX0_allowedTwice_62 (by decide) ?_
          refine tn_iadd hx hb dX0_allowedTwice_63 ?_
          refine tn_iald hx hb hK hP 6 0 rfl rfl (j := A + 2) (by omega) (by decide) dX0_allowedTwice_64 ?_
          refine lv_iconst (v := (-1)) hx hb dX0_allowedTwice_65 (by decide) ?_
          refine lv_iload hx hb dX0_allowedTwice_66 (lv_at hl 6 rfl) ?_
          refine lv_isub hx hb dX0_allowedTwice_68 ?_
          refine lv_icmp_ne (tgt := 77) hx hb dX0_allowedTwice_69 (by decide) (fun c_69 => ?_) (fun c_69 => ?_)
          · refine lv_iload_n hx hb dX0_allowedTwice_77 rfl (lv_at hl 5 rfl) ?_
            exact kk _ (if_neg c_69).symm
          · refine lv_iload hx hb dX0_allowedTwice_72 (lv_at hl 0 rfl) ?_
            refine lv_goto (tgt := 78) hx hb dX0_allowedTwice_74 (by decide) ?_
            exact kk _ (if_pos c_69).symm
      · refine lv_aload_n hx hb dX0_allowedTwice_34 rfl (lv_at hl 2 rfl) ?_
        refine va_get (D := D) (ci := 0) (v := .ref (a 7)) (C := RX0) (T := TX0) (N := 14) hx hb hts in_X0 hown hK hP 0 rfl rfl 7 (by decide) (hts _ q35) (fun _ h9 => h9) rfl dX0_allowedTwice_35 ?_
        refine lv_iload hx hb dX0_allowedTwice_38 (lv_at hl 7 rfl) ?_
        refine lv_iconst (v := nI 1) hx hb dX0_allowedTwice_40 (by decide) ?_
        refine tn_iadd hx hb dX0_allowedTwice_41 ?_
        refine tn_iald hx hb hK hP 6 0 rfl rfl (j := A + 1) (by omega) (by decide) dX0_allowedTwice_42 ?_
        refine lv_iconst (v := (-1)) hx hb dX0_allowedTwice_43 (by decide) ?_
        refine lv_iload hx hb dX0_allowedTwice_44 (lv_at hl 6 rfl) ?_
        refine lv_isub hx hb dX0_allowedTwice_46 ?_
        refine lv_icmp_ne (tgt := 55) hx hb dX0_allowedTwice_47 (by decide) (fun c_47 => ?_) (fun c_47 => ?_)
        · refine lv_iload_n hx hb dX0_allowedTwice_55 rfl (lv_at hl 4 rfl) ?_
          exact kk _ (if_neg c_47).symm
        · refine lv_iload hx hb dX0_allowedTwice_50 (lv_at hl 0 rfl) ?_
          refine lv_goto (tgt := 56) hx hb dX0_allowedTwice_52 (by decide) ?_
          exact kk _ (if_pos c_47).symm
    · refine lv_aload_n hx hb dX0_allowedTwice_14 rfl (lv_at hl 2 rfl) ?_
      refine va_get (D := D) (ci := 0) (v := .ref (a 7)) (C := RX0) (T := TX0) (N := 14) hx hb hts in_X0 hown hK hP 0 rfl rfl 7 (by decide) (hts _ q35) (fun _ h9 => h9) rfl dX0_allowedTwice_15 ?_
      refine lv_iload hx hb dX0_allowedTwice_18 (lv_at hl 7 rfl) ?_
      refine tn_iald hx hb hK hP 6 0 rfl rfl (j := A) (by omega) (by decide) dX0_allowedTwice_20 ?_
      refine lv_iconst (v := (-1)) hx hb dX0_allowedTwice_21 (by decide) ?_
      refine lv_iload hx hb dX0_allowedTwice_22 (lv_at hl 6 rfl) ?_
      refine lv_isub hx hb dX0_allowedTwice_24 ?_
      refine lv_icmp_ne (tgt := 33) hx hb dX0_allowedTwice_25 (by decide) (fun c_25 => ?_) (fun c_25 => ?_)
      · refine lv_iload_n hx hb dX0_allowedTwice_33 rfl (lv_at hl 3 rfl) ?_
        exact kk _ (if_neg c_25).symm
      · refine lv_iload hx hb dX0_allowedTwice_28 (lv_at hl 0 rfl) ?_
        refine lv_goto (tgt := 34) hx hb dX0_allowedTwice_30 (by decide) ?_
        exact kk _ (if_pos c_25).symm
  · have hl := hJ
    refine lv_iload hx hb dX0_allowedTwice_6 (lv_at hl 0 rfl) ?_
    refine lv_bipush (v := nI 8) hx hb dX0_allowedTwice_8 (by decide) ?_
    refine tn_icmp_ge (tgt := 107) hx hb dX0_allowedTwice_10 (by decide) (by decide) (by decide) (fun _ => ?_) (fun z => absurd z (by decide))
    refine lv_iload hx hb dX0_allowedTwice_107 (lv_at hl 1 rfl) ?_
    exact W.iret (v := nI (tmk (tab F pl V s_ p_ o_ A) 8)) hx hb hr (fun t ht hW => ⟨_, rfl, rfl, ht⟩) (fun _ h9 => nomatch h9) dX0_allowedTwice_109

set_option maxHeartbeats 1000000 in
set_option maxRecDepth 100000 in
/-- groundHolds -/
theorem m_groundHolds {l : Launch} {D : va_G} {d z : ClassId} {h : Nat} {a : Nat → Nat} {he : Int32} {ob pr su go si : Nat → Int32} {N : Nat} {pl : Nat → Int32} {nv : Int32} {vr bo ca vc : Nat → Int32} {sc : Int32} {F : Nat → Bool} (hI : tTI F he ob pr su go si) (hN : N ≤ 4) (hpl : ∀ j, j < 3 * N → tok (pl j)) : Met l yX0_groundHolds (ws_ yX0_groundHolds cX0_groundHolds 3 (some .boolean)) (rm_ 1 0) (pJ D d z (wJ h a d he ob pr su go si (nI N) pl nv vr bo ca vc sc) [.ref h]) (vp_Si (fun r_ => r_ = nI (tb (tgh F pl N)))) 0 0 (fun _ => False) := by
  refine Met.ofW (cc := cX0_groundHolds) (maxL := 3) (ret := (some .boolean)) (by decide) rfl ?_
  intro p e s m args below meth c s₁ B hml hv
  obtain ⟨rfl, hP, hK, hD⟩ := hv
  have hx := B.exec
  have hb := B.bytes
  have hr := B.returns
  have hts := atoms_spec (ws := (ws_ yX0_groundHolds cX0_groundHolds 3 (some .boolean))) B.pre
  have hts : ∀ w ∈ lw_all, w.before _ s = true := fun w h => hts w (List.mem_cons_of_mem _ h)
  have hown : s.vm.findClass RX0 = some m.cls := findClass_of_methodNamed B.named
  have hlocks := B.notSynchronized
  have hl := lv_entry ([.ref h]) (n := 3) (Nat.le_of_ble_eq_true rfl)
  rw [lg_entry_eq]
  generalize (lg_sl ([.ref h]) ++ List.replicate (3 - (lg_sl ([.ref h])).length) Slot.unset).toArray = ls at hl ⊢
  have hl : lv_has ls 3 [(0, .ref h)] := hl
  refine lv_iconst (v := nI 0) hx hb dX0_groundHolds_0 (by decide) ?_
  refine lv_istore_n (lv' := [(1, .int (nI 0)), (0, .ref h)]) hx hb dX0_groundHolds_1 rfl hl (by decide) rfl (fun ls hl => ?_)
  refine tn_for (fun k ls => lv_has ls 3 [(1, .int (nI k)), (0, .ref h)] ∧ tgh F pl k = true) N 0 (by omega) ⟨lv_sub hl [0, 1] rfl, rfl⟩ (fun k ls hk hJ ih => ?_) (fun ls hJ => ?_)
  · obtain ⟨hl, hE⟩ := hJ
    refine lv_iload_n hx hb dX0_groundHolds_2 rfl (lv_at hl 0 rfl) ?_
    refine lv_aload_n hx hb dX0_groundHolds_3 rfl (lv_at hl 1 rfl) ?_
    refine va_get (D := D) (ci := 0) (v := .int (nI N)) (C := RX0) (T := TX0) (N := 14) hx hb hts in_X0 hown hK hP 0 rfl rfl 6 (by decide) (hts _ q34) (fun _ h9 => h9) rfl dX0_groundHolds_4 ?_
    refine tn_icmp_ge (tgt := 108) hx hb dX0_groundHolds_7 (by decide) (by omega) (by omega) (fun z => absurd z (by omega)) (fun _ => ?_)
    refine lv_aload_n hx hb dX0_groundHolds_10 rfl (lv_at hl 1 rfl) ?_
    refine va_get (D := D) (ci := 0) (v := .ref (a 7)) (C := RX0) (T := TX0) (N := 14) hx hb hts in_X0 hown hK hP 0 rfl rfl 7 (by decide) (hts _ q35) (fun _ h9 => h9) rfl dX0_groundHolds_11 ?_
    refine lv_iconst (v := nI 3) hx hb dX0_groundHolds_14 (by decide) ?_
    refine lv_iload_n hx hb dX0_groundHolds_15 rfl (lv_at hl 0 rfl) ?_
    refine tn_imul hx hb dX0_groundHolds_16 ?_
    refine tn_iald hx hb hK hP 6 0 rfl rfl (j := 3 * k) (by omega) (by decide) dX0_groundHolds_17 ?_
    refine lv_if_lt (tgt := 51) hx hb dX0_groundHolds_18 (by decide) (fun c_18 => ?_) (fun c_18 => ?_)
    · refine lv_iconst (v := nI 0) hx hb dX0_groundHolds_51 (by decide) ?_
      refine lv_istore_n (lv' := [(2, .int (nI 0)), (1, .int (nI k)), (0, .ref h)]) hx hb dX0_groundHolds_52 rfl hl (by decide) rfl (fun ls hl => ?_)
      refine lv_iload_n hx hb dX0_groundHolds_53 rfl (lv_at hl 0 rfl) ?_
      refine tn_if_eq (tgt := 102) hx hb dX0_groundHolds_54 (by decide) (by decide) (fun _ => ?_) (fun z => absurd z (by decide))
      refine lv_iinc (v := nI (k + 1)) (lv' := [(1, .int (nI (k + 1))), (2, .int (nI 0)), (0, .ref h)]) hx hb dX0_groundHolds_102 hl (k := 1) rfl (nI_1 _) (by decide) rfl (fun ls hl => ?_)
      refine lv_goto (tgt := 2) hx hb dX0_groundHolds_105 (by decide) ?_
      exact ih _ ⟨lv_sub hl [0, 2] rfl, (by show (tgh F pl k && (!tgr pl k || _)) = true; rw [hE, show tgr pl k = false by unfold tgr; rw [decide_eq_false (p := 0 ≤ pl (3 * k)) (Int32.not_le.mpr c_18)]; simp]; rfl)⟩
    · refine lv_aload_n hx hb dX0_groundHolds_21 rfl (lv_at hl 1 rfl) ?_
      refine va_get (D := D) (ci := 0) (v := .ref (a 7)) (C := RX0) (T := TX0) (N := 14) hx hb hts in_X0 hown hK hP 0 rfl rfl 7 (by decide) (hts _ q35) (fun _ h9 => h9) rfl dX0_groundHolds_22 ?_
      refine lv_iconst (v := nI 3) hx hb dX0_groundHolds_25 (by decide) ?_
      refine lv_iload_n hx hb dX0_groundHolds_26 rfl (lv_at hl 0 rfl) ?_
      refine tn_imul hx hb dX0_groundHolds_27 ?_
      refine lv_iconst (v := nI 1) hx hb dX0_groundHolds_28 (by decide) ?_
      refine tn_iadd hx hb dX0_groundHolds_29 ?_
      refine tn_iald hx hb hK hP 6 0 rfl rfl (j := (3 * k) + 1) (by omega) (by decide) dX0_groundHolds_30 ?_
      refine lv_if_lt (tgt := 51) hx hb dX0_groundHolds_31 (by decide) (fun c_31 => ?_) (fun c_31 => ?_)
      · refine lv_iconst (v := nI 0) hx hb dX0_groundHolds_51 (by decide) ?_
        refine lv_istore_n (lv' := [(2, .int (nI 0)), (1, .int (nI k)), (0, .ref h)]) hx hb dX0_groundHolds_52 rfl hl (by decide) rfl (fun ls hl => ?_)
        refine lv_iload_n hx hb dX0_groundHolds_53 rfl (lv_at hl 0 rfl) ?_
        refine tn_if_eq (tgt := 102) hx hb dX0_groundHolds_54 (by decide) (by decide) (fun _ => ?_) (fun z => absurd z (by decide))
        refine lv_iinc (v := nI (k + 1)) (lv' := [(1, .int (nI (k + 1))), (2, .int (nI 0)), (0, .ref h)]) hx hb dX0_groundHolds_102 hl (k := 1) rfl (nI_1 _) (by decide) rfl (fun ls hl => ?_)
        refine lv_goto (tgt := 2) hx hb dX0_groundHolds_105 (by decide) ?_
        exact ih _ ⟨lv_sub hl [0, 2] rfl, (by show (tgh F pl k && (!tgr pl k || _)) = true; rw [hE, show tgr pl k = false by unfold tgr; rw [decide_eq_false (p := 0 ≤ pl (3 * k + 1)) (Int32.not_le.mpr c_31)]; simp]; rfl)⟩
      · refine lv_aload_n hx hb dX0_groundHolds_34 rfl (lv_at hl 1 rfl) ?_
        refine va_get (D := D) (ci := 0) (v := .ref (a 7)) (C := RX0) (T := TX0) (N := 14) hx hb hts in_X0 hown hK hP 0 rfl rfl 7 (by decide) (hts _ q35) (fun _ h9 => h9) rfl dX0_groundHolds_35 ?_
        refine lv_iconst (v := nI 3) hx hb dX0_groundHolds_38 (by decide) ?_
        refine lv_iload_n hx hb dX0_groundHolds_39 rfl (lv_at hl 0 rfl) ?_
        refine tn_imul hx hb dX0_groundHolds_40 ?_
        refine lv_iconst (v := nI 2) hx hb dX0_groundHolds_41 (by decide) ?_
        refine tn_iadd hx hb dX0_groundHolds_42 ?_
        refine tn_iald hx hb hK hP 6 0 rfl rfl (j := (3 * k) + 2) (by omega) (by decide) dX0_groundHolds_43 ?_
        refine lv_if_lt (tgt := 51) hx hb dX0_groundHolds_44 (by decide) (fun c_44 => ?_) (fun c_44 => ?_)
        · refine lv_iconst (v := nI 0) hx hb dX0_groundHolds_51 (by decide) ?_
          refine lv_istore_n (lv' := [(2, .int (nI 0)), (1, .int (nI k)), (0, .ref h)]) hx hb dX0_groundHolds_52 rfl hl (by decide) rfl (fun ls hl => ?_)
          refine lv_iload_n hx hb dX0_groundHolds_53 rfl (lv_at hl 0 rfl) ?_
          refine tn_if_eq (tgt := 102) hx hb dX0_groundHolds_54 (by decide) (by decide) (fun _ => ?_) (fun z => absurd z (by decide))
          refine lv_iinc (v := nI (k + 1)) (lv' := [(1, .int (nI (k + 1))), (2, .int (nI 0)), (0, .ref h)]) hx hb dX0_groundHolds_102 hl (k := 1) rfl (nI_1 _) (by decide) rfl (fun ls hl => ?_)
          refine lv_goto (tgt := 2) hx hb dX0_groundHolds_105 (by decide) ?_
          exact ih _ ⟨lv_sub hl [0, 2] rfl, (by show (tgh F pl k && (!tgr pl k || _)) = true; rw [hE, show tgr pl k = false by unfold tgr; rw [decide_eq_false (p := 0 ≤ pl (3 * k + 2)) (Int32.not_le.mpr c_44)]; simp]; rfl)⟩
        · obtain ⟨S, hS8, eS⟩ := tok_p (hpl _ (by omega)) c_18
          obtain ⟨P, hP8, eP⟩ := tok_p (hpl _ (by omega)) c_31
          obtain ⟨O, hO8, eO⟩ := tok_p (hpl _ (by omega)) c_44
          refine lv_iconst (v := nI 1) hx hb dX0_groundHolds_47 (by decide) ?_
          refine lv_goto (tgt := 52) hx hb dX0_groundHolds_48 (by decide) ?_
          refine lv_istore_n (lv' := [(2, .int (nI 1)), (1, .int (nI k)), (0, .ref h)]) hx hb dX0_groundHolds_52 rfl hl (by decide) rfl (fun ls hl => ?_)
          refine lv_iload_n hx hb dX0_groundHolds_53 rfl (lv_at hl 0 rfl) ?_
          refine tn_if_eq (tgt := 102) hx hb dX0_groundHolds_54 (by decide) (by decide) (fun z => absurd z (by decide)) (fun _ => ?_)
          refine lv_aload_n hx hb dX0_groundHolds_57 rfl (lv_at hl 2 rfl) ?_
          refine va_get (D := D) (ci := 0) (v := .ref (a 1)) (C := RX0) (T := TX0) (N := 14) hx hb hts in_X0 hown hK hP 0 rfl rfl 1 (by decide) (hts _ q29) (fun _ h9 => h9) rfl dX0_groundHolds_58 ?_
          refine lv_bipush (v := nI 8) hx hb dX0_groundHolds_61 (by decide) ?_
          refine lv_aload_n hx hb dX0_groundHolds_63 rfl (lv_at hl 2 rfl) ?_
          refine va_get (D := D) (ci := 0) (v := .ref (a 7)) (C := RX0) (T := TX0) (N := 14) hx hb hts in_X0 hown hK hP 0 rfl rfl 7 (by decide) (hts _ q35) (fun _ h9 => h9) rfl dX0_groundHolds_64 ?_
          refine lv_iconst (v := nI 3) hx hb dX0_groundHolds_67 (by decide) ?_
          refine lv_iload_n hx hb dX0_groundHolds_68 rfl (lv_at hl 1 rfl) ?_
          refine tn_imul hx hb dX0_groundHolds_69 ?_
          refine tn_iald hx hb hK hP 6 0 rfl rfl (j := 3 * k) (by omega) (by decide) dX0_groundHolds_70 ?_
          refine tn_as (nI S) eS ?_
          refine tn_imul hx hb dX0_groundHolds_71 ?_
          refine lv_aload_n hx hb dX0_groundHolds_72 rfl (lv_at hl 2 rfl) ?_
          refine va_get (D := D) (ci := 0) (v := .ref (a 7)) (C := RX0) (T := TX0) (N := 14) hx hb hts in_X0 hown hK hP 0 rfl rfl 7 (by decide) (hts _ q35) (fun _ h9 => h9) rfl dX0_groundHolds_73 ?_
          refine lv_iconst (v := nI 3) hx hb dX0_groundHolds_76 (by decide) ?_
          refine lv_iload_n hx hb dX0_groundHolds_77 rfl (lv_at hl 1 rfl) ?_
          refine tn_imul hx hb dX0_groundHolds_78 ?_
          refine lv_iconst (v := nI 1) hx hb dX0_groundHolds_79 (by decide) ?_
          refine tn_iadd hx hb dX0_groundHolds_80 ?_
          refine tn_iald hx hb hK hP 6 0 rfl rfl (j := (3 * k) + 1) (by omega) (by decide) dX0_groundHolds_81 ?_
          refine tn_as (nI P) eP ?_
          refine tn_iadd hx hb dX0_groundHolds_82 ?_
          refine tn_iald hx hb hK hP 1 0 rfl rfl (j := (8 * S) + P) (by omega) (by decide) dX0_groundHolds_83 ?_
          refine lv_aload_n hx hb dX0_groundHolds_84 rfl (lv_at hl 2 rfl) ?_
          refine va_get (D := D) (ci := 0) (v := .ref (a 7)) (C := RX0) (T := TX0) (N := 14) hx hb hts in_X0 hown hK hP 0 rfl rfl 7 (by decide) (hts _ q35) (fun _ h9 => h9) rfl dX0_groundHolds_85 ?_
          refine lv_iconst (v := nI 3) hx hb dX0_groundHolds_88 (by decide) ?_
          refine lv_iload_n hx hb dX0_groundHolds_89 rfl (lv_at hl 1 rfl) ?_
          refine tn_imul hx hb dX0_groundHolds_90 ?_
          refine lv_iconst (v := nI 2) hx hb dX0_groundHolds_91 (by decide) ?_
          refine tn_iadd hx hb dX0_groundHolds_92 ?_
          refine tn_iald hx hb hK hP 6 0 rfl rfl (j := (3 * k) + 2) (by omega) (by decide) dX0_groundHolds_93 ?_
          refine tn_as (nI O) eO ?_
          refine lv_iushr hx hb dX0_groundHolds_94 rfl ?_
          refine lv_iconst (v := nI 1) hx hb dX0_groundHolds_95 (by decide) ?_
          refine lv_iand hx hb dX0_groundHolds_96 ?_
          refine tn_as (nI (tb (F (64 * S + 8 * P + O)))) (t_bitf (hI.2.1 S P hS8 hP8).1 hO8) ?_
          refine tn_if_ne (tgt := 102) hx hb dX0_groundHolds_97 (by decide) (tb_lt _) (fun c_97 => ?_) (fun c_97 => ?_)
          · refine lv_iinc (v := nI (k + 1)) (lv' := [(1, .int (nI (k + 1))), (2, .int (nI 1)), (0, .ref h)]) hx hb dX0_groundHolds_102 hl (k := 1) rfl (nI_1 _) (by decide) rfl (fun ls hl => ?_)
            refine lv_goto (tgt := 2) hx hb dX0_groundHolds_105 (by decide) ?_
            exact ih _ ⟨lv_sub hl [0, 2] rfl, (by show (tgh F pl k && (!tgr pl k || _)) = true; rw [hE, eS, eP, eO, tC3_3 F hS8 hP8 hO8, tb_pos, tb_1 c_97]; simp)⟩
          · refine lv_iconst (v := nI 0) hx hb dX0_groundHolds_100 (by decide) ?_
            exact W.zret (v := nI 0) hx hb hr rfl (fun t ht hW => ⟨_, rfl, (by rw [tgh_f hk (show tgh F pl (k + 1) = false by show (tgh F pl k && (!tgr pl k || _)) = false; rw [hE, show tgr pl k = true by unfold tgr; rw [eS, eP, eO, decide_eq_true (nI_pos' (by omega)), decide_eq_true (nI_pos' (by omega)), decide_eq_true (nI_pos' (by omega))]; rfl, eS, eP, eO, tC3_3 F hS8 hP8 hO8, tb_pos, tb_0 c_97]; rfl)]; rfl), ht⟩) (fun _ h9 => nomatch h9) dX0_groundHolds_101
  · obtain ⟨hl, hE⟩ := hJ
    refine lv_iload_n hx hb dX0_groundHolds_2 rfl (lv_at hl 0 rfl) ?_
    refine lv_aload_n hx hb dX0_groundHolds_3 rfl (lv_at hl 1 rfl) ?_
    refine va_get (D := D) (ci := 0) (v := .int (nI N)) (C := RX0) (T := TX0) (N := 14) hx hb hts in_X0 hown hK hP 0 rfl rfl 6 (by decide) (hts _ q34) (fun _ h9 => h9) rfl dX0_groundHolds_4 ?_
    refine tn_icmp_ge (tgt := 108) hx hb dX0_groundHolds_7 (by decide) (by omega) (by omega) (fun _ => ?_) (fun z => absurd z (by omega))
    refine lv_iconst (v := nI 1) hx hb dX0_groundHolds_108 (by decide) ?_
    exact W.zret (v := nI 1) hx hb hr rfl (fun t ht hW => ⟨_, rfl, (by rw [hE]; rfl), ht⟩) (fun _ h9 => nomatch h9) dX0_groundHolds_109
end
section
section TBY
variable {F : Nat → Bool} {he : Int32} {ob pr su go si : Nat → Int32} {S P O : Nat}
theorem tsb_t {pl : Nat → Int32} {v x j : Nat} {y : Int32} (h : pl j = -1 - nI v) : tsb pl v x y j = nI x := if_pos h
theorem tsb_f {pl : Nat → Int32} {v x j : Nat} {y : Int32} (h : ¬ pl j = -1 - nI v) : tsb pl v x y j = y := if_neg h
theorem tby_s3 (F : Nat → Bool) (pl : Nat → Int32) (V k : Nat) (e0 : pl (3 * k) = -1 - nI V) (e1 : ¬ pl (3 * k + 1) = -1 - nI V) (e2 : ¬ pl (3 * k + 2) = -1 - nI V) (hP8 : P < 8) (hO8 : O < 8) {s_ z : Int32} (h : z = nI (tmk (fun q => F (64 * q + 8 * P + O)) 8)) : z = nI (tmk (tab F pl V s_ (nI P) (nI O) (3 * k)) 8) := by
  rw [h]
  congr 1
  refine tmk_congr 8 (fun q hq => ?_)
  unfold tab
  rw [tsb_t e0, tsb_f e1, tsb_f e2, tC3_3 F hq hP8 hO8, tb_pos]
theorem tby_s1 (hI : tTI F he ob pr su go si) (pl : Nat → Int32) (V k : Nat) (e0 : pl (3 * k) = -1 - nI V) (e1 : ¬ pl (3 * k + 1) = -1 - nI V) (e2 : ¬ pl (3 * k + 2) = -1 - nI V) (hP8 : P < 8) {s_ : Int32} : nI (tmk (fun q_ => decide (0 < go (64 * 2 + 8 * P + q_))) 8) = nI (tmk (tab F pl V s_ (nI P) (-1) (3 * k)) 8) := by
  congr 1
  refine tmk_congr 8 (fun q hq => ?_)
  unfold tab
  rw [tsb_t e0, tsb_f e1, tsb_f e2]
  exact tn_pos (by rw [show 64 * 2 + 8 * P + q = 128 + 8 * P + q by omega]; exact (hI.2.2.1 P q hP8 hq).2.2.1) (tC3_lt _ _ _ _)
theorem tby_s2 (hI : tTI F he ob pr su go si) (pl : Nat → Int32) (V k : Nat) (e0 : pl (3 * k) = -1 - nI V) (e1 : ¬ pl (3 * k + 1) = -1 - nI V) (e2 : ¬ pl (3 * k + 2) = -1 - nI V) (hO8 : O < 8) {s_ : Int32} : nI (tmk (fun q_ => decide (0 < go (64 * 4 + 8 * O + q_))) 8) = nI (tmk (tab F pl V s_ (-1) (nI O) (3 * k)) 8) := by
  congr 1
  refine tmk_congr 8 (fun q hq => ?_)
  unfold tab
  rw [tsb_t e0, tsb_f e1, tsb_f e2]
  exact tn_pos (by rw [show 64 * 4 + 8 * O + q = 256 + 8 * O + q by omega]; exact (hI.2.2.1 O q hO8 hq).2.2.2.2.1) (tC3_lt _ _ _ _)
theorem tby_s0 (hI : tTI F he ob pr su go si) (pl : Nat → Int32) (V k : Nat) (e0 : pl (3 * k) = -1 - nI V) (e1 : ¬ pl (3 * k + 1) = -1 - nI V) (e2 : ¬ pl (3 * k + 2) = -1 - nI V) {s_ : Int32} : nI (tmk (fun q_ => decide (0 < si (8 * 0 + q_))) 8) = nI (tmk (tab F pl V s_ (-1) (-1) (3 * k)) 8) := by
  congr 1
  refine tmk_congr 8 (fun q hq => ?_)
  unfold tab
  rw [tsb_t e0, tsb_f e1, tsb_f e2]
  exact tn_pos (by rw [show 8 * 0 + q = q by omega]; exact (hI.2.2.2 q hq).1) (tC3_lt _ _ _ _)
theorem tby_p3 (F : Nat → Bool) (pl : Nat → Int32) (V k : Nat) (e0 : ¬ pl (3 * k) = -1 - nI V) (e1 : pl (3 * k + 1) = -1 - nI V) (e2 : ¬ pl (3 * k + 2) = -1 - nI V) (hS8 : S < 8) (hO8 : O < 8) {p_ z : Int32} (h : z = nI (tmk (fun q => F (64 * S + 8 * q + O)) 8)) : z = nI (tmk (tab F pl V (nI S) p_ (nI O) (3 * k)) 8) := by
  rw [h]
  congr 1
  refine tmk_congr 8 (fun q hq => ?_)
  unfold tab
  rw [tsb_f e0, tsb_t e1, tsb_f e2, tC3_3 F hS8 hq hO8, tb_pos]
theorem tby_p1 (hI : tTI F he ob pr su go si) (pl : Nat → Int32) (V k : Nat) (e0 : ¬ pl (3 * k) = -1 - nI V) (e1 : pl (3 * k + 1) = -1 - nI V) (e2 : ¬ pl (3 * k + 2) = -1 - nI V) (hS8 : S < 8) {p_ : Int32} : nI (tmk (fun q_ => decide (0 < go (64 * 0 + 8 * S + q_))) 8) = nI (tmk (tab F pl V (nI S) p_ (-1) (3 * k)) 8) := by
  congr 1
  refine tmk_congr 8 (fun q hq => ?_)
  unfold tab
  rw [tsb_f e0, tsb_t e1, tsb_f e2]
  exact tn_pos (by rw [show 64 * 0 + 8 * S + q = 8 * S + q by omega]; exact (hI.2.2.1 S q hS8 hq).1) (tC3_lt _ _ _ _)
theorem tby_p2 (hI : tTI F he ob pr su go si) (pl : Nat → Int32) (V k : Nat) (e0 : ¬ pl (3 * k) = -1 - nI V) (e1 : pl (3 * k + 1) = -1 - nI V) (e2 : ¬ pl (3 * k + 2) = -1 - nI V) (hO8 : O < 8) {p_ : Int32} : nI (tmk (fun q_ => decide (0 < go (64 * 5 + 8 * O + q_))) 8) = nI (tmk (tab F pl V (-1) p_ (nI O) (3 * k)) 8) := by
  congr 1
  refine tmk_congr 8 (fun q hq => ?_)
  unfold tab
  rw [tsb_f e0, tsb_t e1, tsb_f e2]
  exact tn_pos (by rw [show 64 * 5 + 8 * O + q = 320 + 8 * O + q by omega]; exact (hI.2.2.1 O q hO8 hq).2.2.2.2.2) (tC3_lt _ _ _ _)
theorem tby_p0 (hI : tTI F he ob pr su go si) (pl : Nat → Int32) (V k : Nat) (e0 : ¬ pl (3 * k) = -1 - nI V) (e1 : pl (3 * k + 1) = -1 - nI V) (e2 : ¬ pl (3 * k + 2) = -1 - nI V) {p_ : Int32} : nI (tmk (fun q_ => decide (0 < si (8 * 1 + q_))) 8) = nI (tmk (tab F pl V (-1) p_ (-1) (3 * k)) 8) := by
  congr 1
  refine tmk_congr 8 (fun q hq => ?_)
  unfold tab
  rw [tsb_f e0, tsb_t e1, tsb_f e2]
  exact tn_pos (by rw [show 8 * 1 + q = 8 + q by omega]; exact (hI.2.2.2 q hq).2.1) (tC3_lt _ _ _ _)
theorem tby_o3 (F : Nat → Bool) (pl : Nat → Int32) (V k : Nat) (e0 : ¬ pl (3 * k) = -1 - nI V) (e1 : ¬ pl (3 * k + 1) = -1 - nI V) (e2 : pl (3 * k + 2) = -1 - nI V) (hS8 : S < 8) (hP8 : P < 8) {o_ z : Int32} (h : z = nI (tmk (fun q => F (64 * S + 8 * P + q)) 8)) : z = nI (tmk (tab F pl V (nI S) (nI P) o_ (3 * k)) 8) := by
  rw [h]
  congr 1
  refine tmk_congr 8 (fun q hq => ?_)
  unfold tab
  rw [tsb_f e0, tsb_f e1, tsb_t e2, tC3_3 F hS8 hP8 hq, tb_pos]
theorem tby_o1 (hI : tTI F he ob pr su go si) (pl : Nat → Int32) (V k : Nat) (e0 : ¬ pl (3 * k) = -1 - nI V) (e1 : ¬ pl (3 * k + 1) = -1 - nI V) (e2 : pl (3 * k + 2) = -1 - nI V) (hS8 : S < 8) {o_ : Int32} : nI (tmk (fun q_ => decide (0 < go (64 * 1 + 8 * S + q_))) 8) = nI (tmk (tab F pl V (nI S) (-1) o_ (3 * k)) 8) := by
  congr 1
  refine tmk_congr 8 (fun q hq => ?_)
  unfold tab
  rw [tsb_f e0, tsb_f e1, tsb_t e2]
  exact tn_pos (by rw [show 64 * 1 + 8 * S + q = 64 + 8 * S + q by omega]; exact (hI.2.2.1 S q hS8 hq).2.1) (tC3_lt _ _ _ _)
theorem tby_o2 (hI : tTI F he ob pr su go si) (pl : Nat → Int32) (V k : Nat) (e0 : ¬ pl (3 * k) = -1 - nI V) (e1 : ¬ pl (3 * k + 1) = -1 - nI V) (e2 : pl (3 * k + 2) = -1 - nI V) (hP8 : P < 8) {o_ : Int32} : nI (tmk (fun q_ => decide (0 < go (64 * 3 + 8 * P + q_))) 8) = nI (tmk (tab F pl V (-1) (nI P) o_ (3 * k)) 8) := by
  congr 1
  refine tmk_congr 8 (fun q hq => ?_)
  unfold tab
  rw [tsb_f e0, tsb_f e1, tsb_t e2]
  exact tn_pos (by rw [show 64 * 3 + 8 * P + q = 192 + 8 * P + q by omega]; exact (hI.2.2.1 P q hP8 hq).2.2.2.1) (tC3_lt _ _ _ _)
theorem tby_o0 (hI : tTI F he ob pr su go si) (pl : Nat → Int32) (V k : Nat) (e0 : ¬ pl (3 * k) = -1 - nI V) (e1 : ¬ pl (3 * k + 1) = -1 - nI V) (e2 : pl (3 * k + 2) = -1 - nI V) {o_ : Int32} : nI (tmk (fun q_ => decide (0 < si (8 * 2 + q_))) 8) = nI (tmk (tab F pl V (-1) (-1) o_ (3 * k)) 8) := by
  congr 1
  refine tmk_congr 8 (fun q hq => ?_)
  unfold tab
  rw [tsb_f e0, tsb_f e1, tsb_t e2]
  exact tn_pos (by rw [show 8 * 2 + q = 16 + q by omega]; exact (hI.2.2.2 q hq).2.2) (tC3_lt _ _ _ _)
end TBY
set_option maxHeartbeats 1000000 in
set_option maxRecDepth 100000 in
/-- allowedBy -/
theorem m_allowedBy {l : Launch} {D : va_G} {d z : ClassId} {h : Nat} {a : Nat → Nat} {he : Int32} {ob pr su go si : Nat → Int32} {N : Nat} {pl : Nat → Int32} {nv : Int32} {vr bo ca vc : Nat → Int32} {sc : Int32} {F : Nat → Bool} (hI : tTI F he ob pr su go si) (s_ p_ o_ : Int32) (V k : Nat) (hV : V < 4) (hk : k < 4) (hin : tin pl V k = true) (hs : tkk s_) (hp : tkk p_) (ho : tkk o_) : Met l yX0_allowedBy (ws_ yX0_allowedBy cX0_allowedBy 8 (some .int)) (rm_ 4 77) (pJ D d z (wJ h a d he ob pr su go si (nI N) pl nv vr bo ca vc sc) [.ref h, .int s_, .int p_, .int o_, .int (nI V), .int (nI k)]) (vp_Si (fun r_ => r_ = nI (tmk (tab F pl V s_ p_ o_ (3 * k)) 8))) 0 0 (fun _ => False) := by
  refine Met.ofW (cc := cX0_allowedBy) (maxL := 8) (ret := (some .int)) (by decide) rfl ?_
  intro p e s m args below meth c s₁ B hml hv
  obtain ⟨rfl, hP, hK, hD⟩ := hv
  have hx := B.exec
  have hb := B.bytes
  have hr := B.returns
  have hts := atoms_spec (ws := (ws_ yX0_allowedBy cX0_allowedBy 8 (some .int))) B.pre
  have hts : ∀ w ∈ lw_all, w.before _ s = true := fun w h => hts w (List.mem_cons_of_mem _ h)
  have hown : s.vm.findClass RX0 = some m.cls := findClass_of_methodNamed B.named
  have hlocks := B.notSynchronized
  have hl := lv_entry ([.ref h, .int s_, .int p_, .int o_, .int (nI V), .int (nI k)]) (n := 8) (Nat.le_of_ble_eq_true rfl)
  rw [lg_entry_eq]
  generalize (lg_sl ([.ref h, .int s_, .int p_, .int o_, .int (nI V), .int (nI k)]) ++ List.replicate (8 - (lg_sl ([.ref h, .int s_, .int p_, .int o_, .int (nI V), .int (nI k)])).length) Slot.unset).toArray = ls at hl ⊢
  have hl : lv_has ls 8 [(0, .ref h), (1, .int s_), (2, .int p_), (3, .int o_), (4, .int (nI V)), (5, .int (nI k))] := hl
  refine lv_iconst (v := nI 3) hx hb dX0_allowedBy_0 (by decide) ?_
  refine lv_iload hx hb dX0_allowedBy_1 (lv_at hl 5 rfl) ?_
  refine tn_imul hx hb dX0_allowedBy_3 ?_
  refine lv_istore (lv' := [(6, .int (nI (3 * k))), (0, .ref h), (1, .int s_), (2, .int p_), (3, .int o_), (4, .int (nI V)), (5, .int (nI k))]) hx hb dX0_allowedBy_4 hl (by decide) rfl (fun ls hl => ?_)
  by_cases e0 : pl (3 * k) = -1 - nI V
  · by_cases e1 : pl (3 * k + 1) = -1 - nI V
    · by_cases e2 : pl (3 * k + 2) = -1 - nI V
      · refine lv_aload_n hx hb dX0_allowedBy_6 rfl (lv_at hl 1 rfl) ?_
        refine va_get (D := D) (ci := 0) (v := .ref (a 7)) (C := RX0) (T := TX0) (N := 14) hx hb hts in_X0 hown hK hP 0 rfl rfl 7 (by decide) (hts _ q35) (fun _ h9 => h9) rfl dX0_allowedBy_7 ?_
        refine lv_iload hx hb dX0_allowedBy_10 (lv_at hl 0 rfl) ?_
        refine tn_iald hx hb hK hP 6 0 rfl rfl (j := 3 * k) (by omega) (by decide) dX0_allowedBy_12 ?_
        refine lv_iconst (v := (-1)) hx hb dX0_allowedBy_13 (by decide) ?_
        refine lv_iload hx hb dX0_allowedBy_14 (lv_at hl 5 rfl) ?_
        refine lv_isub hx hb dX0_allowedBy_16 ?_
        refine lv_icmp_ne (tgt := 24) hx hb dX0_allowedBy_17 (by decide) (fun z => absurd z (Classical.not_not.mpr e0)) (fun _ => ?_)
        refine lv_iconst (v := nI 1) hx hb dX0_allowedBy_20 (by decide) ?_
        refine lv_goto (tgt := 25) hx hb dX0_allowedBy_21 (by decide) ?_
        refine lv_aload_n hx hb dX0_allowedBy_25 rfl (lv_at hl 1 rfl) ?_
        refine va_get (D := D) (ci := 0) (v := .ref (a 7)) (C := RX0) (T := TX0) (N := 14) hx hb hts in_X0 hown hK hP 0 rfl rfl 7 (by decide) (hts _ q35) (fun _ h9 => h9) rfl dX0_allowedBy_26 ?_
        refine lv_iload hx hb dX0_allowedBy_29 (lv_at hl 0 rfl) ?_
        refine lv_iconst (v := nI 1) hx hb dX0_allowedBy_31 (by decide) ?_
        refine tn_iadd hx hb dX0_allowedBy_32 ?_
        refine tn_iald hx hb hK hP 6 0 rfl rfl (j := (3 * k) + 1) (by omega) (by decide) dX0_allowedBy_33 ?_
        refine lv_iconst (v := (-1)) hx hb dX0_allowedBy_34 (by decide) ?_
        refine lv_iload hx hb dX0_allowedBy_35 (lv_at hl 5 rfl) ?_
        refine lv_isub hx hb dX0_allowedBy_37 ?_
        refine lv_icmp_ne (tgt := 45) hx hb dX0_allowedBy_38 (by decide) (fun z => absurd z (Classical.not_not.mpr e1)) (fun _ => ?_)
        refine lv_iconst (v := nI 1) hx hb dX0_allowedBy_41 (by decide) ?_
        refine lv_goto (tgt := 46) hx hb dX0_allowedBy_42 (by decide) ?_
        refine tn_iadd hx hb dX0_allowedBy_46 ?_
        refine lv_aload_n hx hb dX0_allowedBy_47 rfl (lv_at hl 1 rfl) ?_
        refine va_get (D := D) (ci := 0) (v := .ref (a 7)) (C := RX0) (T := TX0) (N := 14) hx hb hts in_X0 hown hK hP 0 rfl rfl 7 (by decide) (hts _ q35) (fun _ h9 => h9) rfl dX0_allowedBy_48 ?_
        refine lv_iload hx hb dX0_allowedBy_51 (lv_at hl 0 rfl) ?_
        refine lv_iconst (v := nI 2) hx hb dX0_allowedBy_53 (by decide) ?_
        refine tn_iadd hx hb dX0_allowedBy_54 ?_
        refine tn_iald hx hb hK hP 6 0 rfl rfl (j := (3 * k) + 2) (by omega) (by decide) dX0_allowedBy_55 ?_
        refine lv_iconst (v := (-1)) hx hb dX0_allowedBy_56 (by decide) ?_
        refine lv_iload hx hb dX0_allowedBy_57 (lv_at hl 5 rfl) ?_
        refine lv_isub hx hb dX0_allowedBy_59 ?_
        refine lv_icmp_ne (tgt := 67) hx hb dX0_allowedBy_60 (by decide) (fun z => absurd z (Classical.not_not.mpr e2)) (fun _ => ?_)
        refine lv_iconst (v := nI 1) hx hb dX0_allowedBy_63 (by decide) ?_
        refine lv_goto (tgt := 68) hx hb dX0_allowedBy_64 (by decide) ?_
        refine tn_iadd hx hb dX0_allowedBy_68 ?_
        refine lv_istore (lv' := [(7, .int (nI ((1 + 1) + 1))), (6, .int (nI (3 * k))), (0, .ref h), (1, .int s_), (2, .int p_), (3, .int o_), (4, .int (nI V)), (5, .int (nI k))]) hx hb dX0_allowedBy_69 hl (by decide) rfl (fun ls hl => ?_)
        refine lv_iload hx hb dX0_allowedBy_71 (lv_at hl 0 rfl) ?_
        refine lv_iconst (v := nI 1) hx hb dX0_allowedBy_73 (by decide) ?_
        refine tn_icmp_le (tgt := 89) hx hb dX0_allowedBy_74 (by decide) (by decide) (by decide) (fun z => absurd z (by decide)) (fun _ => ?_)
        refine lv_aload_n hx hb dX0_allowedBy_77 rfl (lv_at hl 2 rfl) ?_
        refine lv_iload_n hx hb dX0_allowedBy_78 rfl (lv_at hl 3 rfl) ?_
        refine lv_iload_n hx hb dX0_allowedBy_79 rfl (lv_at hl 4 rfl) ?_
        refine lv_iload_n hx hb dX0_allowedBy_80 rfl (lv_at hl 5 rfl) ?_
        refine lv_iload hx hb dX0_allowedBy_81 (lv_at hl 6 rfl) ?_
        refine lv_iload hx hb dX0_allowedBy_83 (lv_at hl 1 rfl) ?_
        refine vp_callSi (W.runV (As := [.int s_, .int p_, .int o_, .int (nI V), .int (nI (3 * k))]) (rest := []) ⟨hx, hb, hml, hown, hts⟩ (m_allowedTwice hI s_ p_ o_ V (3 * k) hV (by omega)) (cwV 5 hts (lw_V q127 q129 qs8 q18 q130) rfl rfl rfl (by decide +kernel) ⟨Nat.le_of_ble_eq_true rfl, Nat.le_of_ble_eq_true rfl⟩) (pJ_preJ hK hP hD rfl) rfl rfl hl.1 rfl (lv_room (Nat.le_of_ble_eq_true rfl)) dX0_allowedBy_85 ⟨Nat.le_refl _, Nat.le_refl _⟩) (fun r_85 hr_85 => ?_)
        subst hr_85
        exact W.iret (v := nI (tmk (tab F pl V s_ p_ o_ (3 * k)) 8)) hx hb hr (fun t ht hW => ⟨_, rfl, rfl, ht⟩) (fun _ h9 => nomatch h9) dX0_allowedBy_88
      · refine lv_aload_n hx hb dX0_allowedBy_6 rfl (lv_at hl 1 rfl) ?_
        refine va_get (D := D) (ci := 0) (v := .ref (a 7)) (C := RX0) (T := TX0) (N := 14) hx hb hts in_X0 hown hK hP 0 rfl rfl 7 (by decide) (hts _ q35) (fun _ h9 => h9) rfl dX0_allowedBy_7 ?_
        refine lv_iload hx hb dX0_allowedBy_10 (lv_at hl 0 rfl) ?_
        refine tn_iald hx hb hK hP 6 0 rfl rfl (j := 3 * k) (by omega) (by decide) dX0_allowedBy_12 ?_
        refine lv_iconst (v := (-1)) hx hb dX0_allowedBy_13 (by decide) ?_
        refine lv_iload hx hb dX0_allowedBy_14 (lv_at hl 5 rfl) ?_
        refine lv_isub hx hb dX0_allowedBy_16 ?_
        refine lv_icmp_ne (tgt := 24) hx hb dX0_allowedBy_17 (by decide) (fun z => absurd z (Classical.not_not.mpr e0)) (fun _ => ?_)
        refine lv_iconst (v := nI 1) hx hb dX0_allowedBy_20 (by decide) ?_
        refine lv_goto (tgt := 25) hx hb dX0_allowedBy_21 (by decide) ?_
        refine lv_aload_n hx hb dX0_allowedBy_25 rfl (lv_at hl 1 rfl) ?_
        refine va_get (D := D) (ci := 0) (v := .ref (a 7)) (C := RX0) (T := TX0) (N := 14) hx hb hts in_X0 hown hK hP 0 rfl rfl 7 (by decide) (hts _ q35) (fun _ h9 => h9) rfl dX0_allowedBy_26 ?_
        refine lv_iload hx hb dX0_allowedBy_29 (lv_at hl 0 rfl) ?_
        refine lv_iconst (v := nI 1) hx hb dX0_allowedBy_31 (by decide) ?_
        refine tn_iadd hx hb dX0_allowedBy_32 ?_
        refine tn_iald hx hb hK hP 6 0 rfl rfl (j := (3 * k) + 1) (by omega) (by decide) dX0_allowedBy_33 ?_
        refine lv_iconst (v := (-1)) hx hb dX0_allowedBy_34 (by decide) ?_
        refine lv_iload hx hb dX0_allowedBy_35 (lv_at hl 5 rfl) ?_
        refine lv_isub hx hb dX0_allowedBy_37 ?_
        refine lv_icmp_ne (tgt := 45) hx hb dX0_allowedBy_38 (by decide) (fun z => absurd z (Classical.not_not.mpr e1)) (fun _ => ?_)
        refine lv_iconst (v := nI 1) hx hb dX0_allowedBy_41 (by decide) ?_
        refine lv_goto (tgt := 46) hx hb dX0_allowedBy_42 (by decide) ?_
        refine tn_iadd hx hb dX0_allowedBy_46 ?_
        refine lv_aload_n hx hb dX0_allowedBy_47 rfl (lv_at hl 1 rfl) ?_
        refine va_get (D := D) (ci := 0) (v := .ref (a 7)) (C := RX0) (T := TX0) (N := 14) hx hb hts in_X0 hown hK hP 0 rfl rfl 7 (by decide) (hts _ q35) (fun _ h9 => h9) rfl dX0_allowedBy_48 ?_
        refine lv_iload hx hb dX0_allowedBy_51 (lv_at hl 0 rfl) ?_
        refine lv_iconst (v := nI 2) hx hb dX0_allowedBy_53 (by decide) ?_
        refine tn_iadd hx hb dX0_allowedBy_54 ?_
        refine tn_iald hx hb hK hP 6 0 rfl rfl (j := (3 * k) + 2) (by omega) (by decide) dX0_allowedBy_55 ?_
        refine lv_iconst (v := (-1)) hx hb dX0_allowedBy_56 (by decide) ?_
        refine lv_iload hx hb dX0_allowedBy_57 (lv_at hl 5 rfl) ?_
        refine lv_isub hx hb dX0_allowedBy_59 ?_
        refine lv_icmp_ne (tgt := 67) hx hb dX0_allowedBy_60 (by decide) (fun _ => ?_) (fun z => absurd z e2)
        refine lv_iconst (v := nI 0) hx hb dX0_allowedBy_67 (by decide) ?_
        refine tn_iadd hx hb dX0_allowedBy_68 ?_
        refine lv_istore (lv' := [(7, .int (nI ((1 + 1) + 0))), (6, .int (nI (3 * k))), (0, .ref h), (1, .int s_), (2, .int p_), (3, .int o_), (4, .int (nI V)), (5, .int (nI k))]) hx hb dX0_allowedBy_69 hl (by decide) rfl (fun ls hl => ?_)
        refine lv_iload hx hb dX0_allowedBy_71 (lv_at hl 0 rfl) ?_
        refine lv_iconst (v := nI 1) hx hb dX0_allowedBy_73 (by decide) ?_
        refine tn_icmp_le (tgt := 89) hx hb dX0_allowedBy_74 (by decide) (by decide) (by decide) (fun z => absurd z (by decide)) (fun _ => ?_)
        refine lv_aload_n hx hb dX0_allowedBy_77 rfl (lv_at hl 2 rfl) ?_
        refine lv_iload_n hx hb dX0_allowedBy_78 rfl (lv_at hl 3 rfl) ?_
        refine lv_iload_n hx hb dX0_allowedBy_79 rfl (lv_at hl 4 rfl) ?_
        refine lv_iload_n hx hb dX0_allowedBy_80 rfl (lv_at hl 5 rfl) ?_
        refine lv_iload hx hb dX0_allowedBy_81 (lv_at hl 6 rfl) ?_
        refine lv_iload hx hb dX0_allowedBy_83 (lv_at hl 1 rfl) ?_
        refine vp_callSi (W.runV (As := [.int s_, .int p_, .int o_, .int (nI V), .int (nI (3 * k))]) (rest := []) ⟨hx, hb, hml, hown, hts⟩ (m_allowedTwice hI s_ p_ o_ V (3 * k) hV (by omega)) (cwV 5 hts (lw_V q127 q129 qs8 q18 q130) rfl rfl rfl (by decide +kernel) ⟨Nat.le_of_ble_eq_true rfl, Nat.le_of_ble_eq_true rfl⟩) (pJ_preJ hK hP hD rfl) rfl rfl hl.1 rfl (lv_room (Nat.le_of_ble_eq_true rfl)) dX0_allowedBy_85 ⟨Nat.le_refl _, Nat.le_refl _⟩) (fun r_85 hr_85 => ?_)
        subst hr_85
        exact W.iret (v := nI (tmk (tab F pl V s_ p_ o_ (3 * k)) 8)) hx hb hr (fun t ht hW => ⟨_, rfl, rfl, ht⟩) (fun _ h9 => nomatch h9) dX0_allowedBy_88
    · by_cases e2 : pl (3 * k + 2) = -1 - nI V
      · refine lv_aload_n hx hb dX0_allowedBy_6 rfl (lv_at hl 1 rfl) ?_
        refine va_get (D := D) (ci := 0) (v := .ref (a 7)) (C := RX0) (T := TX0) (N := 14) hx hb hts in_X0 hown hK hP 0 rfl rfl 7 (by decide) (hts _ q35) (fun _ h9 => h9) rfl dX0_allowedBy_7 ?_
        refine lv_iload hx hb dX0_allowedBy_10 (lv_at hl 0 rfl) ?_
        refine tn_iald hx hb hK hP 6 0 rfl rfl (j := 3 * k) (by omega) (by decide) dX0_allowedBy_12 ?_
        refine lv_iconst (v := (-1)) hx hb dX0_allowedBy_13 (by decide) ?_
        refine lv_iload hx hb dX0_allowedBy_14 (lv_at hl 5 rfl) ?_
        refine lv_isub hx hb dX0_allowedBy_16 ?_
        refine lv_icmp_ne (tgt := 24) hx hb dX0_allowedBy_17 (by decide) (fun z => absurd z (Classical.not_not.mpr e0)) (fun _ => ?_)
        refine lv_iconst (v := nI 1) hx hb dX0_allowedBy_20 (by decide) ?_
        refine lv_goto (tgt := 25) hx hb dX0_allowedBy_21 (by decide) ?_
        refine lv_aload_n hx hb dX0_allowedBy_25 rfl (lv_at hl 1 rfl) ?_
        refine va_get (D := D) (ci := 0) (v := .ref (a 7)) (C := RX0) (T := TX0) (N := 14) hx hb hts in_X0 hown hK hP 0 rfl rfl 7 (by decide) (hts _ q35) (fun _ h9 => h9) rfl dX0_allowedBy_26 ?_
        refine lv_iload hx hb dX0_allowedBy_29 (lv_at hl 0 rfl) ?_
        refine lv_iconst (v := nI 1) hx hb dX0_allowedBy_31 (by decide) ?_
        refine tn_iadd hx hb dX0_allowedBy_32 ?_
        refine tn_iald hx hb hK hP 6 0 rfl rfl (j := (3 * k) + 1) (by omega) (by decide) dX0_allowedBy_33 ?_
        refine lv_iconst (v := (-1)) hx hb dX0_allowedBy_34 (by decide) ?_
        refine lv_iload hx hb dX0_allowedBy_35 (lv_at hl 5 rfl) ?_
        refine lv_isub hx hb dX0_allowedBy_37 ?_
        refine lv_icmp_ne (tgt := 45) hx hb dX0_allowedBy_38 (by decide) (fun _ => ?_) (fun z => absurd z e1)
        refine lv_iconst (v := nI 0) hx hb dX0_allowedBy_45 (by decide) ?_
        refine tn_iadd hx hb dX0_allowedBy_46 ?_
        refine lv_aload_n hx hb dX0_allowedBy_47 rfl (lv_at hl 1 rfl) ?_
        refine va_get (D := D) (ci := 0) (v := .ref (a 7)) (C := RX0) (T := TX0) (N := 14) hx hb hts in_X0 hown hK hP 0 rfl rfl 7 (by decide) (hts _ q35) (fun _ h9 => h9) rfl dX0_allowedBy_48 ?_
        refine lv_iload hx hb dX0_allowedBy_51 (lv_at hl 0 rfl) ?_
        refine lv_iconst (v := nI 2) hx hb dX0_allowedBy_53 (by decide) ?_
        refine tn_iadd hx hb dX0_allowedBy_54 ?_
        refine tn_iald hx hb hK hP 6 0 rfl rfl (j := (3 * k) + 2) (by omega) (by decide) dX0_allowedBy_55 ?_
        refine lv_iconst (v := (-1)) hx hb dX0_allowedBy_56 (by decide) ?_
        refine lv_iload hx hb dX0_allowedBy_57 (lv_at hl 5 rfl) ?_
        refine lv_isub hx hb dX0_allowedBy_59 ?_
        refine lv_icmp_ne (tgt := 67) hx hb dX0_allowedBy_60 (by decide) (fun z => absurd z (Classical.not_not.mpr e2)) (fun _ => ?_)
        refine lv_iconst (v := nI 1) hx hb dX0_allowedBy_63 (by decide) ?_
        refine lv_goto (tgt := 68) hx hb dX0_allowedBy_64 (by decide) ?_
        refine tn_iadd hx hb dX0_allowedBy_68 ?_
        refine lv_istore (lv' := [(7, .int (nI ((1 + 0) + 1))), (6, .int (nI (3 * k))), (0, .ref h), (1, .int s_), (2, .int p_), (3, .int o_), (4, .int (nI V)), (5, .int (nI k))]) hx hb dX0_allowedBy_69 hl (by decide) rfl (fun ls hl => ?_)
        refine lv_iload hx hb dX0_allowedBy_71 (lv_at hl 0 rfl) ?_
        refine lv_iconst (v := nI 1) hx hb dX0_allowedBy_73 (by decide) ?_
        refine tn_icmp_le (tgt := 89) hx hb dX0_allowedBy_74 (by decide) (by decide) (by decide) (fun z => absurd z (by decide)) (fun _ => ?_)
        refine lv_aload_n hx hb dX0_allowedBy_77 rfl (lv_at hl 2 rfl) ?_
        refine lv_iload_n hx hb dX0_allowedBy_78 rfl (lv_at hl 3 rfl) ?_
        refine lv_iload_n hx hb dX0_allowedBy_79 rfl (lv_at hl 4 rfl) ?_
        refine lv_iload_n hx hb dX0_allowedBy_80 rfl (lv_at hl 5 rfl) ?_
        refine lv_iload hx hb dX0_allowedBy_81 (lv_at hl 6 rfl) ?_
        refine lv_iload hx hb dX0_allowedBy_83 (lv_at hl 1 rfl) ?_
        refine vp_callSi (W.runV (As := [.int s_, .int p_, .int o_, .int (nI V), .int (nI (3 * k))]) (rest := []) ⟨hx, hb, hml, hown, hts⟩ (m_allowedTwice hI s_ p_ o_ V (3 * k) hV (by omega)) (cwV 5 hts (lw_V q127 q129 qs8 q18 q130) rfl rfl rfl (by decide +kernel) ⟨Nat.le_of_ble_eq_true rfl, Nat.le_of_ble_eq_true rfl⟩) (pJ_preJ hK hP hD rfl) rfl rfl hl.1 rfl (lv_room (Nat.le_of_ble_eq_true rfl)) dX0_allowedBy_85 ⟨Nat.le_refl _, Nat.le_refl _⟩) (fun r_85 hr_85 => ?_)
        subst hr_85
        exact W.iret (v := nI (tmk (tab F pl V s_ p_ o_ (3 * k)) 8)) hx hb hr (fun t ht hW => ⟨_, rfl, rfl, ht⟩) (fun _ h9 => nomatch h9) dX0_allowedBy_88
      · refine lv_aload_n hx hb dX0_allowedBy_6 rfl (lv_at hl 1 rfl) ?_
        refine va_get (D := D) (ci := 0) (v := .ref (a 7)) (C := RX0) (T := TX0) (N := 14) hx hb hts in_X0 hown hK hP 0 rfl rfl 7 (by decide) (hts _ q35) (fun _ h9 => h9) rfl dX0_allowedBy_7 ?_
        refine lv_iload hx hb dX0_allowedBy_10 (lv_at hl 0 rfl) ?_
        refine tn_iald hx hb hK hP 6 0 rfl rfl (j := 3 * k) (by omega) (by decide) dX0_allowedBy_12 ?_
        refine lv_iconst (v := (-1)) hx hb dX0_allowedBy_13 (by decide) ?_
        refine lv_iload hx hb dX0_allowedBy_14 (lv_at hl 5 rfl) ?_
        refine lv_isub hx hb dX0_allowedBy_16 ?_
        refine lv_icmp_ne (tgt := 24) hx hb dX0_allowedBy_17 (by decide) (fun z => absurd z (Classical.not_not.mpr e0)) (fun _ => ?_)
        refine lv_iconst (v := nI 1) hx hb dX0_allowedBy_20 (by decide) ?_
        refine lv_goto (tgt := 25) hx hb dX0_allowedBy_21 (by decide) ?_
        refine lv_aload_n hx hb dX0_allowedBy_25 rfl (lv_at hl 1 rfl) ?_
        refine va_get (D := D) (ci := 0) (v := .ref (a 7)) (C := RX0) (T := TX0) (N := 14) hx hb hts in_X0 hown hK hP 0 rfl rfl 7 (by decide) (hts _ q35) (fun _ h9 => h9) rfl dX0_allowedBy_26 ?_
        refine lv_iload hx hb dX0_allowedBy_29 (lv_at hl 0 rfl) ?_
        refine lv_iconst (v := nI 1) hx hb dX0_allowedBy_31 (by decide) ?_
        refine tn_iadd hx hb dX0_allowedBy_32 ?_
        refine tn_iald hx hb hK hP 6 0 rfl rfl (j := (3 * k) + 1) (by omega) (by decide) dX0_allowedBy_33 ?_
        refine lv_iconst (v := (-1)) hx hb dX0_allowedBy_34 (by decide) ?_
        refine lv_iload hx hb dX0_allowedBy_35 (lv_at hl 5 rfl) ?_
        refine lv_isub hx hb dX0_allowedBy_37 ?_
        refine lv_icmp_ne (tgt := 45) hx hb dX0_allowedBy_38 (by decide) (fun _ => ?_) (fun z => absurd z e1)
        refine lv_iconst (v := nI 0) hx hb dX0_allowedBy_45 (by decide) ?_
        refine tn_iadd hx hb dX0_allowedBy_46 ?_
        refine lv_aload_n hx hb dX0_allowedBy_47 rfl (lv_at hl 1 rfl) ?_
        refine va_get (D := D) (ci := 0) (v := .ref (a 7)) (C := RX0) (T := TX0) (N := 14) hx hb hts in_X0 hown hK hP 0 rfl rfl 7 (by decide) (hts _ q35) (fun _ h9 => h9) rfl dX0_allowedBy_48 ?_
        refine lv_iload hx hb dX0_allowedBy_51 (lv_at hl 0 rfl) ?_
        refine lv_iconst (v := nI 2) hx hb dX0_allowedBy_53 (by decide) ?_
        refine tn_iadd hx hb dX0_allowedBy_54 ?_
        refine tn_iald hx hb hK hP 6 0 rfl rfl (j := (3 * k) + 2) (by omega) (by decide) dX0_allowedBy_55 ?_
        refine lv_iconst (v := (-1)) hx hb dX0_allowedBy_56 (by decide) ?_
        refine lv_iload hx hb dX0_allowedBy_57 (lv_at hl 5 rfl) ?_
        refine lv_isub hx hb dX0_allowedBy_59 ?_
        refine lv_icmp_ne (tgt := 67) hx hb dX0_allowedBy_60 (by decide) (fun _ => ?_) (fun z => absurd z e2)
        refine lv_iconst (v := nI 0) hx hb dX0_allowedBy_67 (by decide) ?_
        refine tn_iadd hx hb dX0_allowedBy_68 ?_
        refine lv_istore (lv' := [(7, .int (nI ((1 + 0) + 0))), (6, .int (nI (3 * k))), (0, .ref h), (1, .int s_), (2, .int p_), (3, .int o_), (4, .int (nI V)), (5, .int (nI k))]) hx hb dX0_allowedBy_69 hl (by decide) rfl (fun ls hl => ?_)
        refine lv_iload hx hb dX0_allowedBy_71 (lv_at hl 0 rfl) ?_
        refine lv_iconst (v := nI 1) hx hb dX0_allowedBy_73 (by decide) ?_
        refine tn_icmp_le (tgt := 89) hx hb dX0_allowedBy_74 (by decide) (by decide) (by decide) (fun _ => ?_) (fun z => absurd z (by decide))
        refine lv_aload_n hx hb dX0_allowedBy_89 rfl (lv_at hl 2 rfl) ?_
        refine va_get (D := D) (ci := 0) (v := .ref (a 7)) (C := RX0) (T := TX0) (N := 14) hx hb hts in_X0 hown hK hP 0 rfl rfl 7 (by decide) (hts _ q35) (fun _ h9 => h9) rfl dX0_allowedBy_90 ?_
        refine lv_iload hx hb dX0_allowedBy_93 (lv_at hl 1 rfl) ?_
        refine tn_iald hx hb hK hP 6 0 rfl rfl (j := 3 * k) (by omega) (by decide) dX0_allowedBy_95 ?_
        refine lv_iconst (v := (-1)) hx hb dX0_allowedBy_96 (by decide) ?_
        refine lv_iload hx hb dX0_allowedBy_97 (lv_at hl 6 rfl) ?_
        refine lv_isub hx hb dX0_allowedBy_99 ?_
        refine lv_icmp_ne (tgt := 157) hx hb dX0_allowedBy_100 (by decide) (fun z => absurd z (Classical.not_not.mpr e0)) (fun _ => ?_)
        rcases hp with ⟨P, hP8, rfl⟩ | rfl
        · refine lv_iload_n hx hb dX0_allowedBy_103 rfl (lv_at hl 4 rfl) ?_
          refine tn_if_lt (tgt := 125) hx hb dX0_allowedBy_104 (by decide) (by omega) ?_
          rcases ho with ⟨O, hO8, rfl⟩ | rfl
          · refine lv_iload_n hx hb dX0_allowedBy_107 rfl (lv_at hl 5 rfl) ?_
            refine tn_if_lt (tgt := 125) hx hb dX0_allowedBy_108 (by decide) (by omega) ?_
            refine lv_aload_n hx hb dX0_allowedBy_111 rfl (lv_at hl 2 rfl) ?_
            refine va_get (D := D) (ci := 0) (v := .ref (a 3)) (C := RX0) (T := TX0) (N := 14) hx hb hts in_X0 hown hK hP 0 rfl rfl 3 (by decide) (hts _ q31) (fun _ h9 => h9) rfl dX0_allowedBy_112 ?_
            refine lv_bipush (v := nI 8) hx hb dX0_allowedBy_115 (by decide) ?_
            refine lv_iload_n hx hb dX0_allowedBy_117 rfl (lv_at hl 4 rfl) ?_
            refine tn_imul hx hb dX0_allowedBy_118 ?_
            refine lv_iload_n hx hb dX0_allowedBy_119 rfl (lv_at hl 5 rfl) ?_
            refine tn_iadd hx hb dX0_allowedBy_120 ?_
            refine tn_iald hx hb hK hP 3 0 rfl rfl (j := (8 * P) + O) (by omega) (by decide) dX0_allowedBy_121 ?_
            refine lv_goto (tgt := 156) hx hb dX0_allowedBy_122 (by decide) ?_
            exact W.iret (v := su ((8 * P) + O)) hx hb hr (fun t ht hW => ⟨_, rfl, (tby_s3 F pl V k e0 e1 e2 hP8 hO8 (hI.2.1 P O hP8 hO8).2.2), ht⟩) (fun _ h9 => nomatch h9) dX0_allowedBy_156
          · refine lv_iload_n hx hb dX0_allowedBy_107 rfl (lv_at hl 5 rfl) ?_
            refine lv_if_lt (tgt := 125) hx hb dX0_allowedBy_108 (by decide) (fun _ => ?_) (fun z => absurd z (by decide))
            refine lv_iload_n hx hb dX0_allowedBy_125 rfl (lv_at hl 4 rfl) ?_
            refine tn_if_lt (tgt := 138) hx hb dX0_allowedBy_126 (by decide) (by omega) ?_
            refine lv_aload_n hx hb dX0_allowedBy_129 rfl (lv_at hl 2 rfl) ?_
            refine lv_iconst (v := nI 2) hx hb dX0_allowedBy_130 (by decide) ?_
            refine lv_iload_n hx hb dX0_allowedBy_131 rfl (lv_at hl 4 rfl) ?_
            refine vp_callSi (W.runV (As := [.int (nI 2), .int (nI P)]) (rest := []) ⟨hx, hb, hml, hown, hts⟩ (m_ways 2 P (by decide) hP8) (cwV 2 hts (lw_V q138 q140 qs9 q18 q141) rfl rfl rfl (by decide +kernel) ⟨Nat.le_of_ble_eq_true rfl, Nat.le_of_ble_eq_true rfl⟩) (pJ_preJ hK hP hD rfl) rfl rfl hl.1 rfl (lv_room (Nat.le_of_ble_eq_true rfl)) dX0_allowedBy_132 ⟨Nat.le_refl _, Nat.le_refl _⟩) (fun r_132 hr_132 => ?_)
            subst hr_132
            refine lv_goto (tgt := 156) hx hb dX0_allowedBy_135 (by decide) ?_
            exact W.iret (v := nI (tmk (fun q_ => decide (0 < go (64 * 2 + 8 * P + q_))) 8)) hx hb hr (fun t ht hW => ⟨_, rfl, (tby_s1 hI pl V k e0 e1 e2 hP8), ht⟩) (fun _ h9 => nomatch h9) dX0_allowedBy_156
        · refine lv_iload_n hx hb dX0_allowedBy_103 rfl (lv_at hl 4 rfl) ?_
          refine lv_if_lt (tgt := 125) hx hb dX0_allowedBy_104 (by decide) (fun _ => ?_) (fun z => absurd z (by decide))
          refine lv_iload_n hx hb dX0_allowedBy_125 rfl (lv_at hl 4 rfl) ?_
          refine lv_if_lt (tgt := 138) hx hb dX0_allowedBy_126 (by decide) (fun _ => ?_) (fun z => absurd z (by decide))
          rcases ho with ⟨O, hO8, rfl⟩ | rfl
          · refine lv_iload_n hx hb dX0_allowedBy_138 rfl (lv_at hl 5 rfl) ?_
            refine tn_if_lt (tgt := 151) hx hb dX0_allowedBy_139 (by decide) (by omega) ?_
            refine lv_aload_n hx hb dX0_allowedBy_142 rfl (lv_at hl 2 rfl) ?_
            refine lv_iconst (v := nI 4) hx hb dX0_allowedBy_143 (by decide) ?_
            refine lv_iload_n hx hb dX0_allowedBy_144 rfl (lv_at hl 5 rfl) ?_
            refine vp_callSi (W.runV (As := [.int (nI 4), .int (nI O)]) (rest := []) ⟨hx, hb, hml, hown, hts⟩ (m_ways 4 O (by decide) hO8) (cwV 2 hts (lw_V q138 q140 qs9 q18 q141) rfl rfl rfl (by decide +kernel) ⟨Nat.le_of_ble_eq_true rfl, Nat.le_of_ble_eq_true rfl⟩) (pJ_preJ hK hP hD rfl) rfl rfl hl.1 rfl (lv_room (Nat.le_of_ble_eq_true rfl)) dX0_allowedBy_145 ⟨Nat.le_refl _, Nat.le_refl _⟩) (fun r_145 hr_145 => ?_)
            subst hr_145
            refine lv_goto (tgt := 156) hx hb dX0_allowedBy_148 (by decide) ?_
            exact W.iret (v := nI (tmk (fun q_ => decide (0 < go (64 * 4 + 8 * O + q_))) 8)) hx hb hr (fun t ht hW => ⟨_, rfl, (tby_s2 hI pl V k e0 e1 e2 hO8), ht⟩) (fun _ h9 => nomatch h9) dX0_allowedBy_156
          · refine lv_iload_n hx hb dX0_allowedBy_138 rfl (lv_at hl 5 rfl) ?_
            refine lv_if_lt (tgt := 151) hx hb dX0_allowedBy_139 (by decide) (fun _ => ?_) (fun z => absurd z (by decide))
            refine lv_aload_n hx hb dX0_allowedBy_151 rfl (lv_at hl 2 rfl) ?_
            refine lv_iconst (v := nI 0) hx hb dX0_allowedBy_152 (by decide) ?_
            refine vp_callSi (W.runV (As := [.int (nI 0)]) (rest := []) ⟨hx, hb, hml, hown, hts⟩ (m_alone 0 (by decide)) (cwV 1 hts (lw_V q142 q144 qs10 q18 q145) rfl rfl rfl (by decide +kernel) ⟨Nat.le_of_ble_eq_true rfl, Nat.le_of_ble_eq_true rfl⟩) (pJ_preJ hK hP hD rfl) rfl rfl hl.1 rfl (lv_room (Nat.le_of_ble_eq_true rfl)) dX0_allowedBy_153 ⟨Nat.le_refl _, Nat.le_refl _⟩) (fun r_153 hr_153 => ?_)
            subst hr_153
            exact W.iret (v := nI (tmk (fun q_ => decide (0 < si (8 * 0 + q_))) 8)) hx hb hr (fun t ht hW => ⟨_, rfl, (tby_s0 hI pl V k e0 e1 e2), ht⟩) (fun _ h9 => nomatch h9) dX0_allowedBy_156
  · by_cases e1 : pl (3 * k + 1) = -1 - nI V
    · by_cases e2 : pl (3 * k + 2) = -1 - nI V
      · refine lv_aload_n hx hb dX0_allowedBy_6 rfl (lv_at hl 1 rfl) ?_
        refine va_get (D := D) (ci := 0) (v := .ref (a 7)) (C := RX0) (T := TX0) (N := 14) hx hb hts in_X0 hown hK hP 0 rfl rfl 7 (by decide) (hts _ q35) (fun _ h9 => h9) rfl dX0_allowedBy_7 ?_
        refine lv_iload hx hb dX0_allowedBy_10 (lv_at hl 0 rfl) ?_
        refine tn_iald hx hb hK hP 6 0 rfl rfl (j := 3 * k) (by omega) (by decide) dX0_allowedBy_12 ?_
        refine lv_iconst (v := (-1)) hx hb dX0_allowedBy_13 (by decide) ?_
        refine lv_iload hx hb dX0_allowedBy_14 (lv_at hl 5 rfl) ?_
        refine lv_isub hx hb dX0_allowedBy_16 ?_
        refine lv_icmp_ne (tgt := 24) hx hb dX0_allowedBy_17 (by decide) (fun _ => ?_) (fun z => absurd z e0)
        refine lv_iconst (v := nI 0) hx hb dX0_allowedBy_24 (by decide) ?_
        refine lv_aload_n hx hb dX0_allowedBy_25 rfl (lv_at hl 1 rfl) ?_
        refine va_get (D := D) (ci := 0) (v := .ref (a 7)) (C := RX0) (T := TX0) (N := 14) hx hb hts in_X0 hown hK hP 0 rfl rfl 7 (by decide) (hts _ q35) (fun _ h9 => h9) rfl dX0_allowedBy_26 ?_
        refine lv_iload hx hb dX0_allowedBy_29 (lv_at hl 0 rfl) ?_
        refine lv_iconst (v := nI 1) hx hb dX0_allowedBy_31 (by decide) ?_
        refine tn_iadd hx hb dX0_allowedBy_32 ?_
        refine tn_iald hx hb hK hP 6 0 rfl rfl (j := (3 * k) + 1) (by omega) (by decide) dX0_allowedBy_33 ?_
        refine lv_iconst (v := (-1)) hx hb dX0_allowedBy_34 (by decide) ?_
        refine lv_iload hx hb dX0_allowedBy_35 (lv_at hl 5 rfl) ?_
        refine lv_isub hx hb dX0_allowedBy_37 ?_
        refine lv_icmp_ne (tgt := 45) hx hb dX0_allowedBy_38 (by decide) (fun z => absurd z (Classical.not_not.mpr e1)) (fun _ => ?_)
        refine lv_iconst (v := nI 1) hx hb dX0_allowedBy_41 (by decide) ?_
        refine lv_goto (tgt := 46) hx hb dX0_allowedBy_42 (by decide) ?_
        refine tn_iadd hx hb dX0_allowedBy_46 ?_
        refine lv_aload_n hx hb dX0_allowedBy_47 rfl (lv_at hl 1 rfl) ?_
        refine va_get (D := D) (ci := 0) (v := .ref (a 7)) (C := RX0) (T := TX0) (N := 14) hx hb hts in_X0 hown hK hP 0 rfl rfl 7 (by decide) (hts _ q35) (fun _ h9 => h9) rfl dX0_allowedBy_48 ?_
        refine lv_iload hx hb dX0_allowedBy_51 (lv_at hl 0 rfl) ?_
        refine lv_iconst (v := nI 2) hx hb dX0_allowedBy_53 (by decide) ?_
        refine tn_iadd hx hb dX0_allowedBy_54 ?_
        refine tn_iald hx hb hK hP 6 0 rfl rfl (j := (3 * k) + 2) (by omega) (by decide) dX0_allowedBy_55 ?_
        refine lv_iconst (v := (-1)) hx hb dX0_allowedBy_56 (by decide) ?_
        refine lv_iload hx hb dX0_allowedBy_57 (lv_at hl 5 rfl) ?_
        refine lv_isub hx hb dX0_allowedBy_59 ?_
        refine lv_icmp_ne (tgt := 67) hx hb dX0_allowedBy_60 (by decide) (fun z => absurd z (Classical.not_not.mpr e2)) (fun _ => ?_)
        refine lv_iconst (v := nI 1) hx hb dX0_allowedBy_63 (by decide) ?_
        refine lv_goto (tgt := 68) hx hb dX0_allowedBy_64 (by decide) ?_
        refine tn_iadd hx hb dX0_allowedBy_68 ?_
        refine lv_istore (lv' := [(7, .int (nI ((0 + 1) + 1))), (6, .int (nI (3 * k))), (0, .ref h), (1, .int s_), (2, .int p_), (3, .int o_), (4, .int (nI V)), (5, .int (nI k))]) hx hb dX0_allowedBy_69 hl (by decide) rfl (fun ls hl => ?_)
        refine lv_iload hx hb dX0_allowedBy_71 (lv_at hl 0 rfl) ?_
        refine lv_iconst (v := nI 1) hx hb dX0_allowedBy_73 (by decide) ?_
        refine tn_icmp_le (tgt := 89) hx hb dX0_allowedBy_74 (by decide) (by decide) (by decide) (fun z => absurd z (by decide)) (fun _ => ?_)
        refine lv_aload_n hx hb dX0_allowedBy_77 rfl (lv_at hl 2 rfl) ?_
        refine lv_iload_n hx hb dX0_allowedBy_78 rfl (lv_at hl 3 rfl) ?_
        refine lv_iload_n hx hb dX0_allowedBy_79 rfl (lv_at hl 4 rfl) ?_
        refine lv_iload_n hx hb dX0_allowedBy_80 rfl (lv_at hl 5 rfl) ?_
        refine lv_iload hx hb dX0_allowedBy_81 (lv_at hl 6 rfl) ?_
        refine lv_iload hx hb dX0_allowedBy_83 (lv_at hl 1 rfl) ?_
        refine vp_callSi (W.runV (As := [.int s_, .int p_, .int o_, .int (nI V), .int (nI (3 * k))]) (rest := []) ⟨hx, hb, hml, hown, hts⟩ (m_allowedTwice hI s_ p_ o_ V (3 * k) hV (by omega)) (cwV 5 hts (lw_V q127 q129 qs8 q18 q130) rfl rfl rfl (by decide +kernel) ⟨Nat.le_of_ble_eq_true rfl, Nat.le_of_ble_eq_true rfl⟩) (pJ_preJ hK hP hD rfl) rfl rfl hl.1 rfl (lv_room (Nat.le_of_ble_eq_true rfl)) dX0_allowedBy_85 ⟨Nat.le_refl _, Nat.le_refl _⟩) (fun r_85 hr_85 => ?_)
        subst hr_85
        exact W.iret (v := nI (tmk (tab F pl V s_ p_ o_ (3 * k)) 8)) hx hb hr (fun t ht hW => ⟨_, rfl, rfl, ht⟩) (fun _ h9 => nomatch h9) dX0_allowedBy_88
      · refine lv_aload_n hx hb dX0_allowedBy_6 rfl (lv_at hl 1 rfl) ?_
        refine va_get (D := D) (ci := 0) (v := .ref (a 7)) (C := RX0) (T := TX0) (N := 14) hx hb hts in_X0 hown hK hP 0 rfl rfl 7 (by decide) (hts _ q35) (fun _ h9 => h9) rfl dX0_allowedBy_7 ?_
        refine lv_iload hx hb dX0_allowedBy_10 (lv_at hl 0 rfl) ?_
        refine tn_iald hx hb hK hP 6 0 rfl rfl (j := 3 * k) (by omega) (by decide) dX0_allowedBy_12 ?_
        refine lv_iconst (v := (-1)) hx hb dX0_allowedBy_13 (by decide) ?_
        refine lv_iload hx hb dX0_allowedBy_14 (lv_at hl 5 rfl) ?_
        refine lv_isub hx hb dX0_allowedBy_16 ?_
        refine lv_icmp_ne (tgt := 24) hx hb dX0_allowedBy_17 (by decide) (fun _ => ?_) (fun z => absurd z e0)
        refine lv_iconst (v := nI 0) hx hb dX0_allowedBy_24 (by decide) ?_
        refine lv_aload_n hx hb dX0_allowedBy_25 rfl (lv_at hl 1 rfl) ?_
        refine va_get (D := D) (ci := 0) (v := .ref (a 7)) (C := RX0) (T := TX0) (N := 14) hx hb hts in_X0 hown hK hP 0 rfl rfl 7 (by decide) (hts _ q35) (fun _ h9 => h9) rfl dX0_allowedBy_26 ?_
        refine lv_iload hx hb dX0_allowedBy_29 (lv_at hl 0 rfl) ?_
        refine lv_iconst (v := nI 1) hx hb dX0_allowedBy_31 (by decide) ?_
        refine tn_iadd hx hb dX0_allowedBy_32 ?_
        refine tn_iald hx hb hK hP 6 0 rfl rfl (j := (3 * k) + 1) (by omega) (by decide) dX0_allowedBy_33 ?_
        refine lv_iconst (v := (-1)) hx hb dX0_allowedBy_34 (by decide) ?_
        refine lv_iload hx hb dX0_allowedBy_35 (lv_at hl 5 rfl) ?_
        refine lv_isub hx hb dX0_allowedBy_37 ?_
        refine lv_icmp_ne (tgt := 45) hx hb dX0_allowedBy_38 (by decide) (fun z => absurd z (Classical.not_not.mpr e1)) (fun _ => ?_)
        refine lv_iconst (v := nI 1) hx hb dX0_allowedBy_41 (by decide) ?_
        refine lv_goto (tgt := 46) hx hb dX0_allowedBy_42 (by decide) ?_
        refine tn_iadd hx hb dX0_allowedBy_46 ?_
        refine lv_aload_n hx hb dX0_allowedBy_47 rfl (lv_at hl 1 rfl) ?_
        refine va_get (D := D) (ci := 0) (v := .ref (a 7)) (C := RX0) (T := TX0) (N := 14) hx hb hts in_X0 hown hK hP 0 rfl rfl 7 (by decide) (hts _ q35) (fun _ h9 => h9) rfl dX0_allowedBy_48 ?_
        refine lv_iload hx hb dX0_allowedBy_51 (lv_at hl 0 rfl) ?_
        refine lv_iconst (v := nI 2) hx hb dX0_allowedBy_53 (by decide) ?_
        refine tn_iadd hx hb dX0_allowedBy_54 ?_
        refine tn_iald hx hb hK hP 6 0 rfl rfl (j := (3 * k) + 2) (by omega) (by decide) dX0_allowedBy_55 ?_
        refine lv_iconst (v := (-1)) hx hb dX0_allowedBy_56 (by decide) ?_
        refine lv_iload hx hb dX0_allowedBy_57 (lv_at hl 5 rfl) ?_
        refine lv_isub hx hb dX0_allowedBy_59 ?_
        refine lv_icmp_ne (tgt := 67) hx hb dX0_allowedBy_60 (by decide) (fun _ => ?_) (fun z => absurd z e2)
        refine lv_iconst (v := nI 0) hx hb dX0_allowedBy_67 (by decide) ?_
        refine tn_iadd hx hb dX0_allowedBy_68 ?_
        refine lv_istore (lv' := [(7, .int (nI ((0 + 1) + 0))), (6, .int (nI (3 * k))), (0, .ref h), (1, .int s_), (2, .int p_), (3, .int o_), (4, .int (nI V)), (5, .int (nI k))]) hx hb dX0_allowedBy_69 hl (by decide) rfl (fun ls hl => ?_)
        refine lv_iload hx hb dX0_allowedBy_71 (lv_at hl 0 rfl) ?_
        refine lv_iconst (v := nI 1) hx hb dX0_allowedBy_73 (by decide) ?_
        refine tn_icmp_le (tgt := 89) hx hb dX0_allowedBy_74 (by decide) (by decide) (by decide) (fun _ => ?_) (fun z => absurd z (by decide))
        refine lv_aload_n hx hb dX0_allowedBy_89 rfl (lv_at hl 2 rfl) ?_
        refine va_get (D := D) (ci := 0) (v := .ref (a 7)) (C := RX0) (T := TX0) (N := 14) hx hb hts in_X0 hown hK hP 0 rfl rfl 7 (by decide) (hts _ q35) (fun _ h9 => h9) rfl dX0_allowedBy_90 ?_
        refine lv_iload hx hb dX0_allowedBy_93 (lv_at hl 1 rfl) ?_
        refine tn_iald hx hb hK hP 6 0 rfl rfl (j := 3 * k) (by omega) (by decide) dX0_allowedBy_95 ?_
        refine lv_iconst (v := (-1)) hx hb dX0_allowedBy_96 (by decide) ?_
        refine lv_iload hx hb dX0_allowedBy_97 (lv_at hl 6 rfl) ?_
        refine lv_isub hx hb dX0_allowedBy_99 ?_
        refine lv_icmp_ne (tgt := 157) hx hb dX0_allowedBy_100 (by decide) (fun _ => ?_) (fun z => absurd z e0)
        refine lv_aload_n hx hb dX0_allowedBy_157 rfl (lv_at hl 2 rfl) ?_
        refine va_get (D := D) (ci := 0) (v := .ref (a 7)) (C := RX0) (T := TX0) (N := 14) hx hb hts in_X0 hown hK hP 0 rfl rfl 7 (by decide) (hts _ q35) (fun _ h9 => h9) rfl dX0_allowedBy_158 ?_
        refine lv_iload hx hb dX0_allowedBy_161 (lv_at hl 1 rfl) ?_
        refine lv_iconst (v := nI 1) hx hb dX0_allowedBy_163 (by decide) ?_
        refine tn_iadd hx hb dX0_allowedBy_164 ?_
        refine tn_iald hx hb hK hP 6 0 rfl rfl (j := (3 * k) + 1) (by omega) (by decide) dX0_allowedBy_165 ?_
        refine lv_iconst (v := (-1)) hx hb dX0_allowedBy_166 (by decide) ?_
        refine lv_iload hx hb dX0_allowedBy_167 (lv_at hl 6 rfl) ?_
        refine lv_isub hx hb dX0_allowedBy_169 ?_
        refine lv_icmp_ne (tgt := 227) hx hb dX0_allowedBy_170 (by decide) (fun z => absurd z (Classical.not_not.mpr e1)) (fun _ => ?_)
        rcases hs with ⟨S, hS8, rfl⟩ | rfl
        · refine lv_iload_n hx hb dX0_allowedBy_173 rfl (lv_at hl 3 rfl) ?_
          refine tn_if_lt (tgt := 195) hx hb dX0_allowedBy_174 (by decide) (by omega) ?_
          rcases ho with ⟨O, hO8, rfl⟩ | rfl
          · refine lv_iload_n hx hb dX0_allowedBy_177 rfl (lv_at hl 5 rfl) ?_
            refine tn_if_lt (tgt := 195) hx hb dX0_allowedBy_178 (by decide) (by omega) ?_
            refine lv_aload_n hx hb dX0_allowedBy_181 rfl (lv_at hl 2 rfl) ?_
            refine va_get (D := D) (ci := 0) (v := .ref (a 2)) (C := RX0) (T := TX0) (N := 14) hx hb hts in_X0 hown hK hP 0 rfl rfl 2 (by decide) (hts _ q30) (fun _ h9 => h9) rfl dX0_allowedBy_182 ?_
            refine lv_bipush (v := nI 8) hx hb dX0_allowedBy_185 (by decide) ?_
            refine lv_iload_n hx hb dX0_allowedBy_187 rfl (lv_at hl 3 rfl) ?_
            refine tn_imul hx hb dX0_allowedBy_188 ?_
            refine lv_iload_n hx hb dX0_allowedBy_189 rfl (lv_at hl 5 rfl) ?_
            refine tn_iadd hx hb dX0_allowedBy_190 ?_
            refine tn_iald hx hb hK hP 2 0 rfl rfl (j := (8 * S) + O) (by omega) (by decide) dX0_allowedBy_191 ?_
            refine lv_goto (tgt := 226) hx hb dX0_allowedBy_192 (by decide) ?_
            exact W.iret (v := pr ((8 * S) + O)) hx hb hr (fun t ht hW => ⟨_, rfl, (tby_p3 F pl V k e0 e1 e2 hS8 hO8 (hI.2.1 S O hS8 hO8).2.1), ht⟩) (fun _ h9 => nomatch h9) dX0_allowedBy_226
          · refine lv_iload_n hx hb dX0_allowedBy_177 rfl (lv_at hl 5 rfl) ?_
            refine lv_if_lt (tgt := 195) hx hb dX0_allowedBy_178 (by decide) (fun _ => ?_) (fun z => absurd z (by decide))
            refine lv_iload_n hx hb dX0_allowedBy_195 rfl (lv_at hl 3 rfl) ?_
            refine tn_if_lt (tgt := 208) hx hb dX0_allowedBy_196 (by decide) (by omega) ?_
            refine lv_aload_n hx hb dX0_allowedBy_199 rfl (lv_at hl 2 rfl) ?_
            refine lv_iconst (v := nI 0) hx hb dX0_allowedBy_200 (by decide) ?_
            refine lv_iload_n hx hb dX0_allowedBy_201 rfl (lv_at hl 3 rfl) ?_
            refine vp_callSi (W.runV (As := [.int (nI 0), .int (nI S)]) (rest := []) ⟨hx, hb, hml, hown, hts⟩ (m_ways 0 S (by decide) hS8) (cwV 2 hts (lw_V q138 q140 qs9 q18 q141) rfl rfl rfl (by decide +kernel) ⟨Nat.le_of_ble_eq_true rfl, Nat.le_of_ble_eq_true rfl⟩) (pJ_preJ hK hP hD rfl) rfl rfl hl.1 rfl (lv_room (Nat.le_of_ble_eq_true rfl)) dX0_allowedBy_202 ⟨Nat.le_refl _, Nat.le_refl _⟩) (fun r_202 hr_202 => ?_)
            subst hr_202
            refine lv_goto (tgt := 226) hx hb dX0_allowedBy_205 (by decide) ?_
            exact W.iret (v := nI (tmk (fun q_ => decide (0 < go (64 * 0 + 8 * S + q_))) 8)) hx hb hr (fun t ht hW => ⟨_, rfl, (tby_p1 hI pl V k e0 e1 e2 hS8), ht⟩) (fun _ h9 => nomatch h9) dX0_allowedBy_226
        · refine lv_iload_n hx hb dX0_allowedBy_173 rfl (lv_at hl 3 rfl) ?_
          refine lv_if_lt (tgt := 195) hx hb dX0_allowedBy_174 (by decide) (fun _ => ?_) (fun z => absurd z (by decide))
          refine lv_iload_n hx hb dX0_allowedBy_195 rfl (lv_at hl 3 rfl) ?_
          refine lv_if_lt (tgt := 208) hx hb dX0_allowedBy_196 (by decide) (fun _ => ?_) (fun z => absurd z (by decide))
          rcases ho with ⟨O, hO8, rfl⟩ | rfl
          · refine lv_iload_n hx hb dX0_allowedBy_208 rfl (lv_at hl 5 rfl) ?_
            refine tn_if_lt (tgt := 221) hx hb dX0_allowedBy_209 (by decide) (by omega) ?_
            refine lv_aload_n hx hb dX0_allowedBy_212 rfl (lv_at hl 2 rfl) ?_
            refine lv_iconst (v := nI 5) hx hb dX0_allowedBy_213 (by decide) ?_
            refine lv_iload_n hx hb dX0_allowedBy_214 rfl (lv_at hl 5 rfl) ?_
            refine vp_callSi (W.runV (As := [.int (nI 5), .int (nI O)]) (rest := []) ⟨hx, hb, hml, hown, hts⟩ (m_ways 5 O (by decide) hO8) (cwV 2 hts (lw_V q138 q140 qs9 q18 q141) rfl rfl rfl (by decide +kernel) ⟨Nat.le_of_ble_eq_true rfl, Nat.le_of_ble_eq_true rfl⟩) (pJ_preJ hK hP hD rfl) rfl rfl hl.1 rfl (lv_room (Nat.le_of_ble_eq_true rfl)) dX0_allowedBy_215 ⟨Nat.le_refl _, Nat.le_refl _⟩) (fun r_215 hr_215 => ?_)
            subst hr_215
            refine lv_goto (tgt := 226) hx hb dX0_allowedBy_218 (by decide) ?_
            exact W.iret (v := nI (tmk (fun q_ => decide (0 < go (64 * 5 + 8 * O + q_))) 8)) hx hb hr (fun t ht hW => ⟨_, rfl, (tby_p2 hI pl V k e0 e1 e2 hO8), ht⟩) (fun _ h9 => nomatch h9) dX0_allowedBy_226
          · refine lv_iload_n hx hb dX0_allowedBy_208 rfl (lv_at hl 5 rfl) ?_
            refine lv_if_lt (tgt := 221) hx hb dX0_allowedBy_209 (by decide) (fun _ => ?_) (fun z => absurd z (by decide))
            refine lv_aload_n hx hb dX0_allowedBy_221 rfl (lv_at hl 2 rfl) ?_
            refine lv_iconst (v := nI 1) hx hb dX0_allowedBy_222 (by decide) ?_
            refine vp_callSi (W.runV (As := [.int (nI 1)]) (rest := []) ⟨hx, hb, hml, hown, hts⟩ (m_alone 1 (by decide)) (cwV 1 hts (lw_V q142 q144 qs10 q18 q145) rfl rfl rfl (by decide +kernel) ⟨Nat.le_of_ble_eq_true rfl, Nat.le_of_ble_eq_true rfl⟩) (pJ_preJ hK hP hD rfl) rfl rfl hl.1 rfl (lv_room (Nat.le_of_ble_eq_true rfl)) dX0_allowedBy_223 ⟨Nat.le_refl _, Nat.le_refl _⟩) (fun r_223 hr_223 => ?_)
            subst hr_223
            exact W.iret (v := nI (tmk (fun q_ => decide (0 < si (8 * 1 + q_))) 8)) hx hb hr (fun t ht hW => ⟨_, rfl, (tby_p0 hI pl V k e0 e1 e2), ht⟩) (fun _ h9 => nomatch h9) dX0_allowedBy_226
    · by_cases e2 : pl (3 * k + 2) = -1 - nI V
      · refine lv_aload_n hx hb dX0_allowedBy_6 rfl (lv_at hl 1 rfl) ?_
        refine va_get (D := D) (ci := 0) (v := .ref (a 7)) (C := RX0) (T := TX0) (N := 14) hx hb hts in_X0 hown hK hP 0 rfl rfl 7 (by decide) (hts _ q35) (fun _ h9 => h9) rfl dX0_allowedBy_7 ?_
        refine lv_iload hx hb dX0_allowedBy_10 (lv_at hl 0 rfl) ?_
        refine tn_iald hx hb hK hP 6 0 rfl rfl (j := 3 * k) (by omega) (by decide) dX0_allowedBy_12 ?_
        refine lv_iconst (v := (-1)) hx hb dX0_allowedBy_13 (by decide) ?_
        refine lv_iload hx hb dX0_allowedBy_14 (lv_at hl 5 rfl) ?_
        refine lv_isub hx hb dX0_allowedBy_16 ?_
        refine lv_icmp_ne (tgt := 24) hx hb dX0_allowedBy_17 (by decide) (fun _ => ?_) (fun z => absurd z e0)
        refine lv_iconst (v := nI 0) hx hb dX0_allowedBy_24 (by decide) ?_
        refine lv_aload_n hx hb dX0_allowedBy_25 rfl (lv_at hl 1 rfl) ?_
        refine va_get (D := D) (ci := 0) (v := .ref (a 7)) (C := RX0) (T := TX0) (N := 14) hx hb hts in_X0 hown hK hP 0 rfl rfl 7 (by decide) (hts _ q35) (fun _ h9 => h9) rfl dX0_allowedBy_26 ?_
        refine lv_iload hx hb dX0_allowedBy_29 (lv_at hl 0 rfl) ?_
        refine lv_iconst (v := nI 1) hx hb dX0_allowedBy_31 (by decide) ?_
        refine tn_iadd hx hb dX0_allowedBy_32 ?_
        refine tn_iald hx hb hK hP 6 0 rfl rfl (j := (3 * k) + 1) (by omega) (by decide) dX0_allowedBy_33 ?_
        refine lv_iconst (v := (-1)) hx hb dX0_allowedBy_34 (by decide) ?_
        refine lv_iload hx hb dX0_allowedBy_35 (lv_at hl 5 rfl) ?_
        refine lv_isub hx hb dX0_allowedBy_37 ?_
        refine lv_icmp_ne (tgt := 45) hx hb dX0_allowedBy_38 (by decide) (fun _ => ?_) (fun z => absurd z e1)
        refine lv_iconst (v := nI 0) hx hb dX0_allowedBy_45 (by decide) ?_
        refine tn_iadd hx hb dX0_allowedBy_46 ?_
        refine lv_aload_n hx hb dX0_allowedBy_47 rfl (lv_at hl 1 rfl) ?_
        refine va_get (D := D) (ci := 0) (v := .ref (a 7)) (C := RX0) (T := TX0) (N := 14) hx hb hts in_X0 hown hK hP 0 rfl rfl 7 (by decide) (hts _ q35) (fun _ h9 => h9) rfl dX0_allowedBy_48 ?_
        refine lv_iload hx hb dX0_allowedBy_51 (lv_at hl 0 rfl) ?_
        refine lv_iconst (v := nI 2) hx hb dX0_allowedBy_53 (by decide) ?_
        refine tn_iadd hx hb dX0_allowedBy_54 ?_
        refine tn_iald hx hb hK hP 6 0 rfl rfl (j := (3 * k) + 2) (by omega) (by decide) dX0_allowedBy_55 ?_
        refine lv_iconst (v := (-1)) hx hb dX0_allowedBy_56 (by decide) ?_
        refine lv_iload hx hb dX0_allowedBy_57 (lv_at hl 5 rfl) ?_
        refine lv_isub hx hb dX0_allowedBy_59 ?_
        refine lv_icmp_ne (tgt := 67) hx hb dX0_allowedBy_60 (by decide) (fun z => absurd z (Classical.not_not.mpr e2)) (fun _ => ?_)
        refine lv_iconst (v := nI 1) hx hb dX0_allowedBy_63 (by decide) ?_
        refine lv_goto (tgt := 68) hx hb dX0_allowedBy_64 (by decide) ?_
        refine tn_iadd hx hb dX0_allowedBy_68 ?_
        refine lv_istore (lv' := [(7, .int (nI ((0 + 0) + 1))), (6, .int (nI (3 * k))), (0, .ref h), (1, .int s_), (2, .int p_), (3, .int o_), (4, .int (nI V)), (5, .int (nI k))]) hx hb dX0_allowedBy_69 hl (by decide) rfl (fun ls hl => ?_)
        refine lv_iload hx hb dX0_allowedBy_71 (lv_at hl 0 rfl) ?_
        refine lv_iconst (v := nI 1) hx hb dX0_allowedBy_73 (by decide) ?_
        refine tn_icmp_le (tgt := 89) hx hb dX0_allowedBy_74 (by decide) (by decide) (by decide) (fun _ => ?_) (fun z => absurd z (by decide))
        refine lv_aload_n hx hb dX0_allowedBy_89 rfl (lv_at hl 2 rfl) ?_
        refine va_get (D := D) (ci := 0) (v := .ref (a 7)) (C := RX0) (T := TX0) (N := 14) hx hb hts in_X0 hown hK hP 0 rfl rfl 7 (by decide) (hts _ q35) (fun _ h9 => h9) rfl dX0_allowedBy_90 ?_
        refine lv_iload hx hb dX0_allowedBy_93 (lv_at hl 1 rfl) ?_
        refine tn_iald hx hb hK hP 6 0 rfl rfl (j := 3 * k) (by omega) (by decide) dX0_allowedBy_95 ?_
        refine lv_iconst (v := (-1)) hx hb dX0_allowedBy_96 (by decide) ?_
        refine lv_iload hx hb dX0_allowedBy_97 (lv_at hl 6 rfl) ?_
        refine lv_isub hx hb dX0_allowedBy_99 ?_
        refine lv_icmp_ne (tgt := 157) hx hb dX0_allowedBy_100 (by decide) (fun _ => ?_) (fun z => absurd z e0)
        refine lv_aload_n hx hb dX0_allowedBy_157 rfl (lv_at hl 2 rfl) ?_
        refine va_get (D := D) (ci := 0) (v := .ref (a 7)) (C := RX0) (T := TX0) (N := 14) hx hb hts in_X0 hown hK hP 0 rfl rfl 7 (by decide) (hts _ q35) (fun _ h9 => h9) rfl dX0_allowedBy_158 ?_
        refine lv_iload hx hb dX0_allowedBy_161 (lv_at hl 1 rfl) ?_
        refine lv_iconst (v := nI 1) hx hb dX0_allowedBy_163 (by decide) ?_
        refine tn_iadd hx hb dX0_allowedBy_164 ?_
        refine tn_iald hx hb hK hP 6 0 rfl rfl (j := (3 * k) + 1) (by omega) (by decide) dX0_allowedBy_165 ?_
        refine lv_iconst (v := (-1)) hx hb dX0_allowedBy_166 (by decide) ?_
        refine lv_iload hx hb dX0_allowedBy_167 (lv_at hl 6 rfl) ?_
        refine lv_isub hx hb dX0_allowedBy_169 ?_
        refine lv_icmp_ne (tgt := 227) hx hb dX0_allowedBy_170 (by decide) (fun _ => ?_) (fun z => absurd z e1)
        rcases hs with ⟨S, hS8, rfl⟩ | rfl
        · refine lv_iload_n hx hb dX0_allowedBy_227 rfl (lv_at hl 3 rfl) ?_
          refine tn_if_lt (tgt := 249) hx hb dX0_allowedBy_228 (by decide) (by omega) ?_
          rcases hp with ⟨P, hP8, rfl⟩ | rfl
          · refine lv_iload_n hx hb dX0_allowedBy_231 rfl (lv_at hl 4 rfl) ?_
            refine tn_if_lt (tgt := 249) hx hb dX0_allowedBy_232 (by decide) (by omega) ?_
            refine lv_aload_n hx hb dX0_allowedBy_235 rfl (lv_at hl 2 rfl) ?_
            refine va_get (D := D) (ci := 0) (v := .ref (a 1)) (C := RX0) (T := TX0) (N := 14) hx hb hts in_X0 hown hK hP 0 rfl rfl 1 (by decide) (hts _ q29) (fun _ h9 => h9) rfl dX0_allowedBy_236 ?_
            refine lv_bipush (v := nI 8) hx hb dX0_allowedBy_239 (by decide) ?_
            refine lv_iload_n hx hb dX0_allowedBy_241 rfl (lv_at hl 3 rfl) ?_
            refine tn_imul hx hb dX0_allowedBy_242 ?_
            refine lv_iload_n hx hb dX0_allowedBy_243 rfl (lv_at hl 4 rfl) ?_
            refine tn_iadd hx hb dX0_allowedBy_244 ?_
            refine tn_iald hx hb hK hP 1 0 rfl rfl (j := (8 * S) + P) (by omega) (by decide) dX0_allowedBy_245 ?_
            refine lv_goto (tgt := 280) hx hb dX0_allowedBy_246 (by decide) ?_
            exact W.iret (v := ob ((8 * S) + P)) hx hb hr (fun t ht hW => ⟨_, rfl, (tby_o3 F pl V k e0 e1 e2 hS8 hP8 (hI.2.1 S P hS8 hP8).1), ht⟩) (fun _ h9 => nomatch h9) dX0_allowedBy_280
          · refine lv_iload_n hx hb dX0_allowedBy_231 rfl (lv_at hl 4 rfl) ?_
            refine lv_if_lt (tgt := 249) hx hb dX0_allowedBy_232 (by decide) (fun _ => ?_) (fun z => absurd z (by decide))
            refine lv_iload_n hx hb dX0_allowedBy_249 rfl (lv_at hl 3 rfl) ?_
            refine tn_if_lt (tgt := 262) hx hb dX0_allowedBy_250 (by decide) (by omega) ?_
            refine lv_aload_n hx hb dX0_allowedBy_253 rfl (lv_at hl 2 rfl) ?_
            refine lv_iconst (v := nI 1) hx hb dX0_allowedBy_254 (by decide) ?_
            refine lv_iload_n hx hb dX0_allowedBy_255 rfl (lv_at hl 3 rfl) ?_
            refine vp_callSi (W.runV (As := [.int (nI 1), .int (nI S)]) (rest := []) ⟨hx, hb, hml, hown, hts⟩ (m_ways 1 S (by decide) hS8) (cwV 2 hts (lw_V q138 q140 qs9 q18 q141) rfl rfl rfl (by decide +kernel) ⟨Nat.le_of_ble_eq_true rfl, Nat.le_of_ble_eq_true rfl⟩) (pJ_preJ hK hP hD rfl) rfl rfl hl.1 rfl (lv_room (Nat.le_of_ble_eq_true rfl)) dX0_allowedBy_256 ⟨Nat.le_refl _, Nat.le_refl _⟩) (fun r_256 hr_256 => ?_)
            subst hr_256
            refine lv_goto (tgt := 280) hx hb dX0_allowedBy_259 (by decide) ?_
            exact W.iret (v := nI (tmk (fun q_ => decide (0 < go (64 * 1 + 8 * S + q_))) 8)) hx hb hr (fun t ht hW => ⟨_, rfl, (tby_o1 hI pl V k e0 e1 e2 hS8), ht⟩) (fun _ h9 => nomatch h9) dX0_allowedBy_280
        · refine lv_iload_n hx hb dX0_allowedBy_227 rfl (lv_at hl 3 rfl) ?_
          refine lv_if_lt (tgt := 249) hx hb dX0_allowedBy_228 (by decide) (fun _ => ?_) (fun z => absurd z (by decide))
          refine lv_iload_n hx hb dX0_allowedBy_249 rfl (lv_at hl 3 rfl) ?_
          refine lv_if_lt (tgt := 262) hx hb dX0_allowedBy_250 (by decide) (fun _ => ?_) (fun z => absurd z (by decide))
          rcases hp with ⟨P, hP8, rfl⟩ | rfl
          · refine lv_iload_n hx hb dX0_allowedBy_262 rfl (lv_at hl 4 rfl) ?_
            refine tn_if_lt (tgt := 275) hx hb dX0_allowedBy_263 (by decide) (by omega) ?_
            refine lv_aload_n hx hb dX0_allowedBy_266 rfl (lv_at hl 2 rfl) ?_
            refine lv_iconst (v := nI 3) hx hb dX0_allowedBy_267 (by decide) ?_
            refine lv_iload_n hx hb dX0_allowedBy_268 rfl (lv_at hl 4 rfl) ?_
            refine vp_callSi (W.runV (As := [.int (nI 3), .int (nI P)]) (rest := []) ⟨hx, hb, hml, hown, hts⟩ (m_ways 3 P (by decide) hP8) (cwV 2 hts (lw_V q138 q140 qs9 q18 q141) rfl rfl rfl (by decide +kernel) ⟨Nat.le_of_ble_eq_true rfl, Nat.le_of_ble_eq_true rfl⟩) (pJ_preJ hK hP hD rfl) rfl rfl hl.1 rfl (lv_room (Nat.le_of_ble_eq_true rfl)) dX0_allowedBy_269 ⟨Nat.le_refl _, Nat.le_refl _⟩) (fun r_269 hr_269 => ?_)
            subst hr_269
            refine lv_goto (tgt := 280) hx hb dX0_allowedBy_272 (by decide) ?_
            exact W.iret (v := nI (tmk (fun q_ => decide (0 < go (64 * 3 + 8 * P + q_))) 8)) hx hb hr (fun t ht hW => ⟨_, rfl, (tby_o2 hI pl V k e0 e1 e2 hP8), ht⟩) (fun _ h9 => nomatch h9) dX0_allowedBy_280
          · refine lv_iload_n hx hb dX0_allowedBy_262 rfl (lv_at hl 4 rfl) ?_
            refine lv_if_lt (tgt := 275) hx hb dX0_allowedBy_263 (by decide) (fun _ => ?_) (fun z => absurd z (by decide))
            refine lv_aload_n hx hb dX0_allowedBy_275 rfl (lv_at hl 2 rfl) ?_
            refine lv_iconst (v := nI 2) hx hb dX0_allowedBy_276 (by decide) ?_
            refine vp_callSi (W.runV (As := [.int (nI 2)]) (rest := []) ⟨hx, hb, hml, hown, hts⟩ (m_alone 2 (by decide)) (cwV 1 hts (lw_V q142 q144 qs10 q18 q145) rfl rfl rfl (by decide +kernel) ⟨Nat.le_of_ble_eq_true rfl, Nat.le_of_ble_eq_true rfl⟩) (pJ_preJ hK hP hD rfl) rfl rfl hl.1 rfl (lv_room (Nat.le_of_ble_eq_true rfl)) dX0_allowedBy_277 ⟨Nat.le_refl _, Nat.le_refl _⟩) (fun r_277 hr_277 => ?_)
            subst hr_277
            exact W.iret (v := nI (tmk (fun q_ => decide (0 < si (8 * 2 + q_))) 8)) hx hb hr (fun t ht hW => ⟨_, rfl, (tby_o0 hI pl V k e0 e1 e2), ht⟩) (fun _ h9 => nomatch h9) dX0_allowedBy_280
      · exact absurd hin (by unfold tin; rw [decide_eq_false e0, decide_eq_false e1, decide_eq_false e2]; decide)

set_option maxHeartbeats 1000000 in
set_option maxRecDepth 100000 in
/-- allowed -/
theorem m_allowed {l : Launch} {D : va_G} {d z : ClassId} {h : Nat} {a : Nat → Nat} {he : Int32} {ob pr su go si : Nat → Int32} {N : Nat} {pl : Nat → Int32} {nv : Int32} {vr bo ca vc : Nat → Int32} {sc : Int32} {F : Nat → Bool} (hI : tTI F he ob pr su go si) (hN : N ≤ 4) (hpl : ∀ j, j < 3 * N → tok (pl j)) (hbo : ∀ v, v < 4 → tkk (bo v)) (V : Nat) (hV : V < 4) : Met l yX0_allowed (ws_ yX0_allowed cX0_allowed 10 (some .int)) (rm_ 5 104) (pJ D d z (wJ h a d he ob pr su go si (nI N) pl nv vr bo ca vc sc) [.ref h, .int (nI V)]) (vp_Si (fun r_ => r_ = nI (tmk (fun q => tal F pl bo V q N) 8))) 0 0 (fun _ => False) := by
  refine Met.ofW (cc := cX0_allowed) (maxL := 10) (ret := (some .int)) (by decide) rfl ?_
  intro p e s m args below meth c s₁ B hml hv
  obtain ⟨rfl, hP, hK, hD⟩ := hv
  have hx := B.exec
  have hb := B.bytes
  have hr := B.returns
  have hts := atoms_spec (ws := (ws_ yX0_allowed cX0_allowed 10 (some .int))) B.pre
  have hts : ∀ w ∈ lw_all, w.before _ s = true := fun w h => hts w (List.mem_cons_of_mem _ h)
  have hown : s.vm.findClass RX0 = some m.cls := findClass_of_methodNamed B.named
  have hlocks := B.notSynchronized
  have hl := lv_entry ([.ref h, .int (nI V)]) (n := 10) (Nat.le_of_ble_eq_true rfl)
  rw [lg_entry_eq]
  generalize (lg_sl ([.ref h, .int (nI V)]) ++ List.replicate (10 - (lg_sl ([.ref h, .int (nI V)])).length) Slot.unset).toArray = ls at hl ⊢
  have hl : lv_has ls 10 [(0, .ref h), (1, .int (nI V))] := hl
  refine lv_sipush (v := nI 255) hx hb dX0_allowed_0 (by decide) ?_
  refine tn_as (nI (tmk (fun q => tal F pl bo V q 0) 8)) (by show nI 255 = nI (tmk (fun _ => true) 8); decide +kernel) ?_
  refine lv_istore_n (lv' := [(2, .int (nI (tmk (fun q => tal F pl bo V q 0) 8))), (0, .ref h), (1, .int (nI V))]) hx hb dX0_allowed_3 rfl hl (by decide) rfl (fun ls hl => ?_)
  refine lv_iconst (v := nI 0) hx hb dX0_allowed_4 (by decide) ?_
  refine lv_istore_n (lv' := [(3, .int (nI 0)), (2, .int (nI (tmk (fun q => tal F pl bo V q 0) 8))), (0, .ref h), (1, .int (nI V))]) hx hb dX0_allowed_5 rfl hl (by decide) rfl (fun ls hl => ?_)
  refine tn_for (fun k ls => lv_has ls 10 [(3, .int (nI k)), (2, .int (nI (tmk (fun q => tal F pl bo V q k) 8))), (0, .ref h), (1, .int (nI V))]) N 0 (by omega) (lv_sub hl [0, 1, 2, 3] rfl) (fun k ls hk hJ ih => ?_) (fun ls hJ => ?_)
  · have hl := hJ
    refine lv_iload_n hx hb dX0_allowed_6 rfl (lv_at hl 0 rfl) ?_
    refine lv_aload_n hx hb dX0_allowed_7 rfl (lv_at hl 2 rfl) ?_
    refine va_get (D := D) (ci := 0) (v := .int (nI N)) (C := RX0) (T := TX0) (N := 14) hx hb hts in_X0 hown hK hP 0 rfl rfl 6 (by decide) (hts _ q34) (fun _ h9 => h9) rfl dX0_allowed_8 ?_
    refine tn_icmp_ge (tgt := 117) hx hb dX0_allowed_11 (by decide) (by omega) (by omega) (fun z => absurd z (by omega)) (fun _ => ?_)
    refine lv_aload_n hx hb dX0_allowed_14 rfl (lv_at hl 2 rfl) ?_
    refine va_get (D := D) (ci := 0) (v := .ref (a 7)) (C := RX0) (T := TX0) (N := 14) hx hb hts in_X0 hown hK hP 0 rfl rfl 7 (by decide) (hts _ q35) (fun _ h9 => h9) rfl dX0_allowed_15 ?_
    refine lv_iconst (v := nI 3) hx hb dX0_allowed_18 (by decide) ?_
    refine lv_iload_n hx hb dX0_allowed_19 rfl (lv_at hl 0 rfl) ?_
    refine tn_imul hx hb dX0_allowed_20 ?_
    refine tn_iald hx hb hK hP 6 0 rfl rfl (j := 3 * k) (by omega) (by decide) dX0_allowed_21 ?_
    refine lv_istore (lv' := [(4, .int (pl (3 * k))), (3, .int (nI k)), (2, .int (nI (tmk (fun q => tal F pl bo V q k) 8))), (0, .ref h), (1, .int (nI V))]) hx hb dX0_allowed_22 hl (by decide) rfl (fun ls hl => ?_)
    refine lv_aload_n hx hb dX0_allowed_24 rfl (lv_at hl 3 rfl) ?_
    refine va_get (D := D) (ci := 0) (v := .ref (a 7)) (C := RX0) (T := TX0) (N := 14) hx hb hts in_X0 hown hK hP 0 rfl rfl 7 (by decide) (hts _ q35) (fun _ h9 => h9) rfl dX0_allowed_25 ?_
    refine lv_iconst (v := nI 3) hx hb dX0_allowed_28 (by decide) ?_
    refine lv_iload_n hx hb dX0_allowed_29 rfl (lv_at hl 1 rfl) ?_
    refine tn_imul hx hb dX0_allowed_30 ?_
    refine lv_iconst (v := nI 1) hx hb dX0_allowed_31 (by decide) ?_
    refine tn_iadd hx hb dX0_allowed_32 ?_
    refine tn_iald hx hb hK hP 6 0 rfl rfl (j := (3 * k) + 1) (by omega) (by decide) dX0_allowed_33 ?_
    refine lv_istore (lv' := [(5, .int (pl ((3 * k) + 1))), (4, .int (pl (3 * k))), (3, .int (nI k)), (2, .int (nI (tmk (fun q => tal F pl bo V q k) 8))), (0, .ref h), (1, .int (nI V))]) hx hb dX0_allowed_34 hl (by decide) rfl (fun ls hl => ?_)
    refine lv_aload_n hx hb dX0_allowed_36 rfl (lv_at hl 4 rfl) ?_
    refine va_get (D := D) (ci := 0) (v := .ref (a 7)) (C := RX0) (T := TX0) (N := 14) hx hb hts in_X0 hown hK hP 0 rfl rfl 7 (by decide) (hts _ q35) (fun _ h9 => h9) rfl dX0_allowed_37 ?_
    refine lv_iconst (v := nI 3) hx hb dX0_allowed_40 (by decide) ?_
    refine lv_iload_n hx hb dX0_allowed_41 rfl (lv_at hl 2 rfl) ?_
    refine tn_imul hx hb dX0_allowed_42 ?_
    refine lv_iconst (v := nI 2) hx hb dX0_allowed_43 (by decide) ?_
    refine tn_iadd hx hb dX0_allowed_44 ?_
    refine tn_iald hx hb hK hP 6 0 rfl rfl (j := (3 * k) + 2) (by omega) (by decide) dX0_allowed_45 ?_
    refine lv_istore (lv' := [(6, .int (pl ((3 * k) + 2))), (5, .int (pl ((3 * k) + 1))), (4, .int (pl (3 * k))), (3, .int (nI k)), (2, .int (nI (tmk (fun q => tal F pl bo V q k) 8))), (0, .ref h), (1, .int (nI V))]) hx hb dX0_allowed_46 hl (by decide) rfl (fun ls hl => ?_)
    refine lv_iload hx hb dX0_allowed_48 (lv_at hl 2 rfl) ?_
    refine lv_iconst (v := (-1)) hx hb dX0_allowed_50 (by decide) ?_
    refine lv_iload_n hx hb dX0_allowed_51 rfl (lv_at hl 6 rfl) ?_
    refine lv_isub hx hb dX0_allowed_52 ?_
    refine lv_icmp_eq (tgt := 72) hx hb dX0_allowed_53 (by decide) (fun c_53 => ?_) (fun c_53 => ?_)
    · have hin : tin pl V k = true := by unfold tin; rw [decide_eq_true c_53]; simp
      refine lv_aload_n hx hb dX0_allowed_72 rfl (lv_at hl 5 rfl) ?_
      refine lv_iload hx hb dX0_allowed_73 (lv_at hl 2 rfl) ?_
      refine vp_callSi (W.runV (As := [.int (pl (3 * k))]) (rest := []) ⟨hx, hb, hml, hown, hts⟩ (m_known (pl (3 * k)) (hpl _ (by omega))) (cwV 1 hts (lw_V q119 q121 qs6 q18 q122) rfl rfl rfl (by decide +kernel) ⟨Nat.le_of_ble_eq_true rfl, Nat.le_of_ble_eq_true rfl⟩) (pJ_preJ hK hP hD rfl) rfl rfl hl.1 rfl (lv_room (Nat.le_of_ble_eq_true rfl)) dX0_allowed_75 ⟨Nat.le_refl _, Nat.le_refl _⟩) (fun r_75 hr_75 => ?_)
      subst hr_75
      refine lv_istore (lv' := [(7, .int (tkn bo (pl (3 * k)))), (6, .int (pl ((3 * k) + 2))), (5, .int (pl ((3 * k) + 1))), (4, .int (pl (3 * k))), (3, .int (nI k)), (2, .int (nI (tmk (fun q => tal F pl bo V q k) 8))), (0, .ref h), (1, .int (nI V))]) hx hb dX0_allowed_78 hl (by decide) rfl (fun ls hl => ?_)
      refine lv_aload_n hx hb dX0_allowed_80 rfl (lv_at hl 6 rfl) ?_
      refine lv_iload hx hb dX0_allowed_81 (lv_at hl 2 rfl) ?_
      refine vp_callSi (W.runV (As := [.int (pl ((3 * k) + 1))]) (rest := []) ⟨hx, hb, hml, hown, hts⟩ (m_known (pl (3 * k + 1)) (hpl _ (by omega))) (cwV 1 hts (lw_V q119 q121 qs6 q18 q122) rfl rfl rfl (by decide +kernel) ⟨Nat.le_of_ble_eq_true rfl, Nat.le_of_ble_eq_true rfl⟩) (pJ_preJ hK hP hD rfl) rfl rfl hl.1 rfl (lv_room (Nat.le_of_ble_eq_true rfl)) dX0_allowed_83 ⟨Nat.le_refl _, Nat.le_refl _⟩) (fun r_83 hr_83 => ?_)
      subst hr_83
      refine lv_istore (lv' := [(8, .int (tkn bo (pl (3 * k + 1)))), (7, .int (tkn bo (pl (3 * k)))), (6, .int (pl ((3 * k) + 2))), (5, .int (pl ((3 * k) + 1))), (4, .int (pl (3 * k))), (3, .int (nI k)), (2, .int (nI (tmk (fun q => tal F pl bo V q k) 8))), (0, .ref h), (1, .int (nI V))]) hx hb dX0_allowed_86 hl (by decide) rfl (fun ls hl => ?_)
      refine lv_aload_n hx hb dX0_allowed_88 rfl (lv_at hl 7 rfl) ?_
      refine lv_iload hx hb dX0_allowed_89 (lv_at hl 2 rfl) ?_
      refine vp_callSi (W.runV (As := [.int (pl ((3 * k) + 2))]) (rest := []) ⟨hx, hb, hml, hown, hts⟩ (m_known (pl (3 * k + 2)) (hpl _ (by omega))) (cwV 1 hts (lw_V q119 q121 qs6 q18 q122) rfl rfl rfl (by decide +kernel) ⟨Nat.le_of_ble_eq_true rfl, Nat.le_of_ble_eq_true rfl⟩) (pJ_preJ hK hP hD rfl) rfl rfl hl.1 rfl (lv_room (Nat.le_of_ble_eq_true rfl)) dX0_allowed_91 ⟨Nat.le_refl _, Nat.le_refl _⟩) (fun r_91 hr_91 => ?_)
      subst hr_91
      refine lv_istore (lv' := [(9, .int (tkn bo (pl (3 * k + 2)))), (8, .int (tkn bo (pl (3 * k + 1)))), (7, .int (tkn bo (pl (3 * k)))), (6, .int (pl ((3 * k) + 2))), (5, .int (pl ((3 * k) + 1))), (4, .int (pl (3 * k))), (3, .int (nI k)), (2, .int (nI (tmk (fun q => tal F pl bo V q k) 8))), (0, .ref h), (1, .int (nI V))]) hx hb dX0_allowed_94 hl (by decide) rfl (fun ls hl => ?_)
      refine lv_iload_n hx hb dX0_allowed_96 rfl (lv_at hl 7 rfl) ?_
      refine lv_aload_n hx hb dX0_allowed_97 rfl (lv_at hl 8 rfl) ?_
      refine lv_iload hx hb dX0_allowed_98 (lv_at hl 2 rfl) ?_
      refine lv_iload hx hb dX0_allowed_100 (lv_at hl 1 rfl) ?_
      refine lv_iload hx hb dX0_allowed_102 (lv_at hl 0 rfl) ?_
      refine lv_iload_n hx hb dX0_allowed_104 rfl (lv_at hl 9 rfl) ?_
      refine lv_iload_n hx hb dX0_allowed_105 rfl (lv_at hl 6 rfl) ?_
      refine vp_callSi (W.runV (As := [.int (tkn bo (pl (3 * k))), .int (tkn bo (pl (3 * k + 1))), .int (tkn bo (pl (3 * k + 2))), .int (nI V), .int (nI k)]) (rest := [.int (nI (tmk (fun q => tal F pl bo V q k) 8))]) ⟨hx, hb, hml, hown, hts⟩ (m_allowedBy hI (tkn bo (pl (3 * k))) (tkn bo (pl (3 * k + 1))) (tkn bo (pl (3 * k + 2))) V k hV (by omega) hin (tkn_ok (hpl _ (by omega)) hbo) (tkn_ok (hpl _ (by omega)) hbo) (tkn_ok (hpl _ (by omega)) hbo)) (cwV 5 hts (lw_V q123 q125 qs7 q18 q126) rfl rfl rfl (by decide +kernel) ⟨Nat.le_of_ble_eq_true rfl, Nat.le_of_ble_eq_true rfl⟩) (pJ_preJ hK hP hD rfl) rfl rfl hl.1 rfl (lv_room (Nat.le_of_ble_eq_true rfl)) dX0_allowed_106 ⟨Nat.le_refl _, Nat.le_refl _⟩) (fun r_106 hr_106 => ?_)
      subst hr_106
      refine lv_iand hx hb dX0_allowed_109 ?_
      refine tn_as (nI (tmk (fun q => tal F pl bo V q (k + 1)) 8)) (by rw [tmk_and]; congr 1; refine tmk_congr 8 (fun q hq => ?_); show _ = (tal F pl bo V q k && (!tin pl V k || _)); rw [hin]; rfl) ?_
      refine lv_istore_n (lv' := [(2, .int (nI (tmk (fun q => tal F pl bo V q (k + 1)) 8))), (9, .int (tkn bo (pl (3 * k + 2)))), (8, .int (tkn bo (pl (3 * k + 1)))), (7, .int (tkn bo (pl (3 * k)))), (6, .int (pl ((3 * k) + 2))), (5, .int (pl ((3 * k) + 1))), (4, .int (pl (3 * k))), (3, .int (nI k)), (0, .ref h), (1, .int (nI V))]) hx hb dX0_allowed_110 rfl hl (by decide) rfl (fun ls hl => ?_)
      refine lv_iinc (v := nI (k + 1)) (lv' := [(3, .int (nI (k + 1))), (2, .int (nI (tmk (fun q => tal F pl bo V q (k + 1)) 8))), (9, .int (tkn bo (pl (3 * k + 2)))), (8, .int (tkn bo (pl (3 * k + 1)))), (7, .int (tkn bo (pl (3 * k)))), (6, .int (pl ((3 * k) + 2))), (5, .int (pl ((3 * k) + 1))), (4, .int (pl (3 * k))), (0, .ref h), (1, .int (nI V))]) hx hb dX0_allowed_111 hl (k := 7) rfl (nI_1 _) (by decide) rfl (fun ls hl => ?_)
      refine lv_goto (tgt := 6) hx hb dX0_allowed_114 (by decide) ?_
      exact ih _ (lv_sub hl [0, 1, 8, 9] rfl)
    · refine lv_iload hx hb dX0_allowed_56 (lv_at hl 1 rfl) ?_
      refine lv_iconst (v := (-1)) hx hb dX0_allowed_58 (by decide) ?_
      refine lv_iload_n hx hb dX0_allowed_59 rfl (lv_at hl 6 rfl) ?_
      refine lv_isub hx hb dX0_allowed_60 ?_
      refine lv_icmp_eq (tgt := 72) hx hb dX0_allowed_61 (by decide) (fun c_61 => ?_) (fun c_61 => ?_)
      · have hin : tin pl V k = true := by unfold tin; rw [decide_eq_true c_61]; simp
        refine lv_aload_n hx hb dX0_allowed_72 rfl (lv_at hl 5 rfl) ?_
        refine lv_iload hx hb dX0_allowed_73 (lv_at hl 2 rfl) ?_
        refine vp_callSi (W.runV (As := [.int (pl (3 * k))]) (rest := []) ⟨hx, hb, hml, hown, hts⟩ (m_known (pl (3 * k)) (hpl _ (by omega))) (cwV 1 hts (lw_V q119 q121 qs6 q18 q122) rfl rfl rfl (by decide +kernel) ⟨Nat.le_of_ble_eq_true rfl, Nat.le_of_ble_eq_true rfl⟩) (pJ_preJ hK hP hD rfl) rfl rfl hl.1 rfl (lv_room (Nat.le_of_ble_eq_true rfl)) dX0_allowed_75 ⟨Nat.le_refl _, Nat.le_refl _⟩) (fun r_75 hr_75 => ?_)
        subst hr_75
        refine lv_istore (lv' := [(7, .int (tkn bo (pl (3 * k)))), (6, .int (pl ((3 * k) + 2))), (5, .int (pl ((3 * k) + 1))), (4, .int (pl (3 * k))), (3, .int (nI k)), (2, .int (nI (tmk (fun q => tal F pl bo V q k) 8))), (0, .ref h), (1, .int (nI V))]) hx hb dX0_allowed_78 hl (by decide) rfl (fun ls hl => ?_)
        refine lv_aload_n hx hb dX0_allowed_80 rfl (lv_at hl 6 rfl) ?_
        refine lv_iload hx hb dX0_allowed_81 (lv_at hl 2 rfl) ?_
        refine vp_callSi (W.runV (As := [.int (pl ((3 * k) + 1))]) (rest := []) ⟨hx, hb, hml, hown, hts⟩ (m_known (pl (3 * k + 1)) (hpl _ (by omega))) (cwV 1 hts (lw_V q119 q121 qs6 q18 q122) rfl rfl rfl (by decide +kernel) ⟨Nat.le_of_ble_eq_true rfl, Nat.le_of_ble_eq_true rfl⟩) (pJ_preJ hK hP hD rfl) rfl rfl hl.1 rfl (lv_room (Nat.le_of_ble_eq_true rfl)) dX0_allowed_83 ⟨Nat.le_refl _, Nat.le_refl _⟩) (fun r_83 hr_83 => ?_)
        subst hr_83
        refine lv_istore (lv' := [(8, .int (tkn bo (pl (3 * k + 1)))), (7, .int (tkn bo (pl (3 * k)))), (6, .int (pl ((3 * k) + 2))), (5, .int (pl ((3 * k) + 1))), (4, .int (pl (3 * k))), (3, .int (nI k)), (2, .int (nI (tmk (fun q => tal F pl bo V q k) 8))), (0, .ref h), (1, .int (nI V))]) hx hb dX0_allowed_86 hl (by decide) rfl (fun ls hl => ?_)
        refine lv_aload_n hx hb dX0_allowed_88 rfl (lv_at hl 7 rfl) ?_
        refine lv_iload hx hb dX0_allowed_89 (lv_at hl 2 rfl) ?_
        refine vp_callSi (W.runV (As := [.int (pl ((3 * k) + 2))]) (rest := []) ⟨hx, hb, hml, hown, hts⟩ (m_known (pl (3 * k + 2)) (hpl _ (by omega))) (cwV 1 hts (lw_V q119 q121 qs6 q18 q122) rfl rfl rfl (by decide +kernel) ⟨Nat.le_of_ble_eq_true rfl, Nat.le_of_ble_eq_true rfl⟩) (pJ_preJ hK hP hD rfl) rfl rfl hl.1 rfl (lv_room (Nat.le_of_ble_eq_true rfl)) dX0_allowed_91 ⟨Nat.le_refl _, Nat.le_refl _⟩) (fun r_91 hr_91 => ?_)
        subst hr_91
        refine lv_istore (lv' := [(9, .int (tkn bo (pl (3 * k + 2)))), (8, .int (tkn bo (pl (3 * k + 1)))), (7, .int (tkn bo (pl (3 * k)))), (6, .int (pl ((3 * k) + 2))), (5, .int (pl ((3 * k) + 1))), (4, .int (pl (3 * k))), (3, .int (nI k)), (2, .int (nI (tmk (fun q => tal F pl bo V q k) 8))), (0, .ref h), (1, .int (nI V))]) hx hb dX0_allowed_94 hl (by decide) rfl (fun ls hl => ?_)
        refine lv_iload_n hx hb dX0_allowed_96 rfl (lv_at hl 7 rfl) ?_
        refine lv_aload_n hx hb dX0_allowed_97 rfl (lv_at hl 8 rfl) ?_
        refine lv_iload hx hb dX0_allowed_98 (lv_at hl 2 rfl) ?_
        refine lv_iload hx hb dX0_allowed_100 (lv_at hl 1 rfl) ?_
        refine lv_iload hx hb dX0_allowed_102 (lv_at hl 0 rfl) ?_
        refine lv_iload_n hx hb dX0_allowed_104 rfl (lv_at hl 9 rfl) ?_
        refine lv_iload_n hx hb dX0_allowed_105 rfl (lv_at hl 6 rfl) ?_
        refine vp_callSi (W.runV (As := [.int (tkn bo (pl (3 * k))), .int (tkn bo (pl (3 * k + 1))), .int (tkn bo (pl (3 * k + 2))), .int (nI V), .int (nI k)]) (rest := [.int (nI (tmk (fun q => tal F pl bo V q k) 8))]) ⟨hx, hb, hml, hown, hts⟩ (m_allowedBy hI (tkn bo (pl (3 * k))) (tkn bo (pl (3 * k + 1))) (tkn bo (pl (3 * k + 2))) V k hV (by omega) hin (tkn_ok (hpl _ (by omega)) hbo) (tkn_ok (hpl _ (by omega)) hbo) (tkn_ok (hpl _ (by omega)) hbo)) (cwV 5 hts (lw_V q123 q125 qs7 q18 q126) rfl rfl rfl (by decide +kernel) ⟨Nat.le_of_ble_eq_true rfl, Nat.le_of_ble_eq_true rfl⟩) (pJ_preJ hK hP hD rfl) rfl rfl hl.1 rfl (lv_room (Nat.le_of_ble_eq_true rfl)) dX0_allowed_106 ⟨Nat.le_refl _, Nat.le_refl _⟩) (fun r_106 hr_106 => ?_)
        subst hr_106
        refine lv_iand hx hb dX0_allowed_109 ?_
        refine tn_as (nI (tmk (fun q => tal F pl bo V q (k + 1)) 8)) (by rw [tmk_and]; congr 1; refine tmk_congr 8 (fun q hq => ?_); show _ = (tal F pl bo V q k && (!tin pl V k || _)); rw [hin]; rfl) ?_
        refine lv_istore_n (lv' := [(2, .int (nI (tmk (fun q => tal F pl bo V q (k + 1)) 8))), (9, .int (tkn bo (pl (3 * k + 2)))), (8, .int (tkn bo (pl (3 * k + 1)))), (7, .int (tkn bo (pl (3 * k)))), (6, .int (pl ((3 * k) + 2))), (5, .int (pl ((3 * k) + 1))), (4, .int (pl (3 * k))), (3, .int (nI k)), (0, .ref h), (1, .int (nI V))]) hx hb dX0_allowed_110 rfl hl (by decide) rfl (fun ls hl => ?_)
        refine lv_iinc (v := nI (k + 1)) (lv' := [(3, .int (nI (k + 1))), (2, .int (nI (tmk (fun q => tal F pl bo V q (k + 1)) 8))), (9, .int (tkn bo (pl (3 * k + 2)))), (8, .int (tkn bo (pl (3 * k + 1)))), (7, .int (tkn bo (pl (3 * k)))), (6, .int (pl ((3 * k) + 2))), (5, .int (pl ((3 * k) + 1))), (4, .int (pl (3 * k))), (0, .ref h), (1, .int (nI V))]) hx hb dX0_allowed_111 hl (k := 7) rfl (nI_1 _) (by decide) rfl (fun ls hl => ?_)
        refine lv_goto (tgt := 6) hx hb dX0_allowed_114 (by decide) ?_
        exact ih _ (lv_sub hl [0, 1, 8, 9] rfl)
      · refine lv_iload hx hb dX0_allowed_64 (lv_at hl 0 rfl) ?_
        refine lv_iconst (v := (-1)) hx hb dX0_allowed_66 (by decide) ?_
        refine lv_iload_n hx hb dX0_allowed_67 rfl (lv_at hl 6 rfl) ?_
        refine lv_isub hx hb dX0_allowed_68 ?_
        refine lv_icmp_ne (tgt := 111) hx hb dX0_allowed_69 (by decide) (fun c_69 => ?_) (fun c_69 => ?_)
        · refine lv_iinc (v := nI (k + 1)) (lv' := [(3, .int (nI (k + 1))), (6, .int (pl ((3 * k) + 2))), (5, .int (pl ((3 * k) + 1))), (4, .int (pl (3 * k))), (2, .int (nI (tmk (fun q => tal F pl bo V q k) 8))), (0, .ref h), (1, .int (nI V))]) hx hb dX0_allowed_111 hl (k := 3) rfl (nI_1 _) (by decide) rfl (fun ls hl => ?_)
          refine lv_goto (tgt := 6) hx hb dX0_allowed_114 (by decide) ?_
          have ex : (fun q => tal F pl bo V q (k + 1)) = fun q => tal F pl bo V q k := funext (fun q => by show (tal F pl bo V q k && (!tin pl V k || _)) = _; rw [show tin pl V k = false by unfold tin; rw [decide_eq_false c_53, decide_eq_false c_61, decide_eq_false c_69]; rfl]; simp)
          rw [← ex] at hl
          exact ih _ (lv_sub hl [0, 4, 5, 6] rfl)
        · have hin : tin pl V k = true := by unfold tin; rw [decide_eq_true c_69]; simp
          refine lv_aload_n hx hb dX0_allowed_72 rfl (lv_at hl 5 rfl) ?_
          refine lv_iload hx hb dX0_allowed_73 (lv_at hl 2 rfl) ?_
          refine vp_callSi (W.runV (As := [.int (pl (3 * k))]) (rest := []) ⟨hx, hb, hml, hown, hts⟩ (m_known (pl (3 * k)) (hpl _ (by omega))) (cwV 1 hts (lw_V q119 q121 qs6 q18 q122) rfl rfl rfl (by decide +kernel) ⟨Nat.le_of_ble_eq_true rfl, Nat.le_of_ble_eq_true rfl⟩) (pJ_preJ hK hP hD rfl) rfl rfl hl.1 rfl (lv_room (Nat.le_of_ble_eq_true rfl)) dX0_allowed_75 ⟨Nat.le_refl _, Nat.le_refl _⟩) (fun r_75 hr_75 => ?_)
          subst hr_75
          refine lv_istore (lv' := [(7, .int (tkn bo (pl (3 * k)))), (6, .int (pl ((3 * k) + 2))), (5, .int (pl ((3 * k) + 1))), (4, .int (pl (3 * k))), (3, .int (nI k)), (2, .int (nI (tmk (fun q => tal F pl bo V q k) 8))), (0, .ref h), (1, .int (nI V))]) hx hb dX0_allowed_78 hl (by decide) rfl (fun ls hl => ?_)
          refine lv_aload_n hx hb dX0_allowed_80 rfl (lv_at hl 6 rfl) ?_
          refine lv_iload hx hb dX0_allowed_81 (lv_at hl 2 rfl) ?_
          refine vp_callSi (W.runV (As := [.int (pl ((3 * k) + 1))]) (rest := []) ⟨hx, hb, hml, hown, hts⟩ (m_known (pl (3 * k + 1)) (hpl _ (by omega))) (cwV 1 hts (lw_V q119 q121 qs6 q18 q122) rfl rfl rfl (by decide +kernel) ⟨Nat.le_of_ble_eq_true rfl, Nat.le_of_ble_eq_true rfl⟩) (pJ_preJ hK hP hD rfl) rfl rfl hl.1 rfl (lv_room (Nat.le_of_ble_eq_true rfl)) dX0_allowed_83 ⟨Nat.le_refl _, Nat.le_refl _⟩) (fun r_83 hr_83 => ?_)
          subst hr_83
          refine lv_istore (lv' := [(8, .int (tkn bo (pl (3 * k + 1)))), (7, .int (tkn bo (pl (3 * k)))), (6, .int (pl ((3 * k) + 2))), (5, .int (pl ((3 * k) + 1))), (4, .int (pl (3 * k))), (3, .int (nI k)), (2, .int (nI (tmk (fun q => tal F pl bo V q k) 8))), (0, .ref h), (1, .int (nI V))]) hx hb dX0_allowed_86 hl (by decide) rfl (fun ls hl => ?_)
          refine lv_aload_n hx hb dX0_allowed_88 rfl (lv_at hl 7 rfl) ?_
          refine lv_iload hx hb dX0_allowed_89 (lv_at hl 2 rfl) ?_
          refine vp_callSi (W.runV (As := [.int (pl ((3 * k) + 2))]) (rest := []) ⟨hx, hb, hml, hown, hts⟩ (m_known (pl (3 * k + 2)) (hpl _ (by omega))) (cwV 1 hts (lw_V q119 q121 qs6 q18 q122) rfl rfl rfl (by decide +kernel) ⟨Nat.le_of_ble_eq_true rfl, Nat.le_of_ble_eq_true rfl⟩) (pJ_preJ hK hP hD rfl) rfl rfl hl.1 rfl (lv_room (Nat.le_of_ble_eq_true rfl)) dX0_allowed_91 ⟨Nat.le_refl _, Nat.le_refl _⟩) (fun r_91 hr_91 => ?_)
          subst hr_91
          refine lv_istore (lv' := [(9, .int (tkn bo (pl (3 * k + 2)))), (8, .int (tkn bo (pl (3 * k + 1)))), (7, .int (tkn bo (pl (3 * k)))), (6, .int (pl ((3 * k) + 2))), (5, .int (pl ((3 * k) + 1))), (4, .int (pl (3 * k))), (3, .int (nI k)), (2, .int (nI (tmk (fun q => tal F pl bo V q k) 8))), (0, .ref h), (1, .int (nI V))]) hx hb dX0_allowed_94 hl (by decide) rfl (fun ls hl => ?_)
          refine lv_iload_n hx hb dX0_allowed_96 rfl (lv_at hl 7 rfl) ?_
          refine lv_aload_n hx hb dX0_allowed_97 rfl (lv_at hl 8 rfl) ?_
          refine lv_iload hx hb dX0_allowed_98 (lv_at hl 2 rfl) ?_
          refine lv_iload hx hb dX0_allowed_100 (lv_at hl 1 rfl) ?_
          refine lv_iload hx hb dX0_allowed_102 (lv_at hl 0 rfl) ?_
          refine lv_iload_n hx hb dX0_allowed_104 rfl (lv_at hl 9 rfl) ?_
          refine lv_iload_n hx hb dX0_allowed_105 rfl (lv_at hl 6 rfl) ?_
          refine vp_callSi (W.runV (As := [.int (tkn bo (pl (3 * k))), .int (tkn bo (pl (3 * k + 1))), .int (tkn bo (pl (3 * k + 2))), .int (nI V), .int (nI k)]) (rest := [.int (nI (tmk (fun q => tal F pl bo V q k) 8))]) ⟨hx, hb, hml, hown, hts⟩ (m_allowedBy hI (tkn bo (pl (3 * k))) (tkn bo (pl (3 * k + 1))) (tkn bo (pl (3 * k + 2))) V k hV (by omega) hin (tkn_ok (hpl _ (by omega)) hbo) (tkn_ok (hpl _ (by omega)) hbo) (tkn_ok (hpl _ (by omega)) hbo)) (cwV 5 hts (lw_V q123 q125 qs7 q18 q126) rfl rfl rfl (by decide +kernel) ⟨Nat.le_of_ble_eq_true rfl, Nat.le_of_ble_eq_true rfl⟩) (pJ_preJ hK hP hD rfl) rfl rfl hl.1 rfl (lv_room (Nat.le_of_ble_eq_true rfl)) dX0_allowed_106 ⟨Nat.le_refl _, Nat.le_refl _⟩) (fun r_106 hr_106 => ?_)
          subst hr_106
          refine lv_iand hx hb dX0_allowed_109 ?_
          refine tn_as (nI (tmk (fun q => tal F pl bo V q (k + 1)) 8)) (by rw [tmk_and]; congr 1; refine tmk_congr 8 (fun q hq => ?_); show _ = (tal F pl bo V q k && (!tin pl V k || _)); rw [hin]; rfl) ?_
          refine lv_istore_n (lv' := [(2, .int (nI (tmk (fun q => tal F pl bo V q (k + 1)) 8))), (9, .int (tkn bo (pl (3 * k + 2)))), (8, .int (tkn bo (pl (3 * k + 1)))), (7, .int (tkn bo (pl (3 * k)))), (6, .int (pl ((3 * k) + 2))), (5, .int (pl ((3 * k) + 1))), (4, .int (pl (3 * k))), (3, .int (nI k)), (0, .ref h), (1, .int (nI V))]) hx hb dX0_allowed_110 rfl hl (by decide) rfl (fun ls hl => ?_)
          refine lv_iinc (v := nI (k + 1)) (lv' := [(3, .int (nI (k + 1))), (2, .int (nI (tmk (fun q => tal F pl bo V q (k + 1)) 8))), (9, .int (tkn bo (pl (3 * k + 2)))), (8, .int (tkn bo (pl (3 * k + 1)))), (7, .int (tkn bo (pl (3 * k)))), (6, .int (pl ((3 * k) + 2))), (5, .int (pl ((3 * k) + 1))), (4, .int (pl (3 * k))), (0, .ref h), (1, .int (nI V))]) hx hb dX0_allowed_111 hl (k := 7) rfl (nI_1 _) (by decide) rfl (fun ls hl => ?_)
          refine lv_goto (tgt := 6) hx hb dX0_allowed_114 (by decide) ?_
          exact ih _ (lv_sub hl [0, 1, 8, 9] rfl)
  · have hl := hJ
    refine lv_iload_n hx hb dX0_allowed_6 rfl (lv_at hl 0 rfl) ?_
    refine lv_aload_n hx hb dX0_allowed_7 rfl (lv_at hl 2 rfl) ?_
    refine va_get (D := D) (ci := 0) (v := .int (nI N)) (C := RX0) (T := TX0) (N := 14) hx hb hts in_X0 hown hK hP 0 rfl rfl 6 (by decide) (hts _ q34) (fun _ h9 => h9) rfl dX0_allowed_8 ?_
    refine tn_icmp_ge (tgt := 117) hx hb dX0_allowed_11 (by decide) (by omega) (by omega) (fun _ => ?_) (fun z => absurd z (by omega))
    refine lv_iload_n hx hb dX0_allowed_117 rfl (lv_at hl 1 rfl) ?_
    exact W.iret (v := nI (tmk (fun q => tal F pl bo V q N) 8)) hx hb hr (fun t ht hW => ⟨_, rfl, rfl, ht⟩) (fun _ h9 => nomatch h9) dX0_allowed_118
end
section
def tinc (f : Nat → Int32) (k : Nat) (x : Int32) : Nat → Int32 := upd f k (f k + x)
def txr (f : Nat → Int32) (k : Nat) (x : Int32) : Nat → Int32 := upd f k (f k ^^^ x)
theorem tinc_s {f : Nat → Int32} {k : Nat} {x : Int32} : tinc f k x k = f k + x := pk_us
theorem tinc_n {f : Nat → Int32} {k j : Nat} {x : Int32} (h : j ≠ k) : tinc f k x j = f j := pk_un h
theorem txr_s {f : Nat → Int32} {k : Nat} {x : Int32} : txr f k x k = f k ^^^ x := pk_us
theorem txr_n {f : Nat → Int32} {k j : Nat} {x : Int32} (h : j ≠ k) : txr f k x j = f j := pk_un h
/-- one fact set to b -/
def tset (F : Nat → Bool) (k : Nat) (b : Bool) : Nat → Bool := fun j => if j = k then b else F j
theorem tset_s {F : Nat → Bool} {k : Nat} {b : Bool} : tset F k b k = b := if_pos rfl
theorem tset_n {F : Nat → Bool} {k j : Nat} {b : Bool} (h : j ≠ k) : tset F k b j = F j := if_neg h
theorem tcn_set {f g : Nat → Bool} {k0 : Nat} : ∀ k, k0 < k → (∀ i, i < k → i ≠ k0 → f i = g i) → tcn g k + tb (f k0) = tcn f k + tb (g k0)
  | 0, h, _ => absurd h (Nat.not_lt_zero k0)
  | k + 1, h, e => by
    show tcn g k + tb (g k) + tb (f k0) = tcn f k + tb (f k) + tb (g k0)
    by_cases q : k0 = k
    · subst q
      rw [tcn_congr (f := f) (g := g) k0 (fun i hi => e i (by omega) (by omega))]
      omega
    · have h1 := tcn_set k (by omega) (fun i hi hn => e i (by omega) hn)
      rw [e k (by omega) (fun z => q z.symm)]
      omega
/-- the step's sign -/
def tsg (b : Bool) : Int32 := if b = true then nI 1 else -1
theorem tC3_set {F : Nat → Bool} {k0 : Nat} {b : Bool} (hk : k0 < 512) (hF : F k0 = !b) (s p o : Int32) :
    nI (tC3 (tset F k0 b) s p o) = if (tag s (k0 / 64) && tag p (k0 / 8 % 8) && tag o (k0 % 8)) = true then nI (tC3 F s p o) + tsg b else nI (tC3 F s p o) := by
  have h := tcn_set (f := fun i => F i && tag s (i / 64) && tag p (i / 8 % 8) && tag o (i % 8)) (g := fun i => tset F k0 b i && tag s (i / 64) && tag p (i / 8 % 8) && tag o (i % 8)) (k0 := k0) 512 hk (fun i _ hn => by rw [tset_n hn])
  rw [tset_s, hF] at h
  unfold tC3
  cases hc : (tag s (k0 / 64) && tag p (k0 / 8 % 8) && tag o (k0 % 8)) with
  | false =>
    have h2 : ∀ b : Bool, tb (b && tag s (k0 / 64) && tag p (k0 / 8 % 8) && tag o (k0 % 8)) = 0 := fun b => by rw [Bool.and_assoc, Bool.and_assoc, ← Bool.and_assoc (tag s (k0 / 64)), hc, Bool.and_false]; rfl
    rw [h2, h2] at h
    rw [if_neg (by decide)]
    rw [Nat.add_zero, Nat.add_zero] at h
    rw [h]
  | true =>
    have h2 : ∀ b : Bool, tb (b && tag s (k0 / 64) && tag p (k0 / 8 % 8) && tag o (k0 % 8)) = tb b := fun b => by rw [Bool.and_assoc, Bool.and_assoc, ← Bool.and_assoc (tag s (k0 / 64)), hc, Bool.and_true]
    rw [h2, h2] at h
    rw [if_pos rfl]
    cases b with
    | true =>
      rw [show tb (!true) = 0 from rfl, show tb true = 1 from rfl] at h
      rw [show tsg true = nI 1 from rfl, nI_add, ← h, Nat.add_zero]
    | false =>
      rw [show tb (!false) = 1 from rfl, show tb false = 0 from rfl] at h
      rw [show tsg false = -1 from rfl, show tcn (fun i => F i && tag s (i / 64) && tag p (i / 8 % 8) && tag o (i % 8)) 512 = tcn (fun i => tset F k0 false i && tag s (i / 64) && tag p (i / 8 % 8) && tag o (i % 8)) 512 + 1 by omega, pk_m1]
theorem tmk_set {f g : Nat → Bool} {O : Nat} (hO : O < 8) (h1 : g O = !f O) (h2 : ∀ q, q < 8 → q ≠ O → g q = f q) : nI (tmk f 8) ^^^ (nI 1 <<< (nI O &&& 31)) = nI (tmk g 8) := by
  rw [t_shl O hO, nx_xor]
  congr 1
  refine tmk_ext ?_ (fun j hj => ?_)
  · exact Nat.xor_lt_two_pow (tmk_lt f 8) (Nat.pow_lt_pow_right (by decide) hO)
  · rw [Nat.testBit_xor, tmk_bit, Nat.testBit_two_pow]
    by_cases e : j = O
    · subst e; rw [h1]; simp [hj]
    · rw [h2 j hj e]; simp [hj, show ¬ O = j from fun z => e z.symm]
section TTI
variable {F : Nat → Bool} {he : Int32} {ob pr su go si : Nat → Int32} {S P O : Nat} {b : Bool}
theorem tTI_enter (hI : tTI F he ob pr su go si) (hS : S < 8) (hP : P < 8) (hO : O < 8) (hF : F (64 * S + 8 * P + O) = !b) :
    tTI (tset F (64 * S + 8 * P + O) b) (he + tsg b) (txr ob (8 * S + P) (nI 1 <<< (nI O &&& 31))) (txr pr (8 * S + O) (nI 1 <<< (nI P &&& 31))) (txr su (8 * P + O) (nI 1 <<< (nI S &&& 31)))
      (tinc (tinc (tinc (tinc (tinc (tinc go (8 * S + P) (tsg b)) (64 + 8 * S + O) (tsg b)) (128 + 8 * P + S) (tsg b)) (192 + 8 * P + O) (tsg b)) (256 + 8 * O + S) (tsg b)) (320 + 8 * O + P) (tsg b))
      (tinc (tinc (tinc si S (tsg b)) (8 + P) (tsg b)) (16 + O) (tsg b)) := by
  have hk : 64 * S + 8 * P + O < 512 := by omega
  have e1 : (64 * S + 8 * P + O) / 64 = S := by omega
  have e2 : (64 * S + 8 * P + O) / 8 % 8 = P := by omega
  have e3 : (64 * S + 8 * P + O) % 8 = O := by omega
  have key := tC3_set (b := b) hk hF
  rw [e1, e2, e3] at key
  obtain ⟨i1, i2, i3, i4⟩ := hI
  refine ⟨?_, fun u v hu hv => ⟨?_, ?_, ?_⟩, fun u v hu hv => ⟨?_, ?_, ?_, ?_, ?_, ?_⟩, fun u hu => ⟨?_, ?_, ?_⟩⟩
  · rw [key, tag_m1, tag_m1, tag_m1, i1]; rfl
  · by_cases q : u = S ∧ v = P
    · obtain ⟨rfl, rfl⟩ := q
      rw [txr_s, (i2 u v hu hv).1]
      exact tmk_set hO (by rw [tset_s, hF, Bool.not_not]) (fun q _ hq => tset_n (by omega))
    · rw [txr_n (by omega), (i2 u v hu hv).1]
      congr 1
      exact tmk_congr 8 (fun w hw => (tset_n (by omega)).symm)
  · by_cases q : u = S ∧ v = O
    · obtain ⟨rfl, rfl⟩ := q
      rw [txr_s, (i2 u v hu hv).2.1]
      exact tmk_set hP (by rw [tset_s, hF, Bool.not_not]) (fun q _ hq => tset_n (by omega))
    · rw [txr_n (by omega), (i2 u v hu hv).2.1]
      congr 1
      exact tmk_congr 8 (fun w hw => (tset_n (by omega)).symm)
  · by_cases q : u = P ∧ v = O
    · obtain ⟨rfl, rfl⟩ := q
      rw [txr_s, (i2 u v hu hv).2.2]
      exact tmk_set hS (by rw [tset_s, hF, Bool.not_not]) (fun q _ hq => tset_n (by omega))
    · rw [txr_n (by omega), (i2 u v hu hv).2.2]
      congr 1
      exact tmk_congr 8 (fun w hw => (tset_n (by omega)).symm)
  · rw [key, tag_m1]
    by_cases q : u = S ∧ v = P
    · obtain ⟨rfl, rfl⟩ := q
      rw [tag_self hS, tag_self hP, show (true && true && true) = true from rfl, if_pos rfl, tinc_n (by omega), tinc_n (by omega), tinc_n (by omega), tinc_n (by omega), tinc_n (by omega), tinc_s, (i3 u v hu hv).1]
    · rw [if_neg (by rcases Classical.not_and_iff_not_or_not.mp q with z | z
                     · rw [tag_ne hu hS (fun y => z y.symm)]; simp
                     · rw [tag_ne hv hP (fun y => z y.symm)]; simp), tinc_n (by omega), tinc_n (by omega), tinc_n (by omega), tinc_n (by omega), tinc_n (by omega), tinc_n (by omega), (i3 u v hu hv).1]
  · rw [key, tag_m1]
    by_cases q : u = S ∧ v = O
    · obtain ⟨rfl, rfl⟩ := q
      rw [tag_self hS, tag_self hO, show (true && true && true) = true from rfl, if_pos rfl, tinc_n (by omega), tinc_n (by omega), tinc_n (by omega), tinc_n (by omega), tinc_s, tinc_n (by omega), (i3 u v hu hv).2.1]
    · rw [if_neg (by rcases Classical.not_and_iff_not_or_not.mp q with z | z
                     · rw [tag_ne hu hS (fun y => z y.symm)]; simp
                     · rw [tag_ne hv hO (fun y => z y.symm)]; simp), tinc_n (by omega), tinc_n (by omega), tinc_n (by omega), tinc_n (by omega), tinc_n (by omega), tinc_n (by omega), (i3 u v hu hv).2.1]
  · rw [key, tag_m1]
    by_cases q : u = P ∧ v = S
    · obtain ⟨rfl, rfl⟩ := q
      rw [tag_self hS, tag_self hP, show (true && true && true) = true from rfl, if_pos rfl, tinc_n (by omega), tinc_n (by omega), tinc_n (by omega), tinc_s, tinc_n (by omega), tinc_n (by omega), (i3 u v hu hv).2.2.1]
    · rw [if_neg (by rcases Classical.not_and_iff_not_or_not.mp q with z | z
                     · rw [tag_ne hu hP (fun y => z y.symm)]; simp
                     · rw [tag_ne hv hS (fun y => z y.symm)]; simp), tinc_n (by omega), tinc_n (by omega), tinc_n (by omega), tinc_n (by omega), tinc_n (by omega), tinc_n (by omega), (i3 u v hu hv).2.2.1]
  · rw [key, tag_m1]
    by_cases q : u = P ∧ v = O
    · obtain ⟨rfl, rfl⟩ := q
      rw [tag_self hP, tag_self hO, show (true && true && true) = true from rfl, if_pos rfl, tinc_n (by omega), tinc_n (by omega), tinc_s, tinc_n (by omega), tinc_n (by omega), tinc_n (by omega), (i3 u v hu hv).2.2.2.1]
    · rw [if_neg (by rcases Classical.not_and_iff_not_or_not.mp q with z | z
                     · rw [tag_ne hu hP (fun y => z y.symm)]; simp
                     · rw [tag_ne hv hO (fun y => z y.symm)]; simp), tinc_n (by omega), tinc_n (by omega), tinc_n (by omega), tinc_n (by omega), tinc_n (by omega), tinc_n (by omega), (i3 u v hu hv).2.2.2.1]
  · rw [key, tag_m1]
    by_cases q : u = O ∧ v = S
    · obtain ⟨rfl, rfl⟩ := q
      rw [tag_self hS, tag_self hO, show (true && true && true) = true from rfl, if_pos rfl, tinc_n (by omega), tinc_s, tinc_n (by omega), tinc_n (by omega), tinc_n (by omega), tinc_n (by omega), (i3 u v hu hv).2.2.2.2.1]
    · rw [if_neg (by rcases Classical.not_and_iff_not_or_not.mp q with z | z
                     · rw [tag_ne hu hO (fun y => z y.symm)]; simp
                     · rw [tag_ne hv hS (fun y => z y.symm)]; simp), tinc_n (by omega), tinc_n (by omega), tinc_n (by omega), tinc_n (by omega), tinc_n (by omega), tinc_n (by omega), (i3 u v hu hv).2.2.2.2.1]
  · rw [key, tag_m1]
    by_cases q : u = O ∧ v = P
    · obtain ⟨rfl, rfl⟩ := q
      rw [tag_self hP, tag_self hO, show (true && true && true) = true from rfl, if_pos rfl, tinc_s, tinc_n (by omega), tinc_n (by omega), tinc_n (by omega), tinc_n (by omega), tinc_n (by omega), (i3 u v hu hv).2.2.2.2.2]
    · rw [if_neg (by rcases Classical.not_and_iff_not_or_not.mp q with z | z
                     · rw [tag_ne hu hO (fun y => z y.symm)]; simp
                     · rw [tag_ne hv hP (fun y => z y.symm)]; simp), tinc_n (by omega), tinc_n (by omega), tinc_n (by omega), tinc_n (by omega), tinc_n (by omega), tinc_n (by omega), (i3 u v hu hv).2.2.2.2.2]
  · rw [key, tag_m1, tag_m1]
    by_cases q : u = S
    · subst q
      rw [tag_self hu, show (true && true && true) = true from rfl, if_pos rfl, tinc_n (by omega), tinc_n (by omega), tinc_s, (i4 u hu).1]
    · rw [if_neg (by rw [tag_ne hu hS (fun y => q y.symm)]; simp), tinc_n (by omega), tinc_n (by omega), tinc_n (by omega), (i4 u hu).1]
  · rw [key, tag_m1, tag_m1]
    by_cases q : u = P
    · subst q
      rw [tag_self hu, show (true && true && true) = true from rfl, if_pos rfl, tinc_n (by omega), tinc_s, tinc_n (by omega), (i4 u hu).2.1]
    · rw [if_neg (by rw [tag_ne hu hP (fun y => q y.symm)]; simp), tinc_n (by omega), tinc_n (by omega), tinc_n (by omega), (i4 u hu).2.1]
  · rw [key, tag_m1, tag_m1]
    by_cases q : u = O
    · subst q
      rw [tag_self hu, show (true && true && true) = true from rfl, if_pos rfl, tinc_s, tinc_n (by omega), tinc_n (by omega), (i4 u hu).2.2]
    · rw [if_neg (by rw [tag_ne hu hO (fun y => q y.symm)]; simp), tinc_n (by omega), tinc_n (by omega), tinc_n (by omega), (i4 u hu).2.2]
end TTI
/-- what add and remove answer, and the facts behind them -/
def tao (F : Nat → Bool) (s p o : Int32) : Bool := tpa s && tpa p && tpa o && !F (tix s p o) && decide (tC3 F (-1) (-1) (-1) < 48)
def tar (F : Nat → Bool) (s p o : Int32) : Int32 := if tao F s p o = true then nI (tC3 F (-1) (-1) (-1) + 1) else -1
def taF (F : Nat → Bool) (s p o : Int32) : Nat → Bool := if tao F s p o = true then tset F (tix s p o) true else F
def trr (F : Nat → Bool) (s p o : Int32) : Int32 := if thas F s p o = true then nI (tC3 (tset F (tix s p o) false) (-1) (-1) (-1)) else -1
def trF (F : Nat → Bool) (s p o : Int32) : Nat → Bool := if thas F s p o = true then tset F (tix s p o) false else F
/-- pattern -/
def trg (x : Int32) : Bool := decide (-4 ≤ x ∧ x ≤ nI 7)
def tpo (N : Nat) (s p o : Int32) : Bool := trg s && trg p && trg o && decide (N < 4)
def tpr (N : Nat) (s p o : Int32) : Int32 := if tpo N s p o = true then nI (N + 1) else -1
def tpu (N : Nat) (pl : Nat → Int32) (s p o : Int32) : Nat × (Nat → Int32) := if tpo N s p o = true then (N + 1, upd (upd (upd pl (3 * N) s) (3 * N + 1) p) (3 * N + 2) o) else (N, pl)
theorem trg_lo {x : Int32} (h : x < -4) : trg x = false := decide_eq_false (fun q => absurd h (Int32.not_lt.mpr q.1))
theorem trg_hi {x : Int32} (h : nI 7 < x) : trg x = false := decide_eq_false (fun q => absurd h (Int32.not_lt.mpr q.2))
theorem trg_ok {x : Int32} (h1 : ¬ x < -4) (h2 : ¬ nI 7 < x) : trg x = true := decide_eq_true ⟨Int32.not_lt.mp h1, Int32.not_lt.mp h2⟩
theorem trg_tok {x : Int32} (h : trg x = true) : tok x := by
  unfold trg at h
  rw [decide_eq_true_eq] at h
  by_cases q : x < 0
  · refine Or.inr (tva_t ?_)
    unfold tva
    rw [decide_eq_true_eq]
    refine ⟨h.1, ?_⟩
    rw [t_lt, show (0 : Int32).toInt = 0 by decide] at q
    rw [t_le, show (-1 : Int32).toInt = -1 by decide]
    omega
  · refine Or.inl (tpa_t ?_)
    unfold tpa
    rw [decide_eq_true_eq]
    exact ⟨Int32.not_lt.mp q, h.2⟩
/-- a variable that stands in the question -/
def tst (pl : Nat → Int32) (N : Nat) : Nat → Bool := fun v => tsd pl N (-1 - nI v)
theorem tcn_mono (f : Nat → Bool) (j : Nat) : ∀ k, j ≤ k → tcn f j ≤ tcn f k
  | 0, h => by rw [show j = 0 by omega]; exact Nat.le_refl _
  | k + 1, h => by
    by_cases e : j = k + 1
    · subst e; exact Nat.le_refl _
    · exact Nat.le_trans (tcn_mono f j k (by omega)) (Nat.le_add_right _ _)
theorem tcn_rank {f : Nat → Bool} {w v : Nat} (h : w < v) (hw : f w = true) : tcn f w < tcn f v := by
  have h1 := tcn_mono f (w + 1) v (by omega)
  have h2 : tcn f (w + 1) = tcn f w + tb (f w) := rfl
  rw [hw, show tb true = 1 from rfl] at h2
  omega
/-- counting a solution -/
def tcx (vr bo : Nat → Int32) (k : Nat) : Nat := 8 * (vr k).toNatClampNeg + (bo (vr k).toNatClampNeg).toNatClampNeg
def tcs (vr bo vc : Nat → Int32) : Nat → Nat → Int32
  | 0 => vc
  | k + 1 => tinc (tcs vr bo vc k) (tcx vr bo k) (nI 1)
end
section
theorem t_dec (q : Int32) : q - nI 1 = q + (-1) := by
  rw [show nI 1 = 1 from rfl]
  grind
theorem tTI_he {F : Nat → Bool} {he he2 : Int32} {ob pr su go si : Nat → Int32} (h : tTI F he ob pr su go si) (e : he2 = he) : tTI F he2 ob pr su go si := e ▸ h
set_option maxHeartbeats 1000000 in
set_option maxRecDepth 100000 in
/-- enter -/
theorem m_enter {l : Launch} {D : va_G} {d z : ClassId} {h : Nat} {a : Nat → Nat} {he : Int32} {ob pr su go si : Nat → Int32} {N : Nat} {pl : Nat → Int32} {nv : Int32} {vr bo ca vc : Nat → Int32} {sc : Int32} (S P O : Nat) (hS8 : S < 8) (hP8 : P < 8) (hO8 : O < 8) (by_ : Int32) : Met l yX0_enter (ws_ yX0_enter cX0_enter 5 none) (rm_ 1 0) (pJ D d z (wJ h a d he ob pr su go si (nI N) pl nv vr bo ca vc sc) [.ref h, .int (nI S), .int (nI P), .int (nI O), .int by_]) (va_Qv (fun _ : Unit => True) (fun _ t => va_P D vwCl (wJ h a d he (txr ob ((8 * S) + P) ((nI 1) <<< ((nI O) &&& 31))) (txr pr ((8 * S) + O) ((nI 1) <<< ((nI P) &&& 31))) (txr su ((8 * P) + O) ((nI 1) <<< ((nI S) &&& 31))) (tinc (tinc (tinc (tinc (tinc (tinc go ((8 * S) + P) by_) ((64 + (8 * S)) + O) by_) ((128 + (8 * P)) + S) by_) ((192 + (8 * P)) + O) by_) ((256 + (8 * O)) + S) by_) ((320 + (8 * O)) + P) by_) (tinc (tinc (tinc si S by_) (8 + P) by_) (16 + O) by_) (nI N) pl nv vr bo ca vc sc) t.heap) (oJ h a)) 0 0 (oJ h a) := by
  refine Met.ofW (cc := cX0_enter) (maxL := 5) (ret := none) (by decide) rfl ?_
  intro p e s m args below meth c s₁ B hml hv
  obtain ⟨rfl, hP, hK, hD⟩ := hv
  have hx := B.exec
  have hb := B.bytes
  have hr := B.returns
  have hts := atoms_spec (ws := (ws_ yX0_enter cX0_enter 5 none)) B.pre
  have hts : ∀ w ∈ lw_all, w.before _ s = true := fun w h => hts w (List.mem_cons_of_mem _ h)
  have hown : s.vm.findClass RX0 = some m.cls := findClass_of_methodNamed B.named
  have hlocks := B.notSynchronized
  have hD := oJ_D hD
  have hS : va_S (oJ h a) s.heap s.heap [] := va_S.rf
  have hl := lv_entry ([.ref h, .int (nI S), .int (nI P), .int (nI O), .int by_]) (n := 5) (Nat.le_of_ble_eq_true rfl)
  rw [lg_entry_eq]
  generalize (lg_sl ([.ref h, .int (nI S), .int (nI P), .int (nI O), .int by_]) ++ List.replicate (5 - (lg_sl ([.ref h, .int (nI S), .int (nI P), .int (nI O), .int by_])).length) Slot.unset).toArray = ls at hl ⊢
  have hl : lv_has ls 5 [(0, .ref h), (1, .int (nI S)), (2, .int (nI P)), (3, .int (nI O)), (4, .int by_)] := hl
  refine lv_aload_n hx hb dX0_enter_0 rfl (lv_at hl 0 rfl) ?_
  refine va_get (D := D) (ci := 0) (v := .ref (a 1)) (C := RX0) (T := TX0) (N := 14) hx hb hts in_X0 hown hK hP 0 rfl rfl 1 (by decide) (hts _ q29) (fun _ h9 => h9) rfl dX0_enter_1 ?_
  refine lv_bipush (v := nI 8) hx hb dX0_enter_4 (by decide) ?_
  refine lv_iload_n hx hb dX0_enter_6 rfl (lv_at hl 1 rfl) ?_
  refine tn_imul hx hb dX0_enter_7 ?_
  refine lv_iload_n hx hb dX0_enter_8 rfl (lv_at hl 2 rfl) ?_
  refine tn_iadd hx hb dX0_enter_9 ?_
  refine lv_dup2_11 hx hb dX0_enter_10 rfl rfl ?_
  refine tn_iald hx hb hK hP 1 0 rfl rfl (j := (8 * S) + P) (by omega) (by decide) dX0_enter_11 ?_
  refine lv_iconst (v := nI 1) hx hb dX0_enter_12 (by decide) ?_
  refine lv_iload_n hx hb dX0_enter_13 rfl (lv_at hl 3 rfl) ?_
  refine lv_ishl hx hb dX0_enter_14 ?_
  refine lv_ixor hx hb dX0_enter_15 ?_
  refine tn_iast hx hb hK hP hD hS 1 0 rfl rfl (j := (8 * S) + P) (x := ((ob ((8 * S) + P)) ^^^ ((nI 1) <<< ((nI O) &&& 31)))) (by omega) (by decide) dX0_enter_16 (fun H locs hP hD hS => ?_)
  have hP : va_P D vwCl (wJ h a d he (txr ob ((8 * S) + P) ((nI 1) <<< ((nI O) &&& 31))) pr su go si (nI N) pl nv vr bo ca vc sc) H := hP
  have hD : va_D (oJ h a) (wJ h a d he (txr ob ((8 * S) + P) ((nI 1) <<< ((nI O) &&& 31))) pr su go si (nI N) pl nv vr bo ca vc sc) := hD
  refine lv_aload_n hx hb dX0_enter_17 rfl (lv_at hl 0 rfl) ?_
  refine va_get (D := D) (ci := 0) (v := .ref (a 2)) (C := RX0) (T := TX0) (N := 14) hx hb hts in_X0 hown hK hP 0 rfl rfl 2 (by decide) (hts _ q30) (fun _ h9 => h9) rfl dX0_enter_18 ?_
  refine lv_bipush (v := nI 8) hx hb dX0_enter_21 (by decide) ?_
  refine lv_iload_n hx hb dX0_enter_23 rfl (lv_at hl 1 rfl) ?_
  refine tn_imul hx hb dX0_enter_24 ?_
  refine lv_iload_n hx hb dX0_enter_25 rfl (lv_at hl 3 rfl) ?_
  refine tn_iadd hx hb dX0_enter_26 ?_
  refine lv_dup2_11 hx hb dX0_enter_27 rfl rfl ?_
  refine tn_iald hx hb hK hP 2 0 rfl rfl (j := (8 * S) + O) (by omega) (by decide) dX0_enter_28 ?_
  refine lv_iconst (v := nI 1) hx hb dX0_enter_29 (by decide) ?_
  refine lv_iload_n hx hb dX0_enter_30 rfl (lv_at hl 2 rfl) ?_
  refine lv_ishl hx hb dX0_enter_31 ?_
  refine lv_ixor hx hb dX0_enter_32 ?_
  refine tn_iast hx hb hK hP hD hS 2 0 rfl rfl (j := (8 * S) + O) (x := ((pr ((8 * S) + O)) ^^^ ((nI 1) <<< ((nI P) &&& 31)))) (by omega) (by decide) dX0_enter_33 (fun H locs hP hD hS => ?_)
  have hP : va_P D vwCl (wJ h a d he (txr ob ((8 * S) + P) ((nI 1) <<< ((nI O) &&& 31))) (txr pr ((8 * S) + O) ((nI 1) <<< ((nI P) &&& 31))) su go si (nI N) pl nv vr bo ca vc sc) H := hP
  have hD : va_D (oJ h a) (wJ h a d he (txr ob ((8 * S) + P) ((nI 1) <<< ((nI O) &&& 31))) (txr pr ((8 * S) + O) ((nI 1) <<< ((nI P) &&& 31))) su go si (nI N) pl nv vr bo ca vc sc) := hD
  refine lv_aload_n hx hb dX0_enter_34 rfl (lv_at hl 0 rfl) ?_
  refine va_get (D := D) (ci := 0) (v := .ref (a 3)) (C := RX0) (T := TX0) (N := 14) hx hb hts in_X0 hown hK hP 0 rfl rfl 3 (by decide) (hts _ q31) (fun _ h9 => h9) rfl dX0_enter_35 ?_
  refine lv_bipush (v := nI 8) hx hb dX0_enter_38 (by decide) ?_
  refine lv_iload_n hx hb dX0_enter_40 rfl (lv_at hl 2 rfl) ?_
  refine tn_imul hx hb dX0_enter_41 ?_
  refine lv_iload_n hx hb dX0_enter_42 rfl (lv_at hl 3 rfl) ?_
  refine tn_iadd hx hb dX0_enter_43 ?_
  refine lv_dup2_11 hx hb dX0_enter_44 rfl rfl ?_
  refine tn_iald hx hb hK hP 3 0 rfl rfl (j := (8 * P) + O) (by omega) (by decide) dX0_enter_45 ?_
  refine lv_iconst (v := nI 1) hx hb dX0_enter_46 (by decide) ?_
  refine lv_iload_n hx hb dX0_enter_47 rfl (lv_at hl 1 rfl) ?_
  refine lv_ishl hx hb dX0_enter_48 ?_
  refine lv_ixor hx hb dX0_enter_49 ?_
  refine tn_iast hx hb hK hP hD hS 3 0 rfl rfl (j := (8 * P) + O) (x := ((su ((8 * P) + O)) ^^^ ((nI 1) <<< ((nI S) &&& 31)))) (by omega) (by decide) dX0_enter_50 (fun H locs hP hD hS => ?_)
  have hP : va_P D vwCl (wJ h a d he (txr ob ((8 * S) + P) ((nI 1) <<< ((nI O) &&& 31))) (txr pr ((8 * S) + O) ((nI 1) <<< ((nI P) &&& 31))) (txr su ((8 * P) + O) ((nI 1) <<< ((nI S) &&& 31))) go si (nI N) pl nv vr bo ca vc sc) H := hP
  have hD : va_D (oJ h a) (wJ h a d he (txr ob ((8 * S) + P) ((nI 1) <<< ((nI O) &&& 31))) (txr pr ((8 * S) + O) ((nI 1) <<< ((nI P) &&& 31))) (txr su ((8 * P) + O) ((nI 1) <<< ((nI S) &&& 31))) go si (nI N) pl nv vr bo ca vc sc) := hD
  refine lv_aload_n hx hb dX0_enter_51 rfl (lv_at hl 0 rfl) ?_
  refine va_get (D := D) (ci := 0) (v := .ref (a 4)) (C := RX0) (T := TX0) (N := 14) hx hb hts in_X0 hown hK hP 0 rfl rfl 4 (by decide) (hts _ q32) (fun _ h9 => h9) rfl dX0_enter_52 ?_
  refine lv_bipush (v := nI 8) hx hb dX0_enter_55 (by decide) ?_
  refine lv_iload_n hx hb dX0_enter_57 rfl (lv_at hl 1 rfl) ?_
  refine tn_imul hx hb dX0_enter_58 ?_
  refine lv_iload_n hx hb dX0_enter_59 rfl (lv_at hl 2 rfl) ?_
  refine tn_iadd hx hb dX0_enter_60 ?_
  refine lv_dup2_11 hx hb dX0_enter_61 rfl rfl ?_
  refine tn_iald hx hb hK hP 4 0 rfl rfl (j := (8 * S) + P) (by omega) (by decide) dX0_enter_62 ?_
  refine lv_iload hx hb dX0_enter_63 (lv_at hl 4 rfl) ?_
  refine lv_iadd hx hb dX0_enter_65 ?_
  refine tn_iast hx hb hK hP hD hS 4 0 rfl rfl (j := (8 * S) + P) (x := ((go ((8 * S) + P)) + by_)) (by omega) (by decide) dX0_enter_66 (fun H locs hP hD hS => ?_)
  have hP : va_P D vwCl (wJ h a d he (txr ob ((8 * S) + P) ((nI 1) <<< ((nI O) &&& 31))) (txr pr ((8 * S) + O) ((nI 1) <<< ((nI P) &&& 31))) (txr su ((8 * P) + O) ((nI 1) <<< ((nI S) &&& 31))) (tinc go ((8 * S) + P) by_) si (nI N) pl nv vr bo ca vc sc) H := hP
  have hD : va_D (oJ h a) (wJ h a d he (txr ob ((8 * S) + P) ((nI 1) <<< ((nI O) &&& 31))) (txr pr ((8 * S) + O) ((nI 1) <<< ((nI P) &&& 31))) (txr su ((8 * P) + O) ((nI 1) <<< ((nI S) &&& 31))) (tinc go ((8 * S) + P) by_) si (nI N) pl nv vr bo ca vc sc) := hD
  refine lv_aload_n hx hb dX0_enter_67 rfl (lv_at hl 0 rfl) ?_
  refine va_get (D := D) (ci := 0) (v := .ref (a 4)) (C := RX0) (T := TX0) (N := 14) hx hb hts in_X0 hown hK hP 0 rfl rfl 4 (by decide) (hts _ q32) (fun _ h9 => h9) rfl dX0_enter_68 ?_
  refine lv_bipush (v := nI 64) hx hb dX0_enter_71 (by decide) ?_
  refine lv_bipush (v := nI 8) hx hb dX0_enter_73 (by decide) ?_
  refine lv_iload_n hx hb dX0_enter_75 rfl (lv_at hl 1 rfl) ?_
  refine tn_imul hx hb dX0_enter_76 ?_
  refine tn_iadd hx hb dX0_enter_77 ?_
  refine lv_iload_n hx hb dX0_enter_78 rfl (lv_at hl 3 rfl) ?_
  refine tn_iadd hx hb dX0_enter_79 ?_
  refine lv_dup2_11 hx hb dX0_enter_80 rfl rfl ?_
  refine tn_iald hx hb hK hP 4 0 rfl rfl (j := (64 + (8 * S)) + O) (by omega) (by decide) dX0_enter_81 ?_
  refine lv_iload hx hb dX0_enter_82 (lv_at hl 4 rfl) ?_
  refine lv_iadd hx hb dX0_enter_84 ?_
  refine tn_iast hx hb hK hP hD hS 4 0 rfl rfl (j := (64 + (8 * S)) + O) (x := (((tinc go ((8 * S) + P) by_) ((64 + (8 * S)) + O)) + by_)) (by omega) (by decide) dX0_enter_85 (fun H locs hP hD hS => ?_)
  have hP : va_P D vwCl (wJ h a d he (txr ob ((8 * S) + P) ((nI 1) <<< ((nI O) &&& 31))) (txr pr ((8 * S) + O) ((nI 1) <<< ((nI P) &&& 31))) (txr su ((8 * P) + O) ((nI 1) <<< ((nI S) &&& 31))) (tinc (tinc go ((8 * S) + P) by_) ((64 + (8 * S)) + O) by_) si (nI N) pl nv vr bo ca vc sc) H := hP
  have hD : va_D (oJ h a) (wJ h a d he (txr ob ((8 * S) + P) ((nI 1) <<< ((nI O) &&& 31))) (txr pr ((8 * S) + O) ((nI 1) <<< ((nI P) &&& 31))) (txr su ((8 * P) + O) ((nI 1) <<< ((nI S) &&& 31))) (tinc (tinc go ((8 * S) + P) by_) ((64 + (8 * S)) + O) by_) si (nI N) pl nv vr bo ca vc sc) := hD
  refine lv_aload_n hx hb dX0_enter_86 rfl (lv_at hl 0 rfl) ?_
  refine va_get (D := D) (ci := 0) (v := .ref (a 4)) (C := RX0) (T := TX0) (N := 14) hx hb hts in_X0 hown hK hP 0 rfl rfl 4 (by decide) (hts _ q32) (fun _ h9 => h9) rfl dX0_enter_87 ?_
  refine lv_sipush (v := nI 128) hx hb dX0_enter_90 (by decide) ?_
  refine lv_bipush (v := nI 8) hx hb dX0_enter_93 (by decide) ?_
  refine lv_iload_n hx hb dX0_enter_95 rfl (lv_at hl 2 rfl) ?_
  refine tn_imul hx hb dX0_enter_96 ?_
  refine tn_iadd hx hb dX0_enter_97 ?_
  refine lv_iload_n hx hb dX0_enter_98 rfl (lv_at hl 1 rfl) ?_
  refine tn_iadd hx hb dX0_enter_99 ?_
  refine lv_dup2_11 hx hb dX0_enter_100 rfl rfl ?_
  refine tn_iald hx hb hK hP 4 0 rfl rfl (j := (128 + (8 * P)) + S) (by omega) (by decide) dX0_enter_101 ?_
  refine lv_iload hx hb dX0_enter_102 (lv_at hl 4 rfl) ?_
  refine lv_iadd hx hb dX0_enter_104 ?_
  refine tn_iast hx hb hK hP hD hS 4 0 rfl rfl (j := (128 + (8 * P)) + S) (x := (((tinc (tinc go ((8 * S) + P) by_) ((64 + (8 * S)) + O) by_) ((128 + (8 * P)) + S)) + by_)) (by omega) (by decide) dX0_enter_105 (fun H locs hP hD hS => ?_)
  have hP : va_P D vwCl (wJ h a d he (txr ob ((8 * S) + P) ((nI 1) <<< ((nI O) &&& 31))) (txr pr ((8 * S) + O) ((nI 1) <<< ((nI P) &&& 31))) (txr su ((8 * P) + O) ((nI 1) <<< ((nI S) &&& 31))) (tinc (tinc (tinc go ((8 * S) + P) by_) ((64 + (8 * S)) + O) by_) ((128 + (8 * P)) + S) by_) si (nI N) pl nv vr bo ca vc sc) H := hP
  have hD : va_D (oJ h a) (wJ h a d he (txr ob ((8 * S) + P) ((nI 1) <<< ((nI O) &&& 31))) (txr pr ((8 * S) + O) ((nI 1) <<< ((nI P) &&& 31))) (txr su ((8 * P) + O) ((nI 1) <<< ((nI S) &&& 31))) (tinc (tinc (tinc go ((8 * S) + P) by_) ((64 + (8 * S)) + O) by_) ((128 + (8 * P)) + S) by_) si (nI N) pl nv vr bo ca vc sc) := hD
  refine lv_aload_n hx hb dX0_enter_106 rfl (lv_at hl 0 rfl) ?_
  refine va_get (D := D) (ci := 0) (v := .ref (a 4)) (C := RX0) (T := TX0) (N := 14) hx hb hts in_X0 hown hK hP 0 rfl rfl 4 (by decide) (hts _ q32) (fun _ h9 => h9) rfl dX0_enter_107 ?_
  refine lv_sipush (v := nI 192) hx hb dX0_enter_110 (by decide) ?_
  refine lv_bipush (v := nI 8) hx hb dX0_enter_113 (by decide) ?_
  refine lv_iload_n hx hb dX0_enter_115 rfl (lv_at hl 2 rfl) ?_
  refine tn_imul hx hb dX0_enter_116 ?_
  refine tn_iadd hx hb dX0_enter_117 ?_
  refine lv_iload_n hx hb dX0_enter_118 rfl (lv_at hl 3 rfl) ?_
  refine tn_iadd hx hb dX0_enter_119 ?_
  refine lv_dup2_11 hx hb dX0_enter_120 rfl rfl ?_
  refine tn_iald hx hb hK hP 4 0 rfl rfl (j := (192 + (8 * P)) + O) (by omega) (by decide) dX0_enter_121 ?_
  refine lv_iload hx hb dX0_enter_122 (lv_at hl 4 rfl) ?_
  refine lv_iadd hx hb dX0_enter_124 ?_
  refine tn_iast hx hb hK hP hD hS 4 0 rfl rfl (j := (192 + (8 * P)) + O) (x := (((tinc (tinc (tinc go ((8 * S) + P) by_) ((64 + (8 * S)) + O) by_) ((128 + (8 * P)) + S) by_) ((192 + (8 * P)) + O)) + by_)) (by omega) (by decide) dX0_enter_125 (fun H locs hP hD hS => ?_)
  have hP : va_P D vwCl (wJ h a d he (txr ob ((8 * S) + P) ((nI 1) <<< ((nI O) &&& 31))) (txr pr ((8 * S) + O) ((nI 1) <<< ((nI P) &&& 31))) (txr su ((8 * P) + O) ((nI 1) <<< ((nI S) &&& 31))) (tinc (tinc (tinc (tinc go ((8 * S) + P) by_) ((64 + (8 * S)) + O) by_) ((128 + (8 * P)) + S) by_) ((192 + (8 * P)) + O) by_) si (nI N) pl nv vr bo ca vc sc) H := hP
  have hD : va_D (oJ h a) (wJ h a d he (txr ob ((8 * S) + P) ((nI 1) <<< ((nI O) &&& 31))) (txr pr ((8 * S) + O) ((nI 1) <<< ((nI P) &&& 31))) (txr su ((8 * P) + O) ((nI 1) <<< ((nI S) &&& 31))) (tinc (tinc (tinc (tinc go ((8 * S) + P) by_) ((64 + (8 * S)) + O) by_) ((128 + (8 * P)) + S) by_) ((192 + (8 * P)) + O) by_) si (nI N) pl nv vr bo ca vc sc) := hD
  refine lv_aload_n hx hb dX0_enter_126 rfl (lv_at hl 0 rfl) ?_
  refine va_get (D := D) (ci := 0) (v := .ref (a 4)) (C := RX0) (T := TX0) (N := 14) hx hb hts in_X0 hown hK hP 0 rfl rfl 4 (by decide) (hts _ q32) (fun _ h9 => h9) rfl dX0_enter_127 ?_
  refine lv_sipush (v := nI 256) hx hb dX0_enter_130 (by decide) ?_
  refine lv_bipush (v := nI 8) hx hb dX0_enter_133 (by decide) ?_
  refine lv_iload_n hx hb dX0_enter_135 rfl (lv_at hl 3 rfl) ?_
  refine tn_imul hx hb dX0_enter_136 ?_
  refine tn_iadd hx hb dX0_enter_137 ?_
  refine lv_iload_n hx hb dX0_enter_138 rfl (lv_at hl 1 rfl) ?_
  refine tn_iadd hx hb dX0_enter_139 ?_
  refine lv_dup2_11 hx hb dX0_enter_140 rfl rfl ?_
  refine tn_iald hx hb hK hP 4 0 rfl rfl (j := (256 + (8 * O)) + S) (by omega) (by decide) dX0_enter_141 ?_
  refine lv_iload hx hb dX0_enter_142 (lv_at hl 4 rfl) ?_
  refine lv_iadd hx hb dX0_enter_144 ?_
  refine tn_iast hx hb hK hP hD hS 4 0 rfl rfl (j := (256 + (8 * O)) + S) (x := (((tinc (tinc (tinc (tinc go ((8 * S) + P) by_) ((64 + (8 * S)) + O) by_) ((128 + (8 * P)) + S) by_) ((192 + (8 * P)) + O) by_) ((256 + (8 * O)) + S)) + by_)) (by omega) (by decide) dX0_enter_145 (fun H locs hP hD hS => ?_)
  have hP : va_P D vwCl (wJ h a d he (txr ob ((8 * S) + P) ((nI 1) <<< ((nI O) &&& 31))) (txr pr ((8 * S) + O) ((nI 1) <<< ((nI P) &&& 31))) (txr su ((8 * P) + O) ((nI 1) <<< ((nI S) &&& 31))) (tinc (tinc (tinc (tinc (tinc go ((8 * S) + P) by_) ((64 + (8 * S)) + O) by_) ((128 + (8 * P)) + S) by_) ((192 + (8 * P)) + O) by_) ((256 + (8 * O)) + S) by_) si (nI N) pl nv vr bo ca vc sc) H := hP
  have hD : va_D (oJ h a) (wJ h a d he (txr ob ((8 * S) + P) ((nI 1) <<< ((nI O) &&& 31))) (txr pr ((8 * S) + O) ((nI 1) <<< ((nI P) &&& 31))) (txr su ((8 * P) + O) ((nI 1) <<< ((nI S) &&& 31))) (tinc (tinc (tinc (tinc (tinc go ((8 * S) + P) by_) ((64 + (8 * S)) + O) by_) ((128 + (8 * P)) + S) by_) ((192 + (8 * P)) + O) by_) ((256 + (8 * O)) + S) by_) si (nI N) pl nv vr bo ca vc sc) := hD
  refine lv_aload_n hx hb dX0_enter_146 rfl (lv_at hl 0 rfl) ?_
  refine va_get (D := D) (ci := 0) (v := .ref (a 4)) (C := RX0) (T := TX0) (N := 14) hx hb hts in_X0 hown hK hP 0 rfl rfl 4 (by decide) (hts _ q32) (fun _ h9 => h9) rfl dX0_enter_147 ?_
  refine lv_sipush (v := nI 320) hx hb dX0_enter_150 (by decide) ?_
  refine lv_bipush (v := nI 8) hx hb dX0_enter_153 (by decide) ?_
  refine lv_iload_n hx hb dX0_enter_155 rfl (lv_at hl 3 rfl) ?_
  refine tn_imul hx hb dX0_enter_156 ?_
  refine tn_iadd hx hb dX0_enter_157 ?_
  refine lv_iload_n hx hb dX0_enter_158 rfl (lv_at hl 2 rfl) ?_
  refine tn_iadd hx hb dX0_enter_159 ?_
  refine lv_dup2_11 hx hb dX0_enter_160 rfl rfl ?_
  refine tn_iald hx hb hK hP 4 0 rfl rfl (j := (320 + (8 * O)) + P) (by omega) (by decide) dX0_enter_161 ?_
  refine lv_iload hx hb dX0_enter_162 (lv_at hl 4 rfl) ?_
  refine lv_iadd hx hb dX0_enter_164 ?_
  refine tn_iast hx hb hK hP hD hS 4 0 rfl rfl (j := (320 + (8 * O)) + P) (x := (((tinc (tinc (tinc (tinc (tinc go ((8 * S) + P) by_) ((64 + (8 * S)) + O) by_) ((128 + (8 * P)) + S) by_) ((192 + (8 * P)) + O) by_) ((256 + (8 * O)) + S) by_) ((320 + (8 * O)) + P)) + by_)) (by omega) (by decide) dX0_enter_165 (fun H locs hP hD hS => ?_)
  have hP : va_P D vwCl (wJ h a d he (txr ob ((8 * S) + P) ((nI 1) <<< ((nI O) &&& 31))) (txr pr ((8 * S) + O) ((nI 1) <<< ((nI P) &&& 31))) (txr su ((8 * P) + O) ((nI 1) <<< ((nI S) &&& 31))) (tinc (tinc (tinc (tinc (tinc (tinc go ((8 * S) + P) by_) ((64 + (8 * S)) + O) by_) ((128 + (8 * P)) + S) by_) ((192 + (8 * P)) + O) by_) ((256 + (8 * O)) + S) by_) ((320 + (8 * O)) + P) by_) si (nI N) pl nv vr bo ca vc sc) H := hP
  have hD : va_D (oJ h a) (wJ h a d he (txr ob ((8 * S) + P) ((nI 1) <<< ((nI O) &&& 31))) (txr pr ((8 * S) + O) ((nI 1) <<< ((nI P) &&& 31))) (txr su ((8 * P) + O) ((nI 1) <<< ((nI S) &&& 31))) (tinc (tinc (tinc (tinc (tinc (tinc go ((8 * S) + P) by_) ((64 + (8 * S)) + O) by_) ((128 + (8 * P)) + S) by_) ((192 + (8 * P)) + O) by_) ((256 + (8 * O)) + S) by_) ((320 + (8 * O)) + P) by_) si (nI N) pl nv vr bo ca vc sc) := hD
  refine lv_aload_n hx hb dX0_enter_166 rfl (lv_at hl 0 rfl) ?_
  refine va_get (D := D) (ci := 0) (v := .ref (a 5)) (C := RX0) (T := TX0) (N := 14) hx hb hts in_X0 hown hK hP 0 rfl rfl 5 (by decide) (hts _ q33) (fun _ h9 => h9) rfl dX0_enter_167 ?_
  refine lv_iload_n hx hb dX0_enter_170 rfl (lv_at hl 1 rfl) ?_
  refine lv_dup2_11 hx hb dX0_enter_171 rfl rfl ?_
  refine tn_iald hx hb hK hP 5 0 rfl rfl (j := S) (by omega) (by decide) dX0_enter_172 ?_
  refine lv_iload hx hb dX0_enter_173 (lv_at hl 4 rfl) ?_
  refine lv_iadd hx hb dX0_enter_175 ?_
  refine tn_iast hx hb hK hP hD hS 5 0 rfl rfl (j := S) (x := ((si S) + by_)) (by omega) (by decide) dX0_enter_176 (fun H locs hP hD hS => ?_)
  have hP : va_P D vwCl (wJ h a d he (txr ob ((8 * S) + P) ((nI 1) <<< ((nI O) &&& 31))) (txr pr ((8 * S) + O) ((nI 1) <<< ((nI P) &&& 31))) (txr su ((8 * P) + O) ((nI 1) <<< ((nI S) &&& 31))) (tinc (tinc (tinc (tinc (tinc (tinc go ((8 * S) + P) by_) ((64 + (8 * S)) + O) by_) ((128 + (8 * P)) + S) by_) ((192 + (8 * P)) + O) by_) ((256 + (8 * O)) + S) by_) ((320 + (8 * O)) + P) by_) (tinc si S by_) (nI N) pl nv vr bo ca vc sc) H := hP
  have hD : va_D (oJ h a) (wJ h a d he (txr ob ((8 * S) + P) ((nI 1) <<< ((nI O) &&& 31))) (txr pr ((8 * S) + O) ((nI 1) <<< ((nI P) &&& 31))) (txr su ((8 * P) + O) ((nI 1) <<< ((nI S) &&& 31))) (tinc (tinc (tinc (tinc (tinc (tinc go ((8 * S) + P) by_) ((64 + (8 * S)) + O) by_) ((128 + (8 * P)) + S) by_) ((192 + (8 * P)) + O) by_) ((256 + (8 * O)) + S) by_) ((320 + (8 * O)) + P) by_) (tinc si S by_) (nI N) pl nv vr bo ca vc sc) := hD
  refine lv_aload_n hx hb dX0_enter_177 rfl (lv_at hl 0 rfl) ?_
  refine va_get (D := D) (ci := 0) (v := .ref (a 5)) (C := RX0) (T := TX0) (N := 14) hx hb hts in_X0 hown hK hP 0 rfl rfl 5 (by decide) (hts _ q33) (fun _ h9 => h9) rfl dX0_enter_178 ?_
  refine lv_bipush (v := nI 8) hx hb dX0_enter_181 (by decide) ?_
  refine lv_iload_n hx hb dX0_enter_183 rfl (lv_at hl 2 rfl) ?_
  refine tn_iadd hx hb dX0_enter_184 ?_
  refine lv_dup2_11 hx hb dX0_enter_185 rfl rfl ?_
  refine tn_iald hx hb hK hP 5 0 rfl rfl (j := 8 + P) (by omega) (by decide) dX0_enter_186 ?_
  refine lv_iload hx hb dX0_enter_187 (lv_at hl 4 rfl) ?_
  refine lv_iadd hx hb dX0_enter_189 ?_
  refine tn_iast hx hb hK hP hD hS 5 0 rfl rfl (j := 8 + P) (x := (((tinc si S by_) (8 + P)) + by_)) (by omega) (by decide) dX0_enter_190 (fun H locs hP hD hS => ?_)
  have hP : va_P D vwCl (wJ h a d he (txr ob ((8 * S) + P) ((nI 1) <<< ((nI O) &&& 31))) (txr pr ((8 * S) + O) ((nI 1) <<< ((nI P) &&& 31))) (txr su ((8 * P) + O) ((nI 1) <<< ((nI S) &&& 31))) (tinc (tinc (tinc (tinc (tinc (tinc go ((8 * S) + P) by_) ((64 + (8 * S)) + O) by_) ((128 + (8 * P)) + S) by_) ((192 + (8 * P)) + O) by_) ((256 + (8 * O)) + S) by_) ((320 + (8 * O)) + P) by_) (tinc (tinc si S by_) (8 + P) by_) (nI N) pl nv vr bo ca vc sc) H := hP
  have hD : va_D (oJ h a) (wJ h a d he (txr ob ((8 * S) + P) ((nI 1) <<< ((nI O) &&& 31))) (txr pr ((8 * S) + O) ((nI 1) <<< ((nI P) &&& 31))) (txr su ((8 * P) + O) ((nI 1) <<< ((nI S) &&& 31))) (tinc (tinc (tinc (tinc (tinc (tinc go ((8 * S) + P) by_) ((64 + (8 * S)) + O) by_) ((128 + (8 * P)) + S) by_) ((192 + (8 * P)) + O) by_) ((256 + (8 * O)) + S) by_) ((320 + (8 * O)) + P) by_) (tinc (tinc si S by_) (8 + P) by_) (nI N) pl nv vr bo ca vc sc) := hD
  refine lv_aload_n hx hb dX0_enter_191 rfl (lv_at hl 0 rfl) ?_
  refine va_get (D := D) (ci := 0) (v := .ref (a 5)) (C := RX0) (T := TX0) (N := 14) hx hb hts in_X0 hown hK hP 0 rfl rfl 5 (by decide) (hts _ q33) (fun _ h9 => h9) rfl dX0_enter_192 ?_
  refine lv_bipush (v := nI 16) hx hb dX0_enter_195 (by decide) ?_
  refine lv_iload_n hx hb dX0_enter_197 rfl (lv_at hl 3 rfl) ?_
  refine tn_iadd hx hb dX0_enter_198 ?_
  refine lv_dup2_11 hx hb dX0_enter_199 rfl rfl ?_
  refine tn_iald hx hb hK hP 5 0 rfl rfl (j := 16 + O) (by omega) (by decide) dX0_enter_200 ?_
  refine lv_iload hx hb dX0_enter_201 (lv_at hl 4 rfl) ?_
  refine lv_iadd hx hb dX0_enter_203 ?_
  refine tn_iast hx hb hK hP hD hS 5 0 rfl rfl (j := 16 + O) (x := (((tinc (tinc si S by_) (8 + P) by_) (16 + O)) + by_)) (by omega) (by decide) dX0_enter_204 (fun H locs hP hD hS => ?_)
  have hP : va_P D vwCl (wJ h a d he (txr ob ((8 * S) + P) ((nI 1) <<< ((nI O) &&& 31))) (txr pr ((8 * S) + O) ((nI 1) <<< ((nI P) &&& 31))) (txr su ((8 * P) + O) ((nI 1) <<< ((nI S) &&& 31))) (tinc (tinc (tinc (tinc (tinc (tinc go ((8 * S) + P) by_) ((64 + (8 * S)) + O) by_) ((128 + (8 * P)) + S) by_) ((192 + (8 * P)) + O) by_) ((256 + (8 * O)) + S) by_) ((320 + (8 * O)) + P) by_) (tinc (tinc (tinc si S by_) (8 + P) by_) (16 + O) by_) (nI N) pl nv vr bo ca vc sc) H := hP
  have hD : va_D (oJ h a) (wJ h a d he (txr ob ((8 * S) + P) ((nI 1) <<< ((nI O) &&& 31))) (txr pr ((8 * S) + O) ((nI 1) <<< ((nI P) &&& 31))) (txr su ((8 * P) + O) ((nI 1) <<< ((nI S) &&& 31))) (tinc (tinc (tinc (tinc (tinc (tinc go ((8 * S) + P) by_) ((64 + (8 * S)) + O) by_) ((128 + (8 * P)) + S) by_) ((192 + (8 * P)) + O) by_) ((256 + (8 * O)) + S) by_) ((320 + (8 * O)) + P) by_) (tinc (tinc (tinc si S by_) (8 + P) by_) (16 + O) by_) (nI N) pl nv vr bo ca vc sc) := hD
  exact W.vret hx hb hr (fun t ht hW => ⟨⟨(), rfl, trivial, by show va_P D vwCl _ t.heap; rw [ht]; exact hP⟩, hS.F ht⟩) hS.2.2 dX0_enter_205

set_option maxHeartbeats 1000000 in
set_option maxRecDepth 100000 in
/-- add -/
theorem m_add {l : Launch} {D : va_G} {d z : ClassId} {h : Nat} {a : Nat → Nat} {he : Int32} {ob pr su go si : Nat → Int32} {N : Nat} {pl : Nat → Int32} {nv : Int32} {vr bo ca vc : Nat → Int32} {sc : Int32} {F : Nat → Bool} (hI : tTI F he ob pr su go si) (s_ p_ o_ : Int32) : Met l yX0_add (ws_ yX0_add cX0_add 4 (some .int)) (rm_ 2 24) (pJ D d z (wJ h a d he ob pr su go si (nI N) pl nv vr bo ca vc sc) [.ref h, .int s_, .int p_, .int o_]) (va_Qi (fun (r_ : Int32) (u : Int32 × (Nat → Int32) × (Nat → Int32) × (Nat → Int32) × (Nat → Int32) × (Nat → Int32)) => r_ = tar F s_ p_ o_ ∧ tTI (taF F s_ p_ o_) u.1 u.2.1 u.2.2.1 u.2.2.2.1 u.2.2.2.2.1 u.2.2.2.2.2) (fun u t => va_P D vwCl (wJ h a d u.1 u.2.1 u.2.2.1 u.2.2.2.1 u.2.2.2.2.1 u.2.2.2.2.2 (nI N) pl nv vr bo ca vc sc) t.heap) (oJ h a)) 0 0 (oJ h a) := by
  refine Met.ofW (cc := cX0_add) (maxL := 4) (ret := (some .int)) (by decide) rfl ?_
  intro p e s m args below meth c s₁ B hml hv
  obtain ⟨rfl, hP, hK, hD⟩ := hv
  have hx := B.exec
  have hb := B.bytes
  have hr := B.returns
  have hts := atoms_spec (ws := (ws_ yX0_add cX0_add 4 (some .int))) B.pre
  have hts : ∀ w ∈ lw_all, w.before _ s = true := fun w h => hts w (List.mem_cons_of_mem _ h)
  have hown : s.vm.findClass RX0 = some m.cls := findClass_of_methodNamed B.named
  have hlocks := B.notSynchronized
  have hD := oJ_D hD
  have hS : va_S (oJ h a) s.heap s.heap [] := va_S.rf
  have hl := lv_entry ([.ref h, .int s_, .int p_, .int o_]) (n := 4) (Nat.le_of_ble_eq_true rfl)
  rw [lg_entry_eq]
  generalize (lg_sl ([.ref h, .int s_, .int p_, .int o_]) ++ List.replicate (4 - (lg_sl ([.ref h, .int s_, .int p_, .int o_])).length) Slot.unset).toArray = ls at hl ⊢
  have hl : lv_has ls 4 [(0, .ref h), (1, .int s_), (2, .int p_), (3, .int o_)] := hl
  refine lv_iload_n hx hb dX0_add_0 rfl (lv_at hl 1 rfl) ?_
  refine vp_callSi (W.runS (As := [.int s_]) (rest := []) ⟨hx, hb, hml, hown, hts⟩ (m_isPart l s_) (va_cwS 1 hts (lw_S q76 q77 q18 q78) rfl rfl rfl (by decide +kernel) ⟨Nat.le_of_ble_eq_true rfl, Nat.le_of_ble_eq_true rfl⟩) pS_pre rfl rfl hl.1 rfl (lv_room (Nat.le_of_ble_eq_true rfl)) dX0_add_1 ⟨Nat.le_refl _, Nat.le_refl _⟩) (fun r_1 hr_1 => ?_)
  subst hr_1
  refine tn_if_eq (tgt := 48) hx hb dX0_add_4 (by decide) (tb_lt _) (fun c_4 => ?_) (fun c_4 => ?_)
  · refine lv_iconst (v := (-1)) hx hb dX0_add_48 (by decide) ?_
    have hz : tao F s_ p_ o_ = false := by unfold tao; rw [tb_0 c_4]; simp
    exact W.iret (v := (-1)) hx hb hr (fun t ht hW => ⟨⟨_, (he, ob, pr, su, go, si), rfl, ⟨by unfold tar; rw [hz]; rfl, by unfold taF; rw [hz]; exact hI⟩, by show va_P D vwCl _ t.heap; rw [ht]; exact hP⟩, hS.F ht⟩) hS.2.2 dX0_add_49
  · obtain ⟨S, hS8, rfl⟩ := tpa_t (tb_1 c_4)
    refine lv_iload_n hx hb dX0_add_7 rfl (lv_at hl 2 rfl) ?_
    refine vp_callSi (W.runS (As := [.int p_]) (rest := []) ⟨hx, hb, hml, hown, hts⟩ (m_isPart l p_) (va_cwS 1 hts (lw_S q76 q77 q18 q78) rfl rfl rfl (by decide +kernel) ⟨Nat.le_of_ble_eq_true rfl, Nat.le_of_ble_eq_true rfl⟩) pS_pre rfl rfl hl.1 rfl (lv_room (Nat.le_of_ble_eq_true rfl)) dX0_add_8 ⟨Nat.le_refl _, Nat.le_refl _⟩) (fun r_8 hr_8 => ?_)
    subst hr_8
    refine tn_if_eq (tgt := 48) hx hb dX0_add_11 (by decide) (tb_lt _) (fun c_11 => ?_) (fun c_11 => ?_)
    · refine lv_iconst (v := (-1)) hx hb dX0_add_48 (by decide) ?_
      have hz : tao F (nI S) p_ o_ = false := by unfold tao; rw [tb_0 c_11]; simp
      exact W.iret (v := (-1)) hx hb hr (fun t ht hW => ⟨⟨_, (he, ob, pr, su, go, si), rfl, ⟨by unfold tar; rw [hz]; rfl, by unfold taF; rw [hz]; exact hI⟩, by show va_P D vwCl _ t.heap; rw [ht]; exact hP⟩, hS.F ht⟩) hS.2.2 dX0_add_49
    · obtain ⟨P, hP8, rfl⟩ := tpa_t (tb_1 c_11)
      refine lv_iload_n hx hb dX0_add_14 rfl (lv_at hl 3 rfl) ?_
      refine vp_callSi (W.runS (As := [.int o_]) (rest := []) ⟨hx, hb, hml, hown, hts⟩ (m_isPart l o_) (va_cwS 1 hts (lw_S q76 q77 q18 q78) rfl rfl rfl (by decide +kernel) ⟨Nat.le_of_ble_eq_true rfl, Nat.le_of_ble_eq_true rfl⟩) pS_pre rfl rfl hl.1 rfl (lv_room (Nat.le_of_ble_eq_true rfl)) dX0_add_15 ⟨Nat.le_refl _, Nat.le_refl _⟩) (fun r_15 hr_15 => ?_)
      subst hr_15
      refine tn_if_eq (tgt := 48) hx hb dX0_add_18 (by decide) (tb_lt _) (fun c_18 => ?_) (fun c_18 => ?_)
      · refine lv_iconst (v := (-1)) hx hb dX0_add_48 (by decide) ?_
        have hz : tao F (nI S) (nI P) o_ = false := by unfold tao; rw [tb_0 c_18]; simp
        exact W.iret (v := (-1)) hx hb hr (fun t ht hW => ⟨⟨_, (he, ob, pr, su, go, si), rfl, ⟨by unfold tar; rw [hz]; rfl, by unfold taF; rw [hz]; exact hI⟩, by show va_P D vwCl _ t.heap; rw [ht]; exact hP⟩, hS.F ht⟩) hS.2.2 dX0_add_49
      · obtain ⟨O, hO8, rfl⟩ := tpa_t (tb_1 c_18)
        refine lv_aload_n hx hb dX0_add_21 rfl (lv_at hl 0 rfl) ?_
        refine va_get (D := D) (ci := 0) (v := .int he) (C := RX0) (T := TX0) (N := 14) hx hb hts in_X0 hown hK hP 0 rfl rfl 0 (by decide) (hts _ q28) (fun _ h9 => h9) rfl dX0_add_22 ?_
        refine lv_bipush (v := nI 48) hx hb dX0_add_25 (by decide) ?_
        refine tn_as (nI 48) rfl ?_
        refine lv_icmp_ge (tgt := 48) hx hb dX0_add_27 (by decide) (fun c_27 => ?_) (fun c_27 => ?_)
        · refine lv_iconst (v := (-1)) hx hb dX0_add_48 (by decide) ?_
          have hz : tao F (nI S) (nI P) (nI O) = false := by unfold tao; rw [decide_eq_false (fun q => by have h1 := (nI_leI (by decide) (tC3_lt F (-1) (-1) (-1))).mp (hI.1 ▸ c_27); omega)]; simp
          exact W.iret (v := (-1)) hx hb hr (fun t ht hW => ⟨⟨_, (he, ob, pr, su, go, si), rfl, ⟨by unfold tar; rw [hz]; rfl, by unfold taF; rw [hz]; exact hI⟩, by show va_P D vwCl _ t.heap; rw [ht]; exact hP⟩, hS.F ht⟩) hS.2.2 dX0_add_49
        · have h48 : tC3 F (-1) (-1) (-1) < 48 := Nat.lt_of_not_le (fun q => c_27 (by rw [hI.1]; exact (nI_leI (by decide) (tC3_lt F (-1) (-1) (-1))).mpr q))
          refine lv_aload_n hx hb dX0_add_30 rfl (lv_at hl 0 rfl) ?_
          refine va_get (D := D) (ci := 0) (v := .ref (a 1)) (C := RX0) (T := TX0) (N := 14) hx hb hts in_X0 hown hK hP 0 rfl rfl 1 (by decide) (hts _ q29) (fun _ h9 => h9) rfl dX0_add_31 ?_
          refine lv_bipush (v := nI 8) hx hb dX0_add_34 (by decide) ?_
          refine lv_iload_n hx hb dX0_add_36 rfl (lv_at hl 1 rfl) ?_
          refine tn_imul hx hb dX0_add_37 ?_
          refine lv_iload_n hx hb dX0_add_38 rfl (lv_at hl 2 rfl) ?_
          refine tn_iadd hx hb dX0_add_39 ?_
          refine tn_iald hx hb hK hP 1 0 rfl rfl (j := (8 * S) + P) (by omega) (by decide) dX0_add_40 ?_
          refine lv_iload_n hx hb dX0_add_41 rfl (lv_at hl 3 rfl) ?_
          refine lv_iushr hx hb dX0_add_42 rfl ?_
          refine lv_iconst (v := nI 1) hx hb dX0_add_43 (by decide) ?_
          refine lv_iand hx hb dX0_add_44 ?_
          refine tn_as (nI (tb (F (64 * S + 8 * P + O)))) (t_bitf (hI.2.1 S P hS8 hP8).1 hO8) ?_
          refine tn_if_eq (tgt := 50) hx hb dX0_add_45 (by decide) (tb_lt _) (fun c_45 => ?_) (fun c_45 => ?_)
          · have hz : tao F (nI S) (nI P) (nI O) = true := by unfold tao; rw [tpa_nI hS8, tpa_nI hP8, tpa_nI hO8, tix_nI hS8 hP8 hO8, tb_0 c_45, decide_eq_true h48]; rfl
            have hT := tTI_enter (b := true) hI hS8 hP8 hO8 (tb_0 c_45)
            rw [show tsg true = nI 1 from rfl] at hT
            refine lv_aload_n hx hb dX0_add_50 rfl (lv_at hl 0 rfl) ?_
            refine lv_iload_n hx hb dX0_add_51 rfl (lv_at hl 1 rfl) ?_
            refine lv_iload_n hx hb dX0_add_52 rfl (lv_at hl 2 rfl) ?_
            refine lv_iload_n hx hb dX0_add_53 rfl (lv_at hl 3 rfl) ?_
            refine lv_iconst (v := nI 1) hx hb dX0_add_54 (by decide) ?_
            refine va_callv (va_runV (As := [.int (nI S), .int (nI P), .int (nI O), .int (nI 1)]) (rest := []) ⟨hx, hb, hml, hown, hts⟩ (m_enter S P O hS8 hP8 hO8 (nI 1)) (cwV 4 hts (lw_V q79 q81 qs0 q18 q82) rfl rfl rfl (by decide +kernel) ⟨Nat.le_of_ble_eq_true rfl, Nat.le_of_ble_eq_true rfl⟩) (pJ_preJ hK hP hD rfl) rfl rfl hl.1 rfl (lv_room (Nat.le_of_ble_eq_true rfl)) dX0_add_55 ⟨Nat.le_refl _, Nat.le_refl _⟩) hS (fun q _ h9 => h9) (fun q h9 => h9) (fun _ t_ H locs ht_ hvm_ _ hB _ _ hS => ?_)
            rw [ht_] at hB
            have hP : va_P D vwCl (wJ h a d he (txr ob ((8 * S) + P) ((nI 1) <<< ((nI O) &&& 31))) (txr pr ((8 * S) + O) ((nI 1) <<< ((nI P) &&& 31))) (txr su ((8 * P) + O) ((nI 1) <<< ((nI S) &&& 31))) (tinc (tinc (tinc (tinc (tinc (tinc go ((8 * S) + P) (nI 1)) ((64 + (8 * S)) + O) (nI 1)) ((128 + (8 * P)) + S) (nI 1)) ((192 + (8 * P)) + O) (nI 1)) ((256 + (8 * O)) + S) (nI 1)) ((320 + (8 * O)) + P) (nI 1)) (tinc (tinc (tinc si S (nI 1)) (8 + P) (nI 1)) (16 + O) (nI 1)) (nI N) pl nv vr bo ca vc sc) H := hB
            have hD : va_D (oJ h a) (wJ h a d he (txr ob ((8 * S) + P) ((nI 1) <<< ((nI O) &&& 31))) (txr pr ((8 * S) + O) ((nI 1) <<< ((nI P) &&& 31))) (txr su ((8 * P) + O) ((nI 1) <<< ((nI S) &&& 31))) (tinc (tinc (tinc (tinc (tinc (tinc go ((8 * S) + P) (nI 1)) ((64 + (8 * S)) + O) (nI 1)) ((128 + (8 * P)) + S) (nI 1)) ((192 + (8 * P)) + O) (nI 1)) ((256 + (8 * O)) + S) (nI 1)) ((320 + (8 * O)) + P) (nI 1)) (tinc (tinc (tinc si S (nI 1)) (8 + P) (nI 1)) (16 + O) (nI 1)) (nI N) pl nv vr bo ca vc sc) := va_D_re hD rfl
            refine lv_aload_n hx hb dX0_add_58 rfl (lv_at hl 0 rfl) ?_
            refine lv_dup hx hb dX0_add_59 rfl ?_
            refine va_get (D := D) (ci := 0) (v := .int he) (C := RX0) (T := TX0) (N := 14) hx hb hts in_X0 hown hK hP 0 rfl rfl 0 (by decide) (hts _ q28) (fun _ h9 => h9) rfl dX0_add_60 ?_
            refine lv_iconst (v := nI 1) hx hb dX0_add_63 (by decide) ?_
            refine lv_iadd hx hb dX0_add_64 ?_
            refine va_put (D := D) (ci := 0) (v := .int (he + (nI 1))) (ty := .int) (C := RX0) (T := TX0) (N := 14) hx hb hts in_X0 tyX0 tyX0_ok nmX0 hown hK hP hD hS 0 rfl rfl 0 (by decide) (hts _ q28) (fun _ h9 => h9) rfl (by decide +kernel) rfl rfl (Nat.le_of_ble_eq_true rfl) dX0_add_65 (fun H locs hP hD hS => ?_)
            have hP : va_P D vwCl (wJ h a d (he + (nI 1)) (txr ob ((8 * S) + P) ((nI 1) <<< ((nI O) &&& 31))) (txr pr ((8 * S) + O) ((nI 1) <<< ((nI P) &&& 31))) (txr su ((8 * P) + O) ((nI 1) <<< ((nI S) &&& 31))) (tinc (tinc (tinc (tinc (tinc (tinc go ((8 * S) + P) (nI 1)) ((64 + (8 * S)) + O) (nI 1)) ((128 + (8 * P)) + S) (nI 1)) ((192 + (8 * P)) + O) (nI 1)) ((256 + (8 * O)) + S) (nI 1)) ((320 + (8 * O)) + P) (nI 1)) (tinc (tinc (tinc si S (nI 1)) (8 + P) (nI 1)) (16 + O) (nI 1)) (nI N) pl nv vr bo ca vc sc) H := hP
            have hD : va_D (oJ h a) (wJ h a d (he + (nI 1)) (txr ob ((8 * S) + P) ((nI 1) <<< ((nI O) &&& 31))) (txr pr ((8 * S) + O) ((nI 1) <<< ((nI P) &&& 31))) (txr su ((8 * P) + O) ((nI 1) <<< ((nI S) &&& 31))) (tinc (tinc (tinc (tinc (tinc (tinc go ((8 * S) + P) (nI 1)) ((64 + (8 * S)) + O) (nI 1)) ((128 + (8 * P)) + S) (nI 1)) ((192 + (8 * P)) + O) (nI 1)) ((256 + (8 * O)) + S) (nI 1)) ((320 + (8 * O)) + P) (nI 1)) (tinc (tinc (tinc si S (nI 1)) (8 + P) (nI 1)) (16 + O) (nI 1)) (nI N) pl nv vr bo ca vc sc) := hD
            refine lv_aload_n hx hb dX0_add_68 rfl (lv_at hl 0 rfl) ?_
            refine va_get (D := D) (ci := 0) (v := .int (he + (nI 1))) (C := RX0) (T := TX0) (N := 14) hx hb hts in_X0 hown hK hP 0 rfl rfl 0 (by decide) (hts _ q28) (fun _ h9 => h9) rfl dX0_add_69 ?_
            exact W.iret (v := (he + (nI 1))) hx hb hr (fun t ht hW => ⟨⟨_, ((he + (nI 1)), txr ob ((8 * S) + P) ((nI 1) <<< ((nI O) &&& 31)), txr pr ((8 * S) + O) ((nI 1) <<< ((nI P) &&& 31)), txr su ((8 * P) + O) ((nI 1) <<< ((nI S) &&& 31)), tinc (tinc (tinc (tinc (tinc (tinc go ((8 * S) + P) (nI 1)) ((64 + (8 * S)) + O) (nI 1)) ((128 + (8 * P)) + S) (nI 1)) ((192 + (8 * P)) + O) (nI 1)) ((256 + (8 * O)) + S) (nI 1)) ((320 + (8 * O)) + P) (nI 1), tinc (tinc (tinc si S (nI 1)) (8 + P) (nI 1)) (16 + O) (nI 1)), rfl, ⟨by unfold tar; rw [hz, if_pos rfl, hI.1, nI_add], by unfold taF; rw [hz, if_pos rfl, tix_nI hS8 hP8 hO8]; exact hT⟩, by show va_P D vwCl _ t.heap; rw [ht]; exact hP⟩, hS.F ht⟩) hS.2.2 dX0_add_72
          · refine lv_iconst (v := (-1)) hx hb dX0_add_48 (by decide) ?_
            have hz : tao F (nI S) (nI P) (nI O) = false := by unfold tao; rw [tix_nI hS8 hP8 hO8, tb_1 c_45]; simp
            exact W.iret (v := (-1)) hx hb hr (fun t ht hW => ⟨⟨_, (he, ob, pr, su, go, si), rfl, ⟨by unfold tar; rw [hz]; rfl, by unfold taF; rw [hz]; exact hI⟩, by show va_P D vwCl _ t.heap; rw [ht]; exact hP⟩, hS.F ht⟩) hS.2.2 dX0_add_49

set_option maxHeartbeats 1000000 in
set_option maxRecDepth 100000 in
/-- remove -/
theorem m_remove {l : Launch} {D : va_G} {d z : ClassId} {h : Nat} {a : Nat → Nat} {he : Int32} {ob pr su go si : Nat → Int32} {N : Nat} {pl : Nat → Int32} {nv : Int32} {vr bo ca vc : Nat → Int32} {sc : Int32} {F : Nat → Bool} (hI : tTI F he ob pr su go si) (s_ p_ o_ : Int32) : Met l yX0_remove (ws_ yX0_remove cX0_remove 4 (some .int)) (rm_ 2 24) (pJ D d z (wJ h a d he ob pr su go si (nI N) pl nv vr bo ca vc sc) [.ref h, .int s_, .int p_, .int o_]) (va_Qi (fun (r_ : Int32) (u : Int32 × (Nat → Int32) × (Nat → Int32) × (Nat → Int32) × (Nat → Int32) × (Nat → Int32)) => r_ = trr F s_ p_ o_ ∧ tTI (trF F s_ p_ o_) u.1 u.2.1 u.2.2.1 u.2.2.2.1 u.2.2.2.2.1 u.2.2.2.2.2) (fun u t => va_P D vwCl (wJ h a d u.1 u.2.1 u.2.2.1 u.2.2.2.1 u.2.2.2.2.1 u.2.2.2.2.2 (nI N) pl nv vr bo ca vc sc) t.heap) (oJ h a)) 0 0 (oJ h a) := by
  refine Met.ofW (cc := cX0_remove) (maxL := 4) (ret := (some .int)) (by decide) rfl ?_
  intro p e s m args below meth c s₁ B hml hv
  obtain ⟨rfl, hP, hK, hD⟩ := hv
  have hx := B.exec
  have hb := B.bytes
  have hr := B.returns
  have hts := atoms_spec (ws := (ws_ yX0_remove cX0_remove 4 (some .int))) B.pre
  have hts : ∀ w ∈ lw_all, w.before _ s = true := fun w h => hts w (List.mem_cons_of_mem _ h)
  have hown : s.vm.findClass RX0 = some m.cls := findClass_of_methodNamed B.named
  have hlocks := B.notSynchronized
  have hD := oJ_D hD
  have hS : va_S (oJ h a) s.heap s.heap [] := va_S.rf
  have hl := lv_entry ([.ref h, .int s_, .int p_, .int o_]) (n := 4) (Nat.le_of_ble_eq_true rfl)
  rw [lg_entry_eq]
  generalize (lg_sl ([.ref h, .int s_, .int p_, .int o_]) ++ List.replicate (4 - (lg_sl ([.ref h, .int s_, .int p_, .int o_])).length) Slot.unset).toArray = ls at hl ⊢
  have hl : lv_has ls 4 [(0, .ref h), (1, .int s_), (2, .int p_), (3, .int o_)] := hl
  refine lv_iload_n hx hb dX0_remove_0 rfl (lv_at hl 1 rfl) ?_
  refine vp_callSi (W.runS (As := [.int s_]) (rest := []) ⟨hx, hb, hml, hown, hts⟩ (m_isPart l s_) (va_cwS 1 hts (lw_S q76 q77 q18 q78) rfl rfl rfl (by decide +kernel) ⟨Nat.le_of_ble_eq_true rfl, Nat.le_of_ble_eq_true rfl⟩) pS_pre rfl rfl hl.1 rfl (lv_room (Nat.le_of_ble_eq_true rfl)) dX0_remove_1 ⟨Nat.le_refl _, Nat.le_refl _⟩) (fun r_1 hr_1 => ?_)
  subst hr_1
  refine tn_if_eq (tgt := 39) hx hb dX0_remove_4 (by decide) (tb_lt _) (fun c_4 => ?_) (fun c_4 => ?_)
  · refine lv_iconst (v := (-1)) hx hb dX0_remove_39 (by decide) ?_
    have hz : thas F s_ p_ o_ = false := by unfold thas; rw [tb_0 c_4]; simp
    exact W.iret (v := (-1)) hx hb hr (fun t ht hW => ⟨⟨_, (he, ob, pr, su, go, si), rfl, ⟨by unfold trr; rw [hz]; rfl, by unfold trF; rw [hz]; exact hI⟩, by show va_P D vwCl _ t.heap; rw [ht]; exact hP⟩, hS.F ht⟩) hS.2.2 dX0_remove_40
  · obtain ⟨S, hS8, rfl⟩ := tpa_t (tb_1 c_4)
    refine lv_iload_n hx hb dX0_remove_7 rfl (lv_at hl 2 rfl) ?_
    refine vp_callSi (W.runS (As := [.int p_]) (rest := []) ⟨hx, hb, hml, hown, hts⟩ (m_isPart l p_) (va_cwS 1 hts (lw_S q76 q77 q18 q78) rfl rfl rfl (by decide +kernel) ⟨Nat.le_of_ble_eq_true rfl, Nat.le_of_ble_eq_true rfl⟩) pS_pre rfl rfl hl.1 rfl (lv_room (Nat.le_of_ble_eq_true rfl)) dX0_remove_8 ⟨Nat.le_refl _, Nat.le_refl _⟩) (fun r_8 hr_8 => ?_)
    subst hr_8
    refine tn_if_eq (tgt := 39) hx hb dX0_remove_11 (by decide) (tb_lt _) (fun c_11 => ?_) (fun c_11 => ?_)
    · refine lv_iconst (v := (-1)) hx hb dX0_remove_39 (by decide) ?_
      have hz : thas F (nI S) p_ o_ = false := by unfold thas; rw [tb_0 c_11]; simp
      exact W.iret (v := (-1)) hx hb hr (fun t ht hW => ⟨⟨_, (he, ob, pr, su, go, si), rfl, ⟨by unfold trr; rw [hz]; rfl, by unfold trF; rw [hz]; exact hI⟩, by show va_P D vwCl _ t.heap; rw [ht]; exact hP⟩, hS.F ht⟩) hS.2.2 dX0_remove_40
    · obtain ⟨P, hP8, rfl⟩ := tpa_t (tb_1 c_11)
      refine lv_iload_n hx hb dX0_remove_14 rfl (lv_at hl 3 rfl) ?_
      refine vp_callSi (W.runS (As := [.int o_]) (rest := []) ⟨hx, hb, hml, hown, hts⟩ (m_isPart l o_) (va_cwS 1 hts (lw_S q76 q77 q18 q78) rfl rfl rfl (by decide +kernel) ⟨Nat.le_of_ble_eq_true rfl, Nat.le_of_ble_eq_true rfl⟩) pS_pre rfl rfl hl.1 rfl (lv_room (Nat.le_of_ble_eq_true rfl)) dX0_remove_15 ⟨Nat.le_refl _, Nat.le_refl _⟩) (fun r_15 hr_15 => ?_)
      subst hr_15
      refine tn_if_eq (tgt := 39) hx hb dX0_remove_18 (by decide) (tb_lt _) (fun c_18 => ?_) (fun c_18 => ?_)
      · refine lv_iconst (v := (-1)) hx hb dX0_remove_39 (by decide) ?_
        have hz : thas F (nI S) (nI P) o_ = false := by unfold thas; rw [tb_0 c_18]; simp
        exact W.iret (v := (-1)) hx hb hr (fun t ht hW => ⟨⟨_, (he, ob, pr, su, go, si), rfl, ⟨by unfold trr; rw [hz]; rfl, by unfold trF; rw [hz]; exact hI⟩, by show va_P D vwCl _ t.heap; rw [ht]; exact hP⟩, hS.F ht⟩) hS.2.2 dX0_remove_40
      · obtain ⟨O, hO8, rfl⟩ := tpa_t (tb_1 c_18)
        refine lv_aload_n hx hb dX0_remove_21 rfl (lv_at hl 0 rfl) ?_
        refine va_get (D := D) (ci := 0) (v := .ref (a 1)) (C := RX0) (T := TX0) (N := 14) hx hb hts in_X0 hown hK hP 0 rfl rfl 1 (by decide) (hts _ q29) (fun _ h9 => h9) rfl dX0_remove_22 ?_
        refine lv_bipush (v := nI 8) hx hb dX0_remove_25 (by decide) ?_
        refine lv_iload_n hx hb dX0_remove_27 rfl (lv_at hl 1 rfl) ?_
        refine tn_imul hx hb dX0_remove_28 ?_
        refine lv_iload_n hx hb dX0_remove_29 rfl (lv_at hl 2 rfl) ?_
        refine tn_iadd hx hb dX0_remove_30 ?_
        refine tn_iald hx hb hK hP 1 0 rfl rfl (j := (8 * S) + P) (by omega) (by decide) dX0_remove_31 ?_
        refine lv_iload_n hx hb dX0_remove_32 rfl (lv_at hl 3 rfl) ?_
        refine lv_iushr hx hb dX0_remove_33 rfl ?_
        refine lv_iconst (v := nI 1) hx hb dX0_remove_34 (by decide) ?_
        refine lv_iand hx hb dX0_remove_35 ?_
        refine tn_as (nI (tb (F (64 * S + 8 * P + O)))) (t_bitf (hI.2.1 S P hS8 hP8).1 hO8) ?_
        refine tn_if_ne (tgt := 41) hx hb dX0_remove_36 (by decide) (tb_lt _) (fun c_36 => ?_) (fun c_36 => ?_)
        · have hz : thas F (nI S) (nI P) (nI O) = true := by unfold thas; rw [tpa_nI hS8, tpa_nI hP8, tpa_nI hO8, tix_nI hS8 hP8 hO8, tb_1 c_36]; rfl
          have hT := tTI_enter (b := false) hI hS8 hP8 hO8 (tb_1 c_36)
          rw [show tsg false = -1 from rfl] at hT
          refine lv_aload_n hx hb dX0_remove_41 rfl (lv_at hl 0 rfl) ?_
          refine lv_iload_n hx hb dX0_remove_42 rfl (lv_at hl 1 rfl) ?_
          refine lv_iload_n hx hb dX0_remove_43 rfl (lv_at hl 2 rfl) ?_
          refine lv_iload_n hx hb dX0_remove_44 rfl (lv_at hl 3 rfl) ?_
          refine lv_iconst (v := (-1)) hx hb dX0_remove_45 (by decide) ?_
          refine va_callv (va_runV (As := [.int (nI S), .int (nI P), .int (nI O), .int (-1)]) (rest := []) ⟨hx, hb, hml, hown, hts⟩ (m_enter S P O hS8 hP8 hO8 (-1)) (cwV 4 hts (lw_V q79 q81 qs0 q18 q82) rfl rfl rfl (by decide +kernel) ⟨Nat.le_of_ble_eq_true rfl, Nat.le_of_ble_eq_true rfl⟩) (pJ_preJ hK hP hD rfl) rfl rfl hl.1 rfl (lv_room (Nat.le_of_ble_eq_true rfl)) dX0_remove_46 ⟨Nat.le_refl _, Nat.le_refl _⟩) hS (fun q _ h9 => h9) (fun q h9 => h9) (fun _ t_ H locs ht_ hvm_ _ hB _ _ hS => ?_)
          rw [ht_] at hB
          have hP : va_P D vwCl (wJ h a d he (txr ob ((8 * S) + P) ((nI 1) <<< ((nI O) &&& 31))) (txr pr ((8 * S) + O) ((nI 1) <<< ((nI P) &&& 31))) (txr su ((8 * P) + O) ((nI 1) <<< ((nI S) &&& 31))) (tinc (tinc (tinc (tinc (tinc (tinc go ((8 * S) + P) (-1)) ((64 + (8 * S)) + O) (-1)) ((128 + (8 * P)) + S) (-1)) ((192 + (8 * P)) + O) (-1)) ((256 + (8 * O)) + S) (-1)) ((320 + (8 * O)) + P) (-1)) (tinc (tinc (tinc si S (-1)) (8 + P) (-1)) (16 + O) (-1)) (nI N) pl nv vr bo ca vc sc) H := hB
          have hD : va_D (oJ h a) (wJ h a d he (txr ob ((8 * S) + P) ((nI 1) <<< ((nI O) &&& 31))) (txr pr ((8 * S) + O) ((nI 1) <<< ((nI P) &&& 31))) (txr su ((8 * P) + O) ((nI 1) <<< ((nI S) &&& 31))) (tinc (tinc (tinc (tinc (tinc (tinc go ((8 * S) + P) (-1)) ((64 + (8 * S)) + O) (-1)) ((128 + (8 * P)) + S) (-1)) ((192 + (8 * P)) + O) (-1)) ((256 + (8 * O)) + S) (-1)) ((320 + (8 * O)) + P) (-1)) (tinc (tinc (tinc si S (-1)) (8 + P) (-1)) (16 + O) (-1)) (nI N) pl nv vr bo ca vc sc) := va_D_re hD rfl
          refine lv_aload_n hx hb dX0_remove_49 rfl (lv_at hl 0 rfl) ?_
          refine lv_dup hx hb dX0_remove_50 rfl ?_
          refine va_get (D := D) (ci := 0) (v := .int he) (C := RX0) (T := TX0) (N := 14) hx hb hts in_X0 hown hK hP 0 rfl rfl 0 (by decide) (hts _ q28) (fun _ h9 => h9) rfl dX0_remove_51 ?_
          refine lv_iconst (v := nI 1) hx hb dX0_remove_54 (by decide) ?_
          refine lv_isub hx hb dX0_remove_55 ?_
          refine va_put (D := D) (ci := 0) (v := .int (he - (nI 1))) (ty := .int) (C := RX0) (T := TX0) (N := 14) hx hb hts in_X0 tyX0 tyX0_ok nmX0 hown hK hP hD hS 0 rfl rfl 0 (by decide) (hts _ q28) (fun _ h9 => h9) rfl (by decide +kernel) rfl rfl (Nat.le_of_ble_eq_true rfl) dX0_remove_56 (fun H locs hP hD hS => ?_)
          have hP : va_P D vwCl (wJ h a d (he - (nI 1)) (txr ob ((8 * S) + P) ((nI 1) <<< ((nI O) &&& 31))) (txr pr ((8 * S) + O) ((nI 1) <<< ((nI P) &&& 31))) (txr su ((8 * P) + O) ((nI 1) <<< ((nI S) &&& 31))) (tinc (tinc (tinc (tinc (tinc (tinc go ((8 * S) + P) (-1)) ((64 + (8 * S)) + O) (-1)) ((128 + (8 * P)) + S) (-1)) ((192 + (8 * P)) + O) (-1)) ((256 + (8 * O)) + S) (-1)) ((320 + (8 * O)) + P) (-1)) (tinc (tinc (tinc si S (-1)) (8 + P) (-1)) (16 + O) (-1)) (nI N) pl nv vr bo ca vc sc) H := hP
          have hD : va_D (oJ h a) (wJ h a d (he - (nI 1)) (txr ob ((8 * S) + P) ((nI 1) <<< ((nI O) &&& 31))) (txr pr ((8 * S) + O) ((nI 1) <<< ((nI P) &&& 31))) (txr su ((8 * P) + O) ((nI 1) <<< ((nI S) &&& 31))) (tinc (tinc (tinc (tinc (tinc (tinc go ((8 * S) + P) (-1)) ((64 + (8 * S)) + O) (-1)) ((128 + (8 * P)) + S) (-1)) ((192 + (8 * P)) + O) (-1)) ((256 + (8 * O)) + S) (-1)) ((320 + (8 * O)) + P) (-1)) (tinc (tinc (tinc si S (-1)) (8 + P) (-1)) (16 + O) (-1)) (nI N) pl nv vr bo ca vc sc) := hD
          refine lv_aload_n hx hb dX0_remove_59 rfl (lv_at hl 0 rfl) ?_
          refine va_get (D := D) (ci := 0) (v := .int (he - (nI 1))) (C := RX0) (T := TX0) (N := 14) hx hb hts in_X0 hown hK hP 0 rfl rfl 0 (by decide) (hts _ q28) (fun _ h9 => h9) rfl dX0_remove_60 ?_
          exact W.iret (v := (he - (nI 1))) hx hb hr (fun t ht hW => ⟨⟨_, ((he - (nI 1)), txr ob ((8 * S) + P) ((nI 1) <<< ((nI O) &&& 31)), txr pr ((8 * S) + O) ((nI 1) <<< ((nI P) &&& 31)), txr su ((8 * P) + O) ((nI 1) <<< ((nI S) &&& 31)), tinc (tinc (tinc (tinc (tinc (tinc go ((8 * S) + P) (-1)) ((64 + (8 * S)) + O) (-1)) ((128 + (8 * P)) + S) (-1)) ((192 + (8 * P)) + O) (-1)) ((256 + (8 * O)) + S) (-1)) ((320 + (8 * O)) + P) (-1), tinc (tinc (tinc si S (-1)) (8 + P) (-1)) (16 + O) (-1)), rfl, ⟨by unfold trr; rw [hz, if_pos rfl, tix_nI hS8 hP8 hO8, ← hT.1]; exact t_dec he, by unfold trF; rw [hz, if_pos rfl, tix_nI hS8 hP8 hO8]; exact tTI_he hT (t_dec he)⟩, by show va_P D vwCl _ t.heap; rw [ht]; exact hP⟩, hS.F ht⟩) hS.2.2 dX0_remove_63
        · refine lv_iconst (v := (-1)) hx hb dX0_remove_39 (by decide) ?_
          have hz : thas F (nI S) (nI P) (nI O) = false := by unfold thas; rw [tix_nI hS8 hP8 hO8, tb_0 c_36]; simp
          exact W.iret (v := (-1)) hx hb hr (fun t ht hW => ⟨⟨_, (he, ob, pr, su, go, si), rfl, ⟨by unfold trr; rw [hz]; rfl, by unfold trF; rw [hz]; exact hI⟩, by show va_P D vwCl _ t.heap; rw [ht]; exact hP⟩, hS.F ht⟩) hS.2.2 dX0_remove_40

set_option maxHeartbeats 1000000 in
set_option maxRecDepth 100000 in
/-- pattern -/
theorem m_pattern {l : Launch} {D : va_G} {d z : ClassId} {h : Nat} {a : Nat → Nat} {he : Int32} {ob pr su go si : Nat → Int32} {N : Nat} {pl : Nat → Int32} {nv : Int32} {vr bo ca vc : Nat → Int32} {sc : Int32} (hN : N ≤ 4) (s_ p_ o_ : Int32) : Met l yX0_pattern (ws_ yX0_pattern cX0_pattern 4 (some .int)) (rm_ 1 0) (pJ D d z (wJ h a d he ob pr su go si (nI N) pl nv vr bo ca vc sc) [.ref h, .int s_, .int p_, .int o_]) (va_Qi (fun (r_ : Int32) (u : Nat × (Nat → Int32)) => r_ = tpr N s_ p_ o_ ∧ u = tpu N pl s_ p_ o_) (fun u t => va_P D vwCl (wJ h a d he ob pr su go si (nI u.1) u.2 nv vr bo ca vc sc) t.heap) (oJ h a)) 0 0 (oJ h a) := by
  refine Met.ofW (cc := cX0_pattern) (maxL := 4) (ret := (some .int)) (by decide) rfl ?_
  intro p e s m args below meth c s₁ B hml hv
  obtain ⟨rfl, hP, hK, hD⟩ := hv
  have hx := B.exec
  have hb := B.bytes
  have hr := B.returns
  have hts := atoms_spec (ws := (ws_ yX0_pattern cX0_pattern 4 (some .int))) B.pre
  have hts : ∀ w ∈ lw_all, w.before _ s = true := fun w h => hts w (List.mem_cons_of_mem _ h)
  have hown : s.vm.findClass RX0 = some m.cls := findClass_of_methodNamed B.named
  have hlocks := B.notSynchronized
  have hD := oJ_D hD
  have hS : va_S (oJ h a) s.heap s.heap [] := va_S.rf
  have hl := lv_entry ([.ref h, .int s_, .int p_, .int o_]) (n := 4) (Nat.le_of_ble_eq_true rfl)
  rw [lg_entry_eq]
  generalize (lg_sl ([.ref h, .int s_, .int p_, .int o_]) ++ List.replicate (4 - (lg_sl ([.ref h, .int s_, .int p_, .int o_])).length) Slot.unset).toArray = ls at hl ⊢
  have hl : lv_has ls 4 [(0, .ref h), (1, .int s_), (2, .int p_), (3, .int o_)] := hl
  refine lv_iload_n hx hb dX0_pattern_0 rfl (lv_at hl 1 rfl) ?_
  refine lv_bipush (v := (-4)) hx hb dX0_pattern_1 (by decide) ?_
  refine lv_icmp_lt (tgt := 44) hx hb dX0_pattern_3 (by decide) (fun c_3 => ?_) (fun c_3 => ?_)
  · refine lv_iconst (v := (-1)) hx hb dX0_pattern_44 (by decide) ?_
    have hz : tpo N s_ p_ o_ = false := by unfold tpo; rw [trg_lo c_3]; simp
    exact W.iret (v := (-1)) hx hb hr (fun t ht hW => ⟨⟨_, (N, pl), rfl, ⟨by unfold tpr; rw [hz]; rfl, by unfold tpu; rw [hz]; rfl⟩, by show va_P D vwCl _ t.heap; rw [ht]; exact hP⟩, hS.F ht⟩) hS.2.2 dX0_pattern_45
  · refine lv_iload_n hx hb dX0_pattern_6 rfl (lv_at hl 1 rfl) ?_
    refine lv_bipush (v := nI 7) hx hb dX0_pattern_7 (by decide) ?_
    refine lv_icmp_gt (tgt := 44) hx hb dX0_pattern_9 (by decide) (fun c_9 => ?_) (fun c_9 => ?_)
    · refine lv_iconst (v := (-1)) hx hb dX0_pattern_44 (by decide) ?_
      have hz : tpo N s_ p_ o_ = false := by unfold tpo; rw [trg_hi c_9]; simp
      exact W.iret (v := (-1)) hx hb hr (fun t ht hW => ⟨⟨_, (N, pl), rfl, ⟨by unfold tpr; rw [hz]; rfl, by unfold tpu; rw [hz]; rfl⟩, by show va_P D vwCl _ t.heap; rw [ht]; exact hP⟩, hS.F ht⟩) hS.2.2 dX0_pattern_45
    · refine lv_iload_n hx hb dX0_pattern_12 rfl (lv_at hl 2 rfl) ?_
      refine lv_bipush (v := (-4)) hx hb dX0_pattern_13 (by decide) ?_
      refine lv_icmp_lt (tgt := 44) hx hb dX0_pattern_15 (by decide) (fun c_15 => ?_) (fun c_15 => ?_)
      · refine lv_iconst (v := (-1)) hx hb dX0_pattern_44 (by decide) ?_
        have hz : tpo N s_ p_ o_ = false := by unfold tpo; rw [trg_lo c_15]; simp
        exact W.iret (v := (-1)) hx hb hr (fun t ht hW => ⟨⟨_, (N, pl), rfl, ⟨by unfold tpr; rw [hz]; rfl, by unfold tpu; rw [hz]; rfl⟩, by show va_P D vwCl _ t.heap; rw [ht]; exact hP⟩, hS.F ht⟩) hS.2.2 dX0_pattern_45
      · refine lv_iload_n hx hb dX0_pattern_18 rfl (lv_at hl 2 rfl) ?_
        refine lv_bipush (v := nI 7) hx hb dX0_pattern_19 (by decide) ?_
        refine lv_icmp_gt (tgt := 44) hx hb dX0_pattern_21 (by decide) (fun c_21 => ?_) (fun c_21 => ?_)
        · refine lv_iconst (v := (-1)) hx hb dX0_pattern_44 (by decide) ?_
          have hz : tpo N s_ p_ o_ = false := by unfold tpo; rw [trg_hi c_21]; simp
          exact W.iret (v := (-1)) hx hb hr (fun t ht hW => ⟨⟨_, (N, pl), rfl, ⟨by unfold tpr; rw [hz]; rfl, by unfold tpu; rw [hz]; rfl⟩, by show va_P D vwCl _ t.heap; rw [ht]; exact hP⟩, hS.F ht⟩) hS.2.2 dX0_pattern_45
        · refine lv_iload_n hx hb dX0_pattern_24 rfl (lv_at hl 3 rfl) ?_
          refine lv_bipush (v := (-4)) hx hb dX0_pattern_25 (by decide) ?_
          refine lv_icmp_lt (tgt := 44) hx hb dX0_pattern_27 (by decide) (fun c_27 => ?_) (fun c_27 => ?_)
          · refine lv_iconst (v := (-1)) hx hb dX0_pattern_44 (by decide) ?_
            have hz : tpo N s_ p_ o_ = false := by unfold tpo; rw [trg_lo c_27]; simp
            exact W.iret (v := (-1)) hx hb hr (fun t ht hW => ⟨⟨_, (N, pl), rfl, ⟨by unfold tpr; rw [hz]; rfl, by unfold tpu; rw [hz]; rfl⟩, by show va_P D vwCl _ t.heap; rw [ht]; exact hP⟩, hS.F ht⟩) hS.2.2 dX0_pattern_45
          · refine lv_iload_n hx hb dX0_pattern_30 rfl (lv_at hl 3 rfl) ?_
            refine lv_bipush (v := nI 7) hx hb dX0_pattern_31 (by decide) ?_
            refine lv_icmp_gt (tgt := 44) hx hb dX0_pattern_33 (by decide) (fun c_33 => ?_) (fun c_33 => ?_)
            · refine lv_iconst (v := (-1)) hx hb dX0_pattern_44 (by decide) ?_
              have hz : tpo N s_ p_ o_ = false := by unfold tpo; rw [trg_hi c_33]; simp
              exact W.iret (v := (-1)) hx hb hr (fun t ht hW => ⟨⟨_, (N, pl), rfl, ⟨by unfold tpr; rw [hz]; rfl, by unfold tpu; rw [hz]; rfl⟩, by show va_P D vwCl _ t.heap; rw [ht]; exact hP⟩, hS.F ht⟩) hS.2.2 dX0_pattern_45
            · refine lv_aload_n hx hb dX0_pattern_36 rfl (lv_at hl 0 rfl) ?_
              refine va_get (D := D) (ci := 0) (v := .int (nI N)) (C := RX0) (T := TX0) (N := 14) hx hb hts in_X0 hown hK hP 0 rfl rfl 6 (by decide) (hts _ q34) (fun _ h9 => h9) rfl dX0_pattern_37 ?_
              refine lv_iconst (v := nI 4) hx hb dX0_pattern_40 (by decide) ?_
              refine tn_icmp_lt (tgt := 46) hx hb dX0_pattern_41 (by decide) (by omega) (by decide) (fun c_41 => ?_) (fun c_41 => ?_)
              · have hN4 : N < 4 := by omega
                have hz : tpo N s_ p_ o_ = true := by unfold tpo; rw [trg_ok c_3 c_9, trg_ok c_15 c_21, trg_ok c_27 c_33, decide_eq_true hN4]; rfl
                refine lv_aload_n hx hb dX0_pattern_46 rfl (lv_at hl 0 rfl) ?_
                refine va_get (D := D) (ci := 0) (v := .ref (a 7)) (C := RX0) (T := TX0) (N := 14) hx hb hts in_X0 hown hK hP 0 rfl rfl 7 (by decide) (hts _ q35) (fun _ h9 => h9) rfl dX0_pattern_47 ?_
                refine lv_iconst (v := nI 3) hx hb dX0_pattern_50 (by decide) ?_
                refine lv_aload_n hx hb dX0_pattern_51 rfl (lv_at hl 0 rfl) ?_
                refine va_get (D := D) (ci := 0) (v := .int (nI N)) (C := RX0) (T := TX0) (N := 14) hx hb hts in_X0 hown hK hP 0 rfl rfl 6 (by decide) (hts _ q34) (fun _ h9 => h9) rfl dX0_pattern_52 ?_
                refine tn_imul hx hb dX0_pattern_55 ?_
                refine lv_iload_n hx hb dX0_pattern_56 rfl (lv_at hl 1 rfl) ?_
                refine tn_iast hx hb hK hP hD hS 6 0 rfl rfl (j := 3 * N) (x := s_) (by omega) (by decide) dX0_pattern_57 (fun H locs hP hD hS => ?_)
                have hP : va_P D vwCl (wJ h a d he ob pr su go si (nI N) (upd pl (3 * N) s_) nv vr bo ca vc sc) H := hP
                have hD : va_D (oJ h a) (wJ h a d he ob pr su go si (nI N) (upd pl (3 * N) s_) nv vr bo ca vc sc) := hD
                refine lv_aload_n hx hb dX0_pattern_58 rfl (lv_at hl 0 rfl) ?_
                refine va_get (D := D) (ci := 0) (v := .ref (a 7)) (C := RX0) (T := TX0) (N := 14) hx hb hts in_X0 hown hK hP 0 rfl rfl 7 (by decide) (hts _ q35) (fun _ h9 => h9) rfl dX0_pattern_59 ?_
                refine lv_iconst (v := nI 3) hx hb dX0_pattern_62 (by decide) ?_
                refine lv_aload_n hx hb dX0_pattern_63 rfl (lv_at hl 0 rfl) ?_
                refine va_get (D := D) (ci := 0) (v := .int (nI N)) (C := RX0) (T := TX0) (N := 14) hx hb hts in_X0 hown hK hP 0 rfl rfl 6 (by decide) (hts _ q34) (fun _ h9 => h9) rfl dX0_pattern_64 ?_
                refine tn_imul hx hb dX0_pattern_67 ?_
                refine lv_iconst (v := nI 1) hx hb dX0_pattern_68 (by decide) ?_
                refine tn_iadd hx hb dX0_pattern_69 ?_
                refine lv_iload_n hx hb dX0_pattern_70 rfl (lv_at hl 2 rfl) ?_
                refine tn_iast hx hb hK hP hD hS 6 0 rfl rfl (j := (3 * N) + 1) (x := p_) (by omega) (by decide) dX0_pattern_71 (fun H locs hP hD hS => ?_)
                have hP : va_P D vwCl (wJ h a d he ob pr su go si (nI N) (upd (upd pl (3 * N) s_) ((3 * N) + 1) p_) nv vr bo ca vc sc) H := hP
                have hD : va_D (oJ h a) (wJ h a d he ob pr su go si (nI N) (upd (upd pl (3 * N) s_) ((3 * N) + 1) p_) nv vr bo ca vc sc) := hD
                refine lv_aload_n hx hb dX0_pattern_72 rfl (lv_at hl 0 rfl) ?_
                refine va_get (D := D) (ci := 0) (v := .ref (a 7)) (C := RX0) (T := TX0) (N := 14) hx hb hts in_X0 hown hK hP 0 rfl rfl 7 (by decide) (hts _ q35) (fun _ h9 => h9) rfl dX0_pattern_73 ?_
                refine lv_iconst (v := nI 3) hx hb dX0_pattern_76 (by decide) ?_
                refine lv_aload_n hx hb dX0_pattern_77 rfl (lv_at hl 0 rfl) ?_
                refine va_get (D := D) (ci := 0) (v := .int (nI N)) (C := RX0) (T := TX0) (N := 14) hx hb hts in_X0 hown hK hP 0 rfl rfl 6 (by decide) (hts _ q34) (fun _ h9 => h9) rfl dX0_pattern_78 ?_
                refine tn_imul hx hb dX0_pattern_81 ?_
                refine lv_iconst (v := nI 2) hx hb dX0_pattern_82 (by decide) ?_
                refine tn_iadd hx hb dX0_pattern_83 ?_
                refine lv_iload_n hx hb dX0_pattern_84 rfl (lv_at hl 3 rfl) ?_
                refine tn_iast hx hb hK hP hD hS 6 0 rfl rfl (j := (3 * N) + 2) (x := o_) (by omega) (by decide) dX0_pattern_85 (fun H locs hP hD hS => ?_)
                have hP : va_P D vwCl (wJ h a d he ob pr su go si (nI N) (upd (upd (upd pl (3 * N) s_) ((3 * N) + 1) p_) ((3 * N) + 2) o_) nv vr bo ca vc sc) H := hP
                have hD : va_D (oJ h a) (wJ h a d he ob pr su go si (nI N) (upd (upd (upd pl (3 * N) s_) ((3 * N) + 1) p_) ((3 * N) + 2) o_) nv vr bo ca vc sc) := hD
                refine lv_aload_n hx hb dX0_pattern_86 rfl (lv_at hl 0 rfl) ?_
                refine lv_dup hx hb dX0_pattern_87 rfl ?_
                refine va_get (D := D) (ci := 0) (v := .int (nI N)) (C := RX0) (T := TX0) (N := 14) hx hb hts in_X0 hown hK hP 0 rfl rfl 6 (by decide) (hts _ q34) (fun _ h9 => h9) rfl dX0_pattern_88 ?_
                refine lv_iconst (v := nI 1) hx hb dX0_pattern_91 (by decide) ?_
                refine tn_iadd hx hb dX0_pattern_92 ?_
                refine va_put (D := D) (ci := 0) (v := .int (nI (N + 1))) (ty := .int) (C := RX0) (T := TX0) (N := 14) hx hb hts in_X0 tyX0 tyX0_ok nmX0 hown hK hP hD hS 0 rfl rfl 6 (by decide) (hts _ q34) (fun _ h9 => h9) rfl (by decide +kernel) rfl rfl (Nat.le_of_ble_eq_true rfl) dX0_pattern_93 (fun H locs hP hD hS => ?_)
                have hP : va_P D vwCl (wJ h a d he ob pr su go si (nI (N + 1)) (upd (upd (upd pl (3 * N) s_) ((3 * N) + 1) p_) ((3 * N) + 2) o_) nv vr bo ca vc sc) H := hP
                have hD : va_D (oJ h a) (wJ h a d he ob pr su go si (nI (N + 1)) (upd (upd (upd pl (3 * N) s_) ((3 * N) + 1) p_) ((3 * N) + 2) o_) nv vr bo ca vc sc) := hD
                refine lv_aload_n hx hb dX0_pattern_96 rfl (lv_at hl 0 rfl) ?_
                refine va_get (D := D) (ci := 0) (v := .int (nI (N + 1))) (C := RX0) (T := TX0) (N := 14) hx hb hts in_X0 hown hK hP 0 rfl rfl 6 (by decide) (hts _ q34) (fun _ h9 => h9) rfl dX0_pattern_97 ?_
                exact W.iret (v := nI (N + 1)) hx hb hr (fun t ht hW => ⟨⟨_, (N + 1, _), rfl, ⟨by unfold tpr; rw [hz]; rfl, by unfold tpu; rw [hz]; rfl⟩, by show va_P D vwCl _ t.heap; rw [ht]; exact hP⟩, hS.F ht⟩) hS.2.2 dX0_pattern_100
              · refine lv_iconst (v := (-1)) hx hb dX0_pattern_44 (by decide) ?_
                have hz : tpo N s_ p_ o_ = false := by unfold tpo; rw [decide_eq_false (by omega)]; simp
                exact W.iret (v := (-1)) hx hb hr (fun t ht hW => ⟨⟨_, (N, pl), rfl, ⟨by unfold tpr; rw [hz]; rfl, by unfold tpu; rw [hz]; rfl⟩, by show va_P D vwCl _ t.heap; rw [ht]; exact hP⟩, hS.F ht⟩) hS.2.2 dX0_pattern_45

set_option maxHeartbeats 1000000 in
set_option maxRecDepth 100000 in
/-- pattern -/
theorem mm_pattern {l : Launch} {D : va_G} {d z : ClassId} {h : Nat} {a : Nat → Nat} {fa : Nat → Int32} {N : Nat} {pl tr : Nat → Int32} (hN : N ≤ 4) (s_ p_ o_ : Int32) : Met l yX1_pattern (ws_ yX1_pattern cX1_pattern 4 (some .int)) (rm_ 1 0) (pJ D d z (wM h a d z fa (nI N) pl tr) [.ref h, .int s_, .int p_, .int o_]) (va_Qi (fun (r_ : Int32) (u : Nat × (Nat → Int32)) => r_ = tpr N s_ p_ o_ ∧ u = tpu N pl s_ p_ o_) (fun u t => va_P D vwCl (wM h a d z fa (nI u.1) u.2 tr) t.heap) (oM h a)) 0 0 (oM h a) := by
  refine Met.ofW (cc := cX1_pattern) (maxL := 4) (ret := (some .int)) (by decide) rfl ?_
  intro p e s m args below meth c s₁ B hml hv
  obtain ⟨rfl, hP, hK, hD⟩ := hv
  have hx := B.exec
  have hb := B.bytes
  have hr := B.returns
  have hts := atoms_spec (ws := (ws_ yX1_pattern cX1_pattern 4 (some .int))) B.pre
  have hts : ∀ w ∈ lw_all, w.before _ s = true := fun w h => hts w (List.mem_cons_of_mem _ h)
  have hown : s.vm.findClass RX1 = some m.cls := findClass_of_methodNamed B.named
  have hlocks := B.notSynchronized
  have hD := oM_D hD
  have hS : va_S (oM h a) s.heap s.heap [] := va_S.rf
  have hl := lv_entry ([.ref h, .int s_, .int p_, .int o_]) (n := 4) (Nat.le_of_ble_eq_true rfl)
  rw [lg_entry_eq]
  generalize (lg_sl ([.ref h, .int s_, .int p_, .int o_]) ++ List.replicate (4 - (lg_sl ([.ref h, .int s_, .int p_, .int o_])).length) Slot.unset).toArray = ls at hl ⊢
  have hl : lv_has ls 4 [(0, .ref h), (1, .int s_), (2, .int p_), (3, .int o_)] := hl
  refine lv_iload_n hx hb dX1_pattern_0 rfl (lv_at hl 1 rfl) ?_
  refine lv_bipush (v := (-4)) hx hb dX1_pattern_1 (by decide) ?_
  refine lv_icmp_lt (tgt := 44) hx hb dX1_pattern_3 (by decide) (fun c_3 => ?_) (fun c_3 => ?_)
  · refine lv_iconst (v := (-1)) hx hb dX1_pattern_44 (by decide) ?_
    have hz : tpo N s_ p_ o_ = false := by unfold tpo; rw [trg_lo c_3]; simp
    exact W.iret (v := (-1)) hx hb hr (fun t ht hW => ⟨⟨_, (N, pl), rfl, ⟨by unfold tpr; rw [hz]; rfl, by unfold tpu; rw [hz]; rfl⟩, by show va_P D vwCl _ t.heap; rw [ht]; exact hP⟩, hS.F ht⟩) hS.2.2 dX1_pattern_45
  · refine lv_iload_n hx hb dX1_pattern_6 rfl (lv_at hl 1 rfl) ?_
    refine lv_bipush (v := nI 7) hx hb dX1_pattern_7 (by decide) ?_
    refine lv_icmp_gt (tgt := 44) hx hb dX1_pattern_9 (by decide) (fun c_9 => ?_) (fun c_9 => ?_)
    · refine lv_iconst (v := (-1)) hx hb dX1_pattern_44 (by decide) ?_
      have hz : tpo N s_ p_ o_ = false := by unfold tpo; rw [trg_hi c_9]; simp
      exact W.iret (v := (-1)) hx hb hr (fun t ht hW => ⟨⟨_, (N, pl), rfl, ⟨by unfold tpr; rw [hz]; rfl, by unfold tpu; rw [hz]; rfl⟩, by show va_P D vwCl _ t.heap; rw [ht]; exact hP⟩, hS.F ht⟩) hS.2.2 dX1_pattern_45
    · refine lv_iload_n hx hb dX1_pattern_12 rfl (lv_at hl 2 rfl) ?_
      refine lv_bipush (v := (-4)) hx hb dX1_pattern_13 (by decide) ?_
      refine lv_icmp_lt (tgt := 44) hx hb dX1_pattern_15 (by decide) (fun c_15 => ?_) (fun c_15 => ?_)
      · refine lv_iconst (v := (-1)) hx hb dX1_pattern_44 (by decide) ?_
        have hz : tpo N s_ p_ o_ = false := by unfold tpo; rw [trg_lo c_15]; simp
        exact W.iret (v := (-1)) hx hb hr (fun t ht hW => ⟨⟨_, (N, pl), rfl, ⟨by unfold tpr; rw [hz]; rfl, by unfold tpu; rw [hz]; rfl⟩, by show va_P D vwCl _ t.heap; rw [ht]; exact hP⟩, hS.F ht⟩) hS.2.2 dX1_pattern_45
      · refine lv_iload_n hx hb dX1_pattern_18 rfl (lv_at hl 2 rfl) ?_
        refine lv_bipush (v := nI 7) hx hb dX1_pattern_19 (by decide) ?_
        refine lv_icmp_gt (tgt := 44) hx hb dX1_pattern_21 (by decide) (fun c_21 => ?_) (fun c_21 => ?_)
        · refine lv_iconst (v := (-1)) hx hb dX1_pattern_44 (by decide) ?_
          have hz : tpo N s_ p_ o_ = false := by unfold tpo; rw [trg_hi c_21]; simp
          exact W.iret (v := (-1)) hx hb hr (fun t ht hW => ⟨⟨_, (N, pl), rfl, ⟨by unfold tpr; rw [hz]; rfl, by unfold tpu; rw [hz]; rfl⟩, by show va_P D vwCl _ t.heap; rw [ht]; exact hP⟩, hS.F ht⟩) hS.2.2 dX1_pattern_45
        · refine lv_iload_n hx hb dX1_pattern_24 rfl (lv_at hl 3 rfl) ?_
          refine lv_bipush (v := (-4)) hx hb dX1_pattern_25 (by decide) ?_
          refine lv_icmp_lt (tgt := 44) hx hb dX1_pattern_27 (by decide) (fun c_27 => ?_) (fun c_27 => ?_)
          · refine lv_iconst (v := (-1)) hx hb dX1_pattern_44 (by decide) ?_
            have hz : tpo N s_ p_ o_ = false := by unfold tpo; rw [trg_lo c_27]; simp
            exact W.iret (v := (-1)) hx hb hr (fun t ht hW => ⟨⟨_, (N, pl), rfl, ⟨by unfold tpr; rw [hz]; rfl, by unfold tpu; rw [hz]; rfl⟩, by show va_P D vwCl _ t.heap; rw [ht]; exact hP⟩, hS.F ht⟩) hS.2.2 dX1_pattern_45
          · refine lv_iload_n hx hb dX1_pattern_30 rfl (lv_at hl 3 rfl) ?_
            refine lv_bipush (v := nI 7) hx hb dX1_pattern_31 (by decide) ?_
            refine lv_icmp_gt (tgt := 44) hx hb dX1_pattern_33 (by decide) (fun c_33 => ?_) (fun c_33 => ?_)
            · refine lv_iconst (v := (-1)) hx hb dX1_pattern_44 (by decide) ?_
              have hz : tpo N s_ p_ o_ = false := by unfold tpo; rw [trg_hi c_33]; simp
              exact W.iret (v := (-1)) hx hb hr (fun t ht hW => ⟨⟨_, (N, pl), rfl, ⟨by unfold tpr; rw [hz]; rfl, by unfold tpu; rw [hz]; rfl⟩, by show va_P D vwCl _ t.heap; rw [ht]; exact hP⟩, hS.F ht⟩) hS.2.2 dX1_pattern_45
            · refine lv_aload_n hx hb dX1_pattern_36 rfl (lv_at hl 0 rfl) ?_
              refine va_get (D := D) (ci := 1) (v := .int (nI N)) (C := RX1) (T := TX1) (N := 4) hx hb hts in_X1 hown hK hP 0 rfl rfl 1 (by decide) (hts _ q177) (fun _ h9 => h9) rfl dX1_pattern_37 ?_
              refine lv_iconst (v := nI 4) hx hb dX1_pattern_40 (by decide) ?_
              refine tn_icmp_ne (tgt := 46) hx hb dX1_pattern_41 (by decide) (by omega) (by decide) (fun c_41 => ?_) (fun c_41 => ?_)
              · have hN4 : N < 4 := by omega
                have hz : tpo N s_ p_ o_ = true := by unfold tpo; rw [trg_ok c_3 c_9, trg_ok c_15 c_21, trg_ok c_27 c_33, decide_eq_true hN4]; rfl
                refine lv_aload_n hx hb dX1_pattern_46 rfl (lv_at hl 0 rfl) ?_
                refine va_get (D := D) (ci := 1) (v := .ref (a 2)) (C := RX1) (T := TX1) (N := 4) hx hb hts in_X1 hown hK hP 0 rfl rfl 2 (by decide) (hts _ q178) (fun _ h9 => h9) rfl dX1_pattern_47 ?_
                refine lv_iconst (v := nI 3) hx hb dX1_pattern_50 (by decide) ?_
                refine lv_aload_n hx hb dX1_pattern_51 rfl (lv_at hl 0 rfl) ?_
                refine va_get (D := D) (ci := 1) (v := .int (nI N)) (C := RX1) (T := TX1) (N := 4) hx hb hts in_X1 hown hK hP 0 rfl rfl 1 (by decide) (hts _ q177) (fun _ h9 => h9) rfl dX1_pattern_52 ?_
                refine tn_imul hx hb dX1_pattern_55 ?_
                refine lv_iload_n hx hb dX1_pattern_56 rfl (lv_at hl 1 rfl) ?_
                refine tn_iast hx hb hK hP hD hS 2 0 rfl rfl (j := 3 * N) (x := s_) (by omega) (by decide) dX1_pattern_57 (fun H locs hP hD hS => ?_)
                have hP : va_P D vwCl (wM h a d z fa (nI N) (upd pl (3 * N) s_) tr) H := hP
                have hD : va_D (oM h a) (wM h a d z fa (nI N) (upd pl (3 * N) s_) tr) := hD
                refine lv_aload_n hx hb dX1_pattern_58 rfl (lv_at hl 0 rfl) ?_
                refine va_get (D := D) (ci := 1) (v := .ref (a 2)) (C := RX1) (T := TX1) (N := 4) hx hb hts in_X1 hown hK hP 0 rfl rfl 2 (by decide) (hts _ q178) (fun _ h9 => h9) rfl dX1_pattern_59 ?_
                refine lv_iconst (v := nI 3) hx hb dX1_pattern_62 (by decide) ?_
                refine lv_aload_n hx hb dX1_pattern_63 rfl (lv_at hl 0 rfl) ?_
                refine va_get (D := D) (ci := 1) (v := .int (nI N)) (C := RX1) (T := TX1) (N := 4) hx hb hts in_X1 hown hK hP 0 rfl rfl 1 (by decide) (hts _ q177) (fun _ h9 => h9) rfl dX1_pattern_64 ?_
                refine tn_imul hx hb dX1_pattern_67 ?_
                refine lv_iconst (v := nI 1) hx hb dX1_pattern_68 (by decide) ?_
                refine tn_iadd hx hb dX1_pattern_69 ?_
                refine lv_iload_n hx hb dX1_pattern_70 rfl (lv_at hl 2 rfl) ?_
                refine tn_iast hx hb hK hP hD hS 2 0 rfl rfl (j := (3 * N) + 1) (x := p_) (by omega) (by decide) dX1_pattern_71 (fun H locs hP hD hS => ?_)
                have hP : va_P D vwCl (wM h a d z fa (nI N) (upd (upd pl (3 * N) s_) ((3 * N) + 1) p_) tr) H := hP
                have hD : va_D (oM h a) (wM h a d z fa (nI N) (upd (upd pl (3 * N) s_) ((3 * N) + 1) p_) tr) := hD
                refine lv_aload_n hx hb dX1_pattern_72 rfl (lv_at hl 0 rfl) ?_
                refine va_get (D := D) (ci := 1) (v := .ref (a 2)) (C := RX1) (T := TX1) (N := 4) hx hb hts in_X1 hown hK hP 0 rfl rfl 2 (by decide) (hts _ q178) (fun _ h9 => h9) rfl dX1_pattern_73 ?_
                refine lv_iconst (v := nI 3) hx hb dX1_pattern_76 (by decide) ?_
                refine lv_aload_n hx hb dX1_pattern_77 rfl (lv_at hl 0 rfl) ?_
                refine va_get (D := D) (ci := 1) (v := .int (nI N)) (C := RX1) (T := TX1) (N := 4) hx hb hts in_X1 hown hK hP 0 rfl rfl 1 (by decide) (hts _ q177) (fun _ h9 => h9) rfl dX1_pattern_78 ?_
                refine tn_imul hx hb dX1_pattern_81 ?_
                refine lv_iconst (v := nI 2) hx hb dX1_pattern_82 (by decide) ?_
                refine tn_iadd hx hb dX1_pattern_83 ?_
                refine lv_iload_n hx hb dX1_pattern_84 rfl (lv_at hl 3 rfl) ?_
                refine tn_iast hx hb hK hP hD hS 2 0 rfl rfl (j := (3 * N) + 2) (x := o_) (by omega) (by decide) dX1_pattern_85 (fun H locs hP hD hS => ?_)
                have hP : va_P D vwCl (wM h a d z fa (nI N) (upd (upd (upd pl (3 * N) s_) ((3 * N) + 1) p_) ((3 * N) + 2) o_) tr) H := hP
                have hD : va_D (oM h a) (wM h a d z fa (nI N) (upd (upd (upd pl (3 * N) s_) ((3 * N) + 1) p_) ((3 * N) + 2) o_) tr) := hD
                refine lv_aload_n hx hb dX1_pattern_86 rfl (lv_at hl 0 rfl) ?_
                refine lv_dup hx hb dX1_pattern_87 rfl ?_
                refine va_get (D := D) (ci := 1) (v := .int (nI N)) (C := RX1) (T := TX1) (N := 4) hx hb hts in_X1 hown hK hP 0 rfl rfl 1 (by decide) (hts _ q177) (fun _ h9 => h9) rfl dX1_pattern_88 ?_
                refine lv_iconst (v := nI 1) hx hb dX1_pattern_91 (by decide) ?_
                refine tn_iadd hx hb dX1_pattern_92 ?_
                refine va_put (D := D) (ci := 1) (v := .int (nI (N + 1))) (ty := .int) (C := RX1) (T := TX1) (N := 4) hx hb hts in_X1 tyX1 tyX1_ok nmX1 hown hK hP hD hS 0 rfl rfl 1 (by decide) (hts _ q177) (fun _ h9 => h9) rfl (by decide +kernel) rfl rfl (Nat.le_of_ble_eq_true rfl) dX1_pattern_93 (fun H locs hP hD hS => ?_)
                have hP : va_P D vwCl (wM h a d z fa (nI (N + 1)) (upd (upd (upd pl (3 * N) s_) ((3 * N) + 1) p_) ((3 * N) + 2) o_) tr) H := hP
                have hD : va_D (oM h a) (wM h a d z fa (nI (N + 1)) (upd (upd (upd pl (3 * N) s_) ((3 * N) + 1) p_) ((3 * N) + 2) o_) tr) := hD
                refine lv_aload_n hx hb dX1_pattern_96 rfl (lv_at hl 0 rfl) ?_
                refine va_get (D := D) (ci := 1) (v := .int (nI (N + 1))) (C := RX1) (T := TX1) (N := 4) hx hb hts in_X1 hown hK hP 0 rfl rfl 1 (by decide) (hts _ q177) (fun _ h9 => h9) rfl dX1_pattern_97 ?_
                exact W.iret (v := nI (N + 1)) hx hb hr (fun t ht hW => ⟨⟨_, (N + 1, _), rfl, ⟨by unfold tpr; rw [hz]; rfl, by unfold tpu; rw [hz]; rfl⟩, by show va_P D vwCl _ t.heap; rw [ht]; exact hP⟩, hS.F ht⟩) hS.2.2 dX1_pattern_100
              · refine lv_iconst (v := (-1)) hx hb dX1_pattern_44 (by decide) ?_
                have hz : tpo N s_ p_ o_ = false := by unfold tpo; rw [decide_eq_false (by omega)]; simp
                exact W.iret (v := (-1)) hx hb hr (fun t ht hW => ⟨⟨_, (N, pl), rfl, ⟨by unfold tpr; rw [hz]; rfl, by unfold tpu; rw [hz]; rfl⟩, by show va_P D vwCl _ t.heap; rw [ht]; exact hP⟩, hS.F ht⟩) hS.2.2 dX1_pattern_45

set_option maxHeartbeats 1000000 in
set_option maxRecDepth 100000 in
/-- clear -/
theorem m_clear {l : Launch} {D : va_G} {d z : ClassId} {h : Nat} {a : Nat → Nat} {he : Int32} {ob pr su go si : Nat → Int32} {N : Nat} {pl : Nat → Int32} {nv : Int32} {vr bo ca vc : Nat → Int32} {sc : Int32} : Met l yX0_clear (ws_ yX0_clear cX0_clear 1 none) (rm_ 1 0) (pJ D d z (wJ h a d he ob pr su go si (nI N) pl nv vr bo ca vc sc) [.ref h]) (va_Qv (fun _ : Unit => True) (fun _ t => va_P D vwCl (wJ h a d he ob pr su go si (nI 0) pl nv vr bo ca vc sc) t.heap) (oJ h a)) 0 0 (oJ h a) := by
  refine Met.ofW (cc := cX0_clear) (maxL := 1) (ret := none) (by decide) rfl ?_
  intro p e s m args below meth c s₁ B hml hv
  obtain ⟨rfl, hP, hK, hD⟩ := hv
  have hx := B.exec
  have hb := B.bytes
  have hr := B.returns
  have hts := atoms_spec (ws := (ws_ yX0_clear cX0_clear 1 none)) B.pre
  have hts : ∀ w ∈ lw_all, w.before _ s = true := fun w h => hts w (List.mem_cons_of_mem _ h)
  have hown : s.vm.findClass RX0 = some m.cls := findClass_of_methodNamed B.named
  have hlocks := B.notSynchronized
  have hD := oJ_D hD
  have hS : va_S (oJ h a) s.heap s.heap [] := va_S.rf
  have hl := lv_entry ([.ref h]) (n := 1) (Nat.le_of_ble_eq_true rfl)
  rw [lg_entry_eq]
  generalize (lg_sl ([.ref h]) ++ List.replicate (1 - (lg_sl ([.ref h])).length) Slot.unset).toArray = ls at hl ⊢
  have hl : lv_has ls 1 [(0, .ref h)] := hl
  refine lv_aload_n hx hb dX0_clear_0 rfl (lv_at hl 0 rfl) ?_
  refine lv_iconst (v := nI 0) hx hb dX0_clear_1 (by decide) ?_
  refine va_put (D := D) (ci := 0) (v := .int (nI 0)) (ty := .int) (C := RX0) (T := TX0) (N := 14) hx hb hts in_X0 tyX0 tyX0_ok nmX0 hown hK hP hD hS 0 rfl rfl 6 (by decide) (hts _ q34) (fun _ h9 => h9) rfl (by decide +kernel) rfl rfl (Nat.le_of_ble_eq_true rfl) dX0_clear_2 (fun H locs hP hD hS => ?_)
  have hP : va_P D vwCl (wJ h a d he ob pr su go si (nI 0) pl nv vr bo ca vc sc) H := hP
  have hD : va_D (oJ h a) (wJ h a d he ob pr su go si (nI 0) pl nv vr bo ca vc sc) := hD
  exact W.vret hx hb hr (fun t ht hW => ⟨⟨(), rfl, trivial, by show va_P D vwCl _ t.heap; rw [ht]; exact hP⟩, hS.F ht⟩) hS.2.2 dX0_clear_5

set_option maxHeartbeats 1000000 in
set_option maxRecDepth 100000 in
/-- clear -/
theorem mm_clear {l : Launch} {D : va_G} {d z : ClassId} {h : Nat} {a : Nat → Nat} {fa : Nat → Int32} {N : Nat} {pl tr : Nat → Int32} : Met l yX1_clear (ws_ yX1_clear cX1_clear 1 none) (rm_ 1 0) (pJ D d z (wM h a d z fa (nI N) pl tr) [.ref h]) (va_Qv (fun _ : Unit => True) (fun _ t => va_P D vwCl (wM h a d z fa (nI 0) pl tr) t.heap) (oM h a)) 0 0 (oM h a) := by
  refine Met.ofW (cc := cX1_clear) (maxL := 1) (ret := none) (by decide) rfl ?_
  intro p e s m args below meth c s₁ B hml hv
  obtain ⟨rfl, hP, hK, hD⟩ := hv
  have hx := B.exec
  have hb := B.bytes
  have hr := B.returns
  have hts := atoms_spec (ws := (ws_ yX1_clear cX1_clear 1 none)) B.pre
  have hts : ∀ w ∈ lw_all, w.before _ s = true := fun w h => hts w (List.mem_cons_of_mem _ h)
  have hown : s.vm.findClass RX1 = some m.cls := findClass_of_methodNamed B.named
  have hlocks := B.notSynchronized
  have hD := oM_D hD
  have hS : va_S (oM h a) s.heap s.heap [] := va_S.rf
  have hl := lv_entry ([.ref h]) (n := 1) (Nat.le_of_ble_eq_true rfl)
  rw [lg_entry_eq]
  generalize (lg_sl ([.ref h]) ++ List.replicate (1 - (lg_sl ([.ref h])).length) Slot.unset).toArray = ls at hl ⊢
  have hl : lv_has ls 1 [(0, .ref h)] := hl
  refine lv_aload_n hx hb dX1_clear_0 rfl (lv_at hl 0 rfl) ?_
  refine lv_iconst (v := nI 0) hx hb dX1_clear_1 (by decide) ?_
  refine va_put (D := D) (ci := 1) (v := .int (nI 0)) (ty := .int) (C := RX1) (T := TX1) (N := 4) hx hb hts in_X1 tyX1 tyX1_ok nmX1 hown hK hP hD hS 0 rfl rfl 1 (by decide) (hts _ q177) (fun _ h9 => h9) rfl (by decide +kernel) rfl rfl (Nat.le_of_ble_eq_true rfl) dX1_clear_2 (fun H locs hP hD hS => ?_)
  have hP : va_P D vwCl (wM h a d z fa (nI 0) pl tr) H := hP
  have hD : va_D (oM h a) (wM h a d z fa (nI 0) pl tr) := hD
  exact W.vret hx hb hr (fun t ht hW => ⟨⟨(), rfl, trivial, by show va_P D vwCl _ t.heap; rw [ht]; exact hP⟩, hS.F ht⟩) hS.2.2 dX1_clear_5

set_option maxHeartbeats 1000000 in
set_option maxRecDepth 100000 in
/-- prepare -/
theorem m_prepare {l : Launch} {D : va_G} {d z : ClassId} {h : Nat} {a : Nat → Nat} {he : Int32} {ob pr su go si : Nat → Int32} {N : Nat} {pl : Nat → Int32} {nv : Int32} {vr bo ca vc : Nat → Int32} {sc : Int32} (hN : N ≤ 4) : Met l yX0_prepare (ws_ yX0_prepare cX0_prepare 2 none) (rm_ 2 22) (pJ D d z (wJ h a d he ob pr su go si (nI N) pl nv vr bo ca vc sc) [.ref h]) (va_Qv (fun u : (Nat → Int32) × (Nat → Int32) × (Nat → Int32) => (∀ w, w < 4 → tst pl N w = true → u.1 (tcn (tst pl N) w) = nI w) ∧ (∀ w, w < 4 → u.2.1 w = -1) ∧ (∀ w, w < 32 → u.2.2 w = nI 0)) (fun u t => va_P D vwCl (wJ h a d he ob pr su go si (nI N) pl (nI (tcn (tst pl N) 4)) u.1 u.2.1 ca u.2.2 (nI 0)) t.heap) (oJ h a)) 0 0 (oJ h a) := by
  refine Met.ofW (cc := cX0_prepare) (maxL := 2) (ret := none) (by decide) rfl ?_
  intro p e s m args below meth c s₁ B hml hv
  obtain ⟨rfl, hP, hK, hD⟩ := hv
  have hx := B.exec
  have hb := B.bytes
  have hr := B.returns
  have hts := atoms_spec (ws := (ws_ yX0_prepare cX0_prepare 2 none)) B.pre
  have hts : ∀ w ∈ lw_all, w.before _ s = true := fun w h => hts w (List.mem_cons_of_mem _ h)
  have hown : s.vm.findClass RX0 = some m.cls := findClass_of_methodNamed B.named
  have hlocks := B.notSynchronized
  have hD := oJ_D hD
  have hS : va_S (oJ h a) s.heap s.heap [] := va_S.rf
  have hl := lv_entry ([.ref h]) (n := 2) (Nat.le_of_ble_eq_true rfl)
  rw [lg_entry_eq]
  generalize (lg_sl ([.ref h]) ++ List.replicate (2 - (lg_sl ([.ref h])).length) Slot.unset).toArray = ls at hl ⊢
  have hl : lv_has ls 2 [(0, .ref h)] := hl
  refine lv_aload_n hx hb dX0_prepare_0 rfl (lv_at hl 0 rfl) ?_
  refine lv_iconst (v := nI 0) hx hb dX0_prepare_1 (by decide) ?_
  refine va_put (D := D) (ci := 0) (v := .int (nI 0)) (ty := .int) (C := RX0) (T := TX0) (N := 14) hx hb hts in_X0 tyX0 tyX0_ok nmX0 hown hK hP hD hS 0 rfl rfl 8 (by decide) (hts _ q36) (fun _ h9 => h9) rfl (by decide +kernel) rfl rfl (Nat.le_of_ble_eq_true rfl) dX0_prepare_2 (fun H locs hP hD hS => ?_)
  have hP : va_P D vwCl (wJ h a d he ob pr su go si (nI N) pl (nI 0) vr bo ca vc sc) H := hP
  have hD : va_D (oJ h a) (wJ h a d he ob pr su go si (nI N) pl (nI 0) vr bo ca vc sc) := hD
  refine lv_aload_n hx hb dX0_prepare_5 rfl (lv_at hl 0 rfl) ?_
  refine lv_iconst (v := nI 0) hx hb dX0_prepare_6 (by decide) ?_
  refine va_put (D := D) (ci := 0) (v := .int (nI 0)) (ty := .int) (C := RX0) (T := TX0) (N := 14) hx hb hts in_X0 tyX0 tyX0_ok nmX0 hown hK hP hD hS 0 rfl rfl 13 (by decide) (hts _ q41) (fun _ h9 => h9) rfl (by decide +kernel) rfl rfl (Nat.le_of_ble_eq_true rfl) dX0_prepare_7 (fun H locs hP hD hS => ?_)
  have hP : va_P D vwCl (wJ h a d he ob pr su go si (nI N) pl (nI 0) vr bo ca vc (nI 0)) H := hP
  have hD : va_D (oJ h a) (wJ h a d he ob pr su go si (nI N) pl (nI 0) vr bo ca vc (nI 0)) := hD
  refine lv_iconst (v := nI 0) hx hb dX0_prepare_10 (by decide) ?_
  refine lv_istore_n (lv' := [(1, .int (nI 0)), (0, .ref h)]) hx hb dX0_prepare_11 rfl hl (by decide) rfl (fun ls hl => ?_)
  have hD_12 := hD
  refine tn_forH (fun j H locs ls => ∃ (vr_ : Nat → Int32) (bo_ : Nat → Int32), lv_has ls 2 [(1, .int (nI j)), (0, .ref h)] ∧ va_P D vwCl (wJ h a d he ob pr su go si (nI N) pl (nI (tcn (tst pl N) j)) vr_ bo_ ca vc (nI 0)) H ∧ va_S (oJ h a) s.heap H locs ∧ (∀ w, w < j → tst pl N w = true → vr_ (tcn (tst pl N) w) = nI w) ∧ (∀ w, w < j → bo_ w = -1)) 4 0 (by omega) ⟨vr, bo, lv_sub hl [0, 1] rfl, hP, hS, (fun w hw => absurd hw (Nat.not_lt_zero w)), (fun w hw => absurd hw (Nat.not_lt_zero w))⟩ (fun j H locs ls hj hJ ih => ?_) (fun H locs ls hJ => ?_)
  · obtain ⟨vr_, bo_, hl, hP, hS, h1, h2⟩ := hJ
    have hD : va_D (oJ h a) (wJ h a d he ob pr su go si (nI N) pl (nI (tcn (tst pl N) j)) vr_ bo_ ca vc (nI 0)) := va_D_re hD_12 rfl
    refine lv_iload_n hx hb dX0_prepare_12 rfl (lv_at hl 0 rfl) ?_
    refine lv_iconst (v := nI 4) hx hb dX0_prepare_13 (by decide) ?_
    refine tn_icmp_ge (tgt := 60) hx hb dX0_prepare_14 (by decide) (by omega) (by decide) (fun z => absurd z (by omega)) (fun _ => ?_)
    refine lv_aload_n hx hb dX0_prepare_17 rfl (lv_at hl 1 rfl) ?_
    refine va_get (D := D) (ci := 0) (v := .ref (a 10)) (C := RX0) (T := TX0) (N := 14) hx hb hts in_X0 hown hK hP 0 rfl rfl 10 (by decide) (hts _ q38) (fun _ h9 => h9) rfl dX0_prepare_18 ?_
    refine lv_iload_n hx hb dX0_prepare_21 rfl (lv_at hl 0 rfl) ?_
    refine lv_iconst (v := (-1)) hx hb dX0_prepare_22 (by decide) ?_
    refine tn_iast hx hb hK hP hD hS 8 0 rfl rfl (j := j) (x := (-1)) (by omega) (by decide) dX0_prepare_23 (fun H locs hP hD hS => ?_)
    have hP : va_P D vwCl (wJ h a d he ob pr su go si (nI N) pl (nI (tcn (tst pl N) j)) vr_ (upd bo_ j (-1)) ca vc (nI 0)) H := hP
    have hD : va_D (oJ h a) (wJ h a d he ob pr su go si (nI N) pl (nI (tcn (tst pl N) j)) vr_ (upd bo_ j (-1)) ca vc (nI 0)) := hD
    refine lv_aload_n hx hb dX0_prepare_24 rfl (lv_at hl 1 rfl) ?_
    refine lv_iconst (v := (-1)) hx hb dX0_prepare_25 (by decide) ?_
    refine lv_iload_n hx hb dX0_prepare_26 rfl (lv_at hl 0 rfl) ?_
    refine lv_isub hx hb dX0_prepare_27 ?_
    refine vp_callSi (W.runV (As := [.int ((-1) - (nI j))]) (rest := []) ⟨hx, hb, hml, hown, hts⟩ (m_stands hN (-1 - nI j)) (cwV 1 hts (lw_V q107 q109 qs3 q18 q110) rfl rfl rfl (by decide +kernel) ⟨Nat.le_of_ble_eq_true rfl, Nat.le_of_ble_eq_true rfl⟩) (pJ_preJ hK hP hD rfl) rfl rfl hl.1 rfl (lv_room (Nat.le_of_ble_eq_true rfl)) dX0_prepare_28 ⟨Nat.le_refl _, Nat.le_refl _⟩) (fun r_28 hr_28 => ?_)
    subst hr_28
    refine tn_if_eq (tgt := 54) hx hb dX0_prepare_31 (by decide) (tb_lt _) (fun c_31 => ?_) (fun c_31 => ?_)
    · have e9 : tcn (tst pl N) (j + 1) = tcn (tst pl N) j := by show _ + tb (tst pl N j) = _; rw [show tst pl N j = false from tb_0 c_31]; rfl
      refine lv_iinc (v := nI (j + 1)) (lv' := [(1, .int (nI (j + 1))), (0, .ref h)]) hx hb dX0_prepare_54 hl (k := 0) rfl (nI_1 _) (by decide) rfl (fun ls hl => ?_)
      refine lv_goto (tgt := 12) hx hb dX0_prepare_57 (by decide) ?_
      rw [← e9] at hP
      exact ih _ _ _ ⟨_, _, lv_sub hl [0, 1] rfl, hP, hS, (fun w hw ht => by
              by_cases e : w = j
              · rw [e] at ht; rw [show tst pl N j = false from tb_0 c_31] at ht; cases ht
              · exact h1 w (by omega) ht), (fun w hw => by
              by_cases e : w = j
              · rw [e, pk_us]
              · rw [pk_un e]; exact h2 w (by omega))⟩
    · have hrk := tcn_le (tst pl N) j
      have e9 : tcn (tst pl N) (j + 1) = tcn (tst pl N) j + 1 := by show _ + tb (tst pl N j) = _; rw [show tst pl N j = true from tb_1 c_31]; rfl
      refine lv_aload_n hx hb dX0_prepare_34 rfl (lv_at hl 1 rfl) ?_
      refine va_get (D := D) (ci := 0) (v := .ref (a 9)) (C := RX0) (T := TX0) (N := 14) hx hb hts in_X0 hown hK hP 0 rfl rfl 9 (by decide) (hts _ q37) (fun _ h9 => h9) rfl dX0_prepare_35 ?_
      refine lv_aload_n hx hb dX0_prepare_38 rfl (lv_at hl 1 rfl) ?_
      refine va_get (D := D) (ci := 0) (v := .int (nI (tcn (tst pl N) j))) (C := RX0) (T := TX0) (N := 14) hx hb hts in_X0 hown hK hP 0 rfl rfl 8 (by decide) (hts _ q36) (fun _ h9 => h9) rfl dX0_prepare_39 ?_
      refine lv_iload_n hx hb dX0_prepare_42 rfl (lv_at hl 0 rfl) ?_
      refine tn_iast hx hb hK hP hD hS 7 0 rfl rfl (j := tcn (tst pl N) j) (x := nI j) (by omega) (by decide) dX0_prepare_43 (fun H locs hP hD hS => ?_)
      have hP : va_P D vwCl (wJ h a d he ob pr su go si (nI N) pl (nI (tcn (tst pl N) j)) (upd vr_ (tcn (tst pl N) j) (nI j)) (upd bo_ j (-1)) ca vc (nI 0)) H := hP
      have hD : va_D (oJ h a) (wJ h a d he ob pr su go si (nI N) pl (nI (tcn (tst pl N) j)) (upd vr_ (tcn (tst pl N) j) (nI j)) (upd bo_ j (-1)) ca vc (nI 0)) := hD
      refine lv_aload_n hx hb dX0_prepare_44 rfl (lv_at hl 1 rfl) ?_
      refine lv_dup hx hb dX0_prepare_45 rfl ?_
      refine va_get (D := D) (ci := 0) (v := .int (nI (tcn (tst pl N) j))) (C := RX0) (T := TX0) (N := 14) hx hb hts in_X0 hown hK hP 0 rfl rfl 8 (by decide) (hts _ q36) (fun _ h9 => h9) rfl dX0_prepare_46 ?_
      refine lv_iconst (v := nI 1) hx hb dX0_prepare_49 (by decide) ?_
      refine tn_iadd hx hb dX0_prepare_50 ?_
      refine va_put (D := D) (ci := 0) (v := .int (nI ((tcn (tst pl N) j) + 1))) (ty := .int) (C := RX0) (T := TX0) (N := 14) hx hb hts in_X0 tyX0 tyX0_ok nmX0 hown hK hP hD hS 0 rfl rfl 8 (by decide) (hts _ q36) (fun _ h9 => h9) rfl (by decide +kernel) rfl rfl (Nat.le_of_ble_eq_true rfl) dX0_prepare_51 (fun H locs hP hD hS => ?_)
      have hP : va_P D vwCl (wJ h a d he ob pr su go si (nI N) pl (nI ((tcn (tst pl N) j) + 1)) (upd vr_ (tcn (tst pl N) j) (nI j)) (upd bo_ j (-1)) ca vc (nI 0)) H := hP
      have hD : va_D (oJ h a) (wJ h a d he ob pr su go si (nI N) pl (nI ((tcn (tst pl N) j) + 1)) (upd vr_ (tcn (tst pl N) j) (nI j)) (upd bo_ j (-1)) ca vc (nI 0)) := hD
      refine lv_iinc (v := nI (j + 1)) (lv' := [(1, .int (nI (j + 1))), (0, .ref h)]) hx hb dX0_prepare_54 hl (k := 0) rfl (nI_1 _) (by decide) rfl (fun ls hl => ?_)
      refine lv_goto (tgt := 12) hx hb dX0_prepare_57 (by decide) ?_
      rw [← e9] at hP
      exact ih _ _ _ ⟨_, _, lv_sub hl [0, 1] rfl, hP, hS, (fun w hw ht => by
              by_cases e : w = j
              · rw [e, pk_us]
              · have := tcn_rank (f := tst pl N) (show w < j by omega) ht
                rw [pk_un (by omega)]; exact h1 w (by omega) ht), (fun w hw => by
              by_cases e : w = j
              · rw [e, pk_us]
              · rw [pk_un e]; exact h2 w (by omega))⟩
  · obtain ⟨vr_, bo_, hl, hP, hS, h1, h2⟩ := hJ
    have hD : va_D (oJ h a) (wJ h a d he ob pr su go si (nI N) pl (nI (tcn (tst pl N) 4)) vr_ bo_ ca vc (nI 0)) := va_D_re hD_12 rfl
    refine lv_iload_n hx hb dX0_prepare_12 rfl (lv_at hl 0 rfl) ?_
    refine lv_iconst (v := nI 4) hx hb dX0_prepare_13 (by decide) ?_
    refine tn_icmp_ge (tgt := 60) hx hb dX0_prepare_14 (by decide) (by decide) (by decide) (fun _ => ?_) (fun z => absurd z (by decide))
    refine lv_iconst (v := nI 0) hx hb dX0_prepare_60 (by decide) ?_
    refine lv_istore_n (lv' := [(1, .int (nI 0)), (0, .ref h)]) hx hb dX0_prepare_61 rfl hl (by decide) rfl (fun ls hl => ?_)
    have hD_62 := hD
    refine tn_forH (fun k H locs ls => ∃ (vc_ : Nat → Int32), lv_has ls 2 [(1, .int (nI k)), (0, .ref h)] ∧ va_P D vwCl (wJ h a d he ob pr su go si (nI N) pl (nI (tcn (tst pl N) 4)) vr_ bo_ ca vc_ (nI 0)) H ∧ va_S (oJ h a) s.heap H locs ∧ (∀ w, w < k → vc_ w = nI 0)) 32 0 (by omega) ⟨vc, lv_sub hl [0, 1] rfl, hP, hS, (fun w hw => absurd hw (Nat.not_lt_zero w))⟩ (fun k H locs ls hk hJ ih => ?_) (fun H locs ls hJ => ?_)
    · obtain ⟨vc_, hl, hP, hS, h3⟩ := hJ
      have hD : va_D (oJ h a) (wJ h a d he ob pr su go si (nI N) pl (nI (tcn (tst pl N) 4)) vr_ bo_ ca vc_ (nI 0)) := va_D_re hD_62 rfl
      refine lv_iload_n hx hb dX0_prepare_62 rfl (lv_at hl 0 rfl) ?_
      refine lv_bipush (v := nI 32) hx hb dX0_prepare_63 (by decide) ?_
      refine tn_icmp_ge (tgt := 81) hx hb dX0_prepare_65 (by decide) (by omega) (by decide) (fun z => absurd z (by omega)) (fun _ => ?_)
      refine lv_aload_n hx hb dX0_prepare_68 rfl (lv_at hl 1 rfl) ?_
      refine va_get (D := D) (ci := 0) (v := .ref (a 12)) (C := RX0) (T := TX0) (N := 14) hx hb hts in_X0 hown hK hP 0 rfl rfl 12 (by decide) (hts _ q40) (fun _ h9 => h9) rfl dX0_prepare_69 ?_
      refine lv_iload_n hx hb dX0_prepare_72 rfl (lv_at hl 0 rfl) ?_
      refine lv_iconst (v := nI 0) hx hb dX0_prepare_73 (by decide) ?_
      refine tn_iast hx hb hK hP hD hS 10 0 rfl rfl (j := k) (x := nI 0) (by omega) (by decide) dX0_prepare_74 (fun H locs hP hD hS => ?_)
      have hP : va_P D vwCl (wJ h a d he ob pr su go si (nI N) pl (nI (tcn (tst pl N) 4)) vr_ bo_ ca (upd vc_ k (nI 0)) (nI 0)) H := hP
      have hD : va_D (oJ h a) (wJ h a d he ob pr su go si (nI N) pl (nI (tcn (tst pl N) 4)) vr_ bo_ ca (upd vc_ k (nI 0)) (nI 0)) := hD
      refine lv_iinc (v := nI (k + 1)) (lv' := [(1, .int (nI (k + 1))), (0, .ref h)]) hx hb dX0_prepare_75 hl (k := 0) rfl (nI_1 _) (by decide) rfl (fun ls hl => ?_)
      refine lv_goto (tgt := 62) hx hb dX0_prepare_78 (by decide) ?_
      exact ih _ _ _ ⟨_, lv_sub hl [0, 1] rfl, hP, hS, (fun w hw => by
              by_cases e : w = k
              · rw [e, pk_us]
              · rw [pk_un e]; exact h3 w (by omega))⟩
    · obtain ⟨vc_, hl, hP, hS, h3⟩ := hJ
      have hD : va_D (oJ h a) (wJ h a d he ob pr su go si (nI N) pl (nI (tcn (tst pl N) 4)) vr_ bo_ ca vc_ (nI 0)) := va_D_re hD_62 rfl
      refine lv_iload_n hx hb dX0_prepare_62 rfl (lv_at hl 0 rfl) ?_
      refine lv_bipush (v := nI 32) hx hb dX0_prepare_63 (by decide) ?_
      refine tn_icmp_ge (tgt := 81) hx hb dX0_prepare_65 (by decide) (by decide) (by decide) (fun _ => ?_) (fun z => absurd z (by decide))
      exact W.vret hx hb hr (fun t ht hW => ⟨⟨(vr_, bo_, vc_), rfl, ⟨h1, h2, h3⟩, by show va_P D vwCl _ t.heap; rw [ht]; exact hP⟩, hS.F ht⟩) hS.2.2 dX0_prepare_81

set_option maxHeartbeats 1000000 in
set_option maxRecDepth 100000 in
/-- countSolution -/
theorem m_countSolution {l : Launch} {D : va_G} {d z : ClassId} {h : Nat} {a : Nat → Nat} {he : Int32} {ob pr su go si : Nat → Int32} {N : Nat} {pl : Nat → Int32} {vr bo ca vc : Nat → Int32} {sc : Int32} (K : Nat) (hK4 : K ≤ 4) (hvr : ∀ k, k < K → ∃ v x : Nat, v < 4 ∧ x < 8 ∧ vr k = nI v ∧ bo v = nI x) : Met l yX0_countSolution (ws_ yX0_countSolution cX0_countSolution 2 none) (rm_ 1 0) (pJ D d z (wJ h a d he ob pr su go si (nI N) pl (nI K) vr bo ca vc sc) [.ref h]) (va_Qv (fun _ : Unit => True) (fun _ t => va_P D vwCl (wJ h a d he ob pr su go si (nI N) pl (nI K) vr bo ca (tcs vr bo vc K) (sc + nI 1)) t.heap) (oJ h a)) 0 0 (oJ h a) := by
  refine Met.ofW (cc := cX0_countSolution) (maxL := 2) (ret := none) (by decide) rfl ?_
  intro p e s m args below meth c s₁ B hml hv
  obtain ⟨rfl, hP, hK, hD⟩ := hv
  have hx := B.exec
  have hb := B.bytes
  have hr := B.returns
  have hts := atoms_spec (ws := (ws_ yX0_countSolution cX0_countSolution 2 none)) B.pre
  have hts : ∀ w ∈ lw_all, w.before _ s = true := fun w h => hts w (List.mem_cons_of_mem _ h)
  have hown : s.vm.findClass RX0 = some m.cls := findClass_of_methodNamed B.named
  have hlocks := B.notSynchronized
  have hD := oJ_D hD
  have hS : va_S (oJ h a) s.heap s.heap [] := va_S.rf
  have hl := lv_entry ([.ref h]) (n := 2) (Nat.le_of_ble_eq_true rfl)
  rw [lg_entry_eq]
  generalize (lg_sl ([.ref h]) ++ List.replicate (2 - (lg_sl ([.ref h])).length) Slot.unset).toArray = ls at hl ⊢
  have hl : lv_has ls 2 [(0, .ref h)] := hl
  refine lv_aload_n hx hb dX0_countSolution_0 rfl (lv_at hl 0 rfl) ?_
  refine lv_dup hx hb dX0_countSolution_1 rfl ?_
  refine va_get (D := D) (ci := 0) (v := .int sc) (C := RX0) (T := TX0) (N := 14) hx hb hts in_X0 hown hK hP 0 rfl rfl 13 (by decide) (hts _ q41) (fun _ h9 => h9) rfl dX0_countSolution_2 ?_
  refine lv_iconst (v := nI 1) hx hb dX0_countSolution_5 (by decide) ?_
  refine lv_iadd hx hb dX0_countSolution_6 ?_
  refine va_put (D := D) (ci := 0) (v := .int (sc + (nI 1))) (ty := .int) (C := RX0) (T := TX0) (N := 14) hx hb hts in_X0 tyX0 tyX0_ok nmX0 hown hK hP hD hS 0 rfl rfl 13 (by decide) (hts _ q41) (fun _ h9 => h9) rfl (by decide +kernel) rfl rfl (Nat.le_of_ble_eq_true rfl) dX0_countSolution_7 (fun H locs hP hD hS => ?_)
  have hP : va_P D vwCl (wJ h a d he ob pr su go si (nI N) pl (nI K) vr bo ca vc (sc + (nI 1))) H := hP
  have hD : va_D (oJ h a) (wJ h a d he ob pr su go si (nI N) pl (nI K) vr bo ca vc (sc + (nI 1))) := hD
  refine lv_iconst (v := nI 0) hx hb dX0_countSolution_10 (by decide) ?_
  refine lv_istore_n (lv' := [(1, .int (nI 0)), (0, .ref h)]) hx hb dX0_countSolution_11 rfl hl (by decide) rfl (fun ls hl => ?_)
  have hD_12 := hD
  refine tn_forH (fun k H locs ls => lv_has ls 2 [(1, .int (nI k)), (0, .ref h)] ∧ va_P D vwCl (wJ h a d he ob pr su go si (nI N) pl (nI K) vr bo ca (tcs vr bo vc k) (sc + (nI 1))) H ∧ va_S (oJ h a) s.heap H locs) K 0 (by omega) ⟨lv_sub hl [0, 1] rfl, hP, hS⟩ (fun k H locs ls hk hJ ih => ?_) (fun H locs ls hJ => ?_)
  · obtain ⟨hl, hP, hS⟩ := hJ
    have hD : va_D (oJ h a) (wJ h a d he ob pr su go si (nI N) pl (nI K) vr bo ca (tcs vr bo vc k) (sc + (nI 1))) := va_D_re hD_12 rfl
    refine lv_iload_n hx hb dX0_countSolution_12 rfl (lv_at hl 0 rfl) ?_
    refine lv_aload_n hx hb dX0_countSolution_13 rfl (lv_at hl 1 rfl) ?_
    refine va_get (D := D) (ci := 0) (v := .int (nI K)) (C := RX0) (T := TX0) (N := 14) hx hb hts in_X0 hown hK hP 0 rfl rfl 8 (by decide) (hts _ q36) (fun _ h9 => h9) rfl dX0_countSolution_14 ?_
    refine tn_icmp_ge (tgt := 56) hx hb dX0_countSolution_17 (by decide) (by omega) (by omega) (fun z => absurd z (by omega)) (fun _ => ?_)
    obtain ⟨v, x, hv4, hx8, ev, ex⟩ := hvr k hk
    refine lv_aload_n hx hb dX0_countSolution_20 rfl (lv_at hl 1 rfl) ?_
    refine va_get (D := D) (ci := 0) (v := .ref (a 12)) (C := RX0) (T := TX0) (N := 14) hx hb hts in_X0 hown hK hP 0 rfl rfl 12 (by decide) (hts _ q40) (fun _ h9 => h9) rfl dX0_countSolution_21 ?_
    refine lv_bipush (v := nI 8) hx hb dX0_countSolution_24 (by decide) ?_
    refine lv_aload_n hx hb dX0_countSolution_26 rfl (lv_at hl 1 rfl) ?_
    refine va_get (D := D) (ci := 0) (v := .ref (a 9)) (C := RX0) (T := TX0) (N := 14) hx hb hts in_X0 hown hK hP 0 rfl rfl 9 (by decide) (hts _ q37) (fun _ h9 => h9) rfl dX0_countSolution_27 ?_
    refine lv_iload_n hx hb dX0_countSolution_30 rfl (lv_at hl 0 rfl) ?_
    refine tn_iald hx hb hK hP 7 0 rfl rfl (j := k) (by omega) (by decide) dX0_countSolution_31 ?_
    refine tn_as (nI v) ev ?_
    refine tn_imul hx hb dX0_countSolution_32 ?_
    refine lv_aload_n hx hb dX0_countSolution_33 rfl (lv_at hl 1 rfl) ?_
    refine va_get (D := D) (ci := 0) (v := .ref (a 10)) (C := RX0) (T := TX0) (N := 14) hx hb hts in_X0 hown hK hP 0 rfl rfl 10 (by decide) (hts _ q38) (fun _ h9 => h9) rfl dX0_countSolution_34 ?_
    refine lv_aload_n hx hb dX0_countSolution_37 rfl (lv_at hl 1 rfl) ?_
    refine va_get (D := D) (ci := 0) (v := .ref (a 9)) (C := RX0) (T := TX0) (N := 14) hx hb hts in_X0 hown hK hP 0 rfl rfl 9 (by decide) (hts _ q37) (fun _ h9 => h9) rfl dX0_countSolution_38 ?_
    refine lv_iload_n hx hb dX0_countSolution_41 rfl (lv_at hl 0 rfl) ?_
    refine tn_iald hx hb hK hP 7 0 rfl rfl (j := k) (by omega) (by decide) dX0_countSolution_42 ?_
    refine tn_as (nI v) ev ?_
    refine tn_iald hx hb hK hP 8 0 rfl rfl (j := v) (by omega) (by decide) dX0_countSolution_43 ?_
    refine tn_as (nI x) ex ?_
    refine tn_iadd hx hb dX0_countSolution_44 ?_
    refine lv_dup2_11 hx hb dX0_countSolution_45 rfl rfl ?_
    refine tn_iald hx hb hK hP 10 0 rfl rfl (j := (8 * v) + x) (by omega) (by decide) dX0_countSolution_46 ?_
    refine lv_iconst (v := nI 1) hx hb dX0_countSolution_47 (by decide) ?_
    refine lv_iadd hx hb dX0_countSolution_48 ?_
    have ei : tcx vr bo k = 8 * v + x := by unfold tcx; rw [ev, nI_clamp (by omega), ex, nI_clamp (by omega)]
    refine tn_iast hx hb hK hP hD hS 10 0 rfl rfl (j := (8 * v) + x) (x := (((tcs vr bo vc k) ((8 * v) + x)) + (nI 1))) (by omega) (by decide) dX0_countSolution_49 (fun H locs hP hD hS => ?_)
    have hP : va_P D vwCl (wJ h a d he ob pr su go si (nI N) pl (nI K) vr bo ca (upd (tcs vr bo vc k) ((8 * v) + x) (((tcs vr bo vc k) ((8 * v) + x)) + (nI 1))) (sc + (nI 1))) H := hP
    have hD : va_D (oJ h a) (wJ h a d he ob pr su go si (nI N) pl (nI K) vr bo ca (upd (tcs vr bo vc k) ((8 * v) + x) (((tcs vr bo vc k) ((8 * v) + x)) + (nI 1))) (sc + (nI 1))) := hD
    have hP : va_P D vwCl (wJ h a d he ob pr su go si (nI N) pl (nI K) vr bo ca (tcs vr bo vc (k + 1)) (sc + (nI 1))) H := by show va_P D vwCl (wJ h a d he ob pr su go si (nI N) pl (nI K) vr bo ca (tinc (tcs vr bo vc k) (tcx vr bo k) (nI 1)) (sc + (nI 1))) H; rw [ei]; exact hP
    refine lv_iinc (v := nI (k + 1)) (lv' := [(1, .int (nI (k + 1))), (0, .ref h)]) hx hb dX0_countSolution_50 hl (k := 0) rfl (nI_1 _) (by decide) rfl (fun ls hl => ?_)
    refine lv_goto (tgt := 12) hx hb dX0_countSolution_53 (by decide) ?_
    exact ih _ _ _ ⟨lv_sub hl [0, 1] rfl, hP, hS⟩
  · obtain ⟨hl, hP, hS⟩ := hJ
    have hD : va_D (oJ h a) (wJ h a d he ob pr su go si (nI N) pl (nI K) vr bo ca (tcs vr bo vc K) (sc + (nI 1))) := va_D_re hD_12 rfl
    refine lv_iload_n hx hb dX0_countSolution_12 rfl (lv_at hl 0 rfl) ?_
    refine lv_aload_n hx hb dX0_countSolution_13 rfl (lv_at hl 1 rfl) ?_
    refine va_get (D := D) (ci := 0) (v := .int (nI K)) (C := RX0) (T := TX0) (N := 14) hx hb hts in_X0 hown hK hP 0 rfl rfl 8 (by decide) (hts _ q36) (fun _ h9 => h9) rfl dX0_countSolution_14 ?_
    refine tn_icmp_ge (tgt := 56) hx hb dX0_countSolution_17 (by decide) (by omega) (by omega) (fun _ => ?_) (fun z => absurd z (by omega))
    exact W.vret hx hb hr (fun t ht hW => ⟨⟨(), rfl, trivial, by show va_P D vwCl _ t.heap; rw [ht]; exact hP⟩, hS.F ht⟩) hS.2.2 dX0_countSolution_56
end
section
/-- the join's loop, one step of it, over plain values: open, depth, candidates, bound, valueCount, solutionCount -/
abbrev tJS : Type := Bool × Nat × (Nat → Int32) × (Nat → Int32) × (Nat → Int32) × Int32
def tvv (vr : Nat → Int32) (k : Nat) : Nat := (vr k).toNatClampNeg
def tcd (ca : Nat → Int32) (k x : Nat) : Nat → Int32 := upd ca k (ca k &&& ((nI 1 <<< (nI x &&& 31)) ^^^ (-1)))
def tms (F : Nat → Bool) (pl : Nat → Int32) (N : Nat) (bo : Nat → Int32) (v : Nat) : Int32 := nI (tmk (fun q => tal F pl bo v q N) 8)
def tjit (F : Nat → Bool) (pl : Nat → Int32) (N K : Nat) (vr : Nat → Int32) (stop : Int32) : tJS → tJS := fun σ =>
  if σ.1 = false then σ else
  if σ.2.1 = K then (decide ((σ.2.2.2.2.2 + nI 1 ≤ stop ∨ stop < 0) ∧ 1 ≤ σ.2.1), σ.2.1 - 1, σ.2.2.1, σ.2.2.2.1, tcs vr σ.2.2.2.1 σ.2.2.2.2.1 K, σ.2.2.2.2.2 + nI 1)
  else if σ.2.2.1 σ.2.1 = nI 0 then (decide (1 ≤ σ.2.1), σ.2.1 - 1, σ.2.2.1, upd σ.2.2.2.1 (tvv vr σ.2.1) (-1), σ.2.2.2.2.1, σ.2.2.2.2.2)
  else if σ.2.1 + 1 < K then
    (true, σ.2.1 + 1, upd (tcd σ.2.2.1 σ.2.1 (tlo (σ.2.2.1 σ.2.1).toNatClampNeg)) (σ.2.1 + 1) (tms F pl N (upd (upd σ.2.2.2.1 (tvv vr σ.2.1) (nI (tlo (σ.2.2.1 σ.2.1).toNatClampNeg))) (tvv vr (σ.2.1 + 1)) (-1)) (tvv vr (σ.2.1 + 1))),
      upd (upd σ.2.2.2.1 (tvv vr σ.2.1) (nI (tlo (σ.2.2.1 σ.2.1).toNatClampNeg))) (tvv vr (σ.2.1 + 1)) (-1), σ.2.2.2.2.1, σ.2.2.2.2.2)
  else (true, σ.2.1 + 1, tcd σ.2.2.1 σ.2.1 (tlo (σ.2.2.1 σ.2.1).toNatClampNeg), upd σ.2.2.2.1 (tvv vr σ.2.1) (nI (tlo (σ.2.2.1 σ.2.1).toNatClampNeg)), σ.2.2.2.2.1, σ.2.2.2.2.2)
def tit (F : Nat → Bool) (pl : Nat → Int32) (N K : Nat) (vr : Nat → Int32) (stop : Int32) (σ : tJS) : Nat → tJS
  | 0 => σ
  | i + 1 => tjit F pl N K vr stop (tit F pl N K vr stop σ i)
section TJIT
variable {F : Nat → Bool} {pl : Nat → Int32} {N K : Nat} {vr : Nat → Int32} {stop : Int32} {dp : Nat} {ca bo vc : Nat → Int32} {sc : Int32}
theorem tjit_shut : tjit F pl N K vr stop (false, dp, ca, bo, vc, sc) = (false, dp, ca, bo, vc, sc) := by
  unfold tjit
  rw [if_pos rfl]
theorem tjit_leaf (h : dp = K) : tjit F pl N K vr stop (true, dp, ca, bo, vc, sc) = (decide ((sc + nI 1 ≤ stop ∨ stop < 0) ∧ 1 ≤ dp), dp - 1, ca, bo, tcs vr bo vc K, sc + nI 1) := by
  unfold tjit
  rw [if_neg (fun z => absurd (show true = false from z) (by decide)), if_pos h]
theorem tjit_back (h : dp ≠ K) (h0 : ca dp = nI 0) : tjit F pl N K vr stop (true, dp, ca, bo, vc, sc) = (decide (1 ≤ dp), dp - 1, ca, upd bo (tvv vr dp) (-1), vc, sc) := by
  unfold tjit
  rw [if_neg (fun z => absurd (show true = false from z) (by decide)), if_neg h, if_pos h0]
theorem tjit_down {x : Nat} (h : dp ≠ K) (h0 : ca dp ≠ nI 0) (hx : tlo (ca dp).toNatClampNeg = x) (hd : dp + 1 < K) : tjit F pl N K vr stop (true, dp, ca, bo, vc, sc) = (true, dp + 1, upd (tcd ca dp x) (dp + 1) (tms F pl N (upd (upd bo (tvv vr dp) (nI x)) (tvv vr (dp + 1)) (-1)) (tvv vr (dp + 1))), upd (upd bo (tvv vr dp) (nI x)) (tvv vr (dp + 1)) (-1), vc, sc) := by
  subst hx
  unfold tjit
  rw [if_neg (fun z => absurd (show true = false from z) (by decide)), if_neg h, if_neg h0, if_pos hd]
theorem tjit_last {x : Nat} (h : dp ≠ K) (h0 : ca dp ≠ nI 0) (hx : tlo (ca dp).toNatClampNeg = x) (hd : ¬ dp + 1 < K) : tjit F pl N K vr stop (true, dp, ca, bo, vc, sc) = (true, dp + 1, tcd ca dp x, upd bo (tvv vr dp) (nI x), vc, sc) := by
  subst hx
  unfold tjit
  rw [if_neg (fun z => absurd (show true = false from z) (by decide)), if_neg h, if_neg h0, if_neg hd]
theorem tit_shut {σ : tJS} {i : Nat} (h : (tit F pl N K vr stop σ i).1 = false) : ∀ k, tit F pl N K vr stop σ (i + k) = tit F pl N K vr stop σ i
  | 0 => rfl
  | k + 1 => by
    show tjit F pl N K vr stop (tit F pl N K vr stop σ (i + k)) = _
    rw [tit_shut h k]
    unfold tjit
    rw [if_pos h]
/-- what the variables' list must be -/
def tvo (K : Nat) (vr : Nat → Int32) : Prop := K ≤ 4 ∧ (∀ k, k < K → vr k = nI (tvv vr k) ∧ tvv vr k < 4) ∧ ∀ j k, j < K → k < K → tvv vr j = tvv vr k → j = k
/-- what keeps the walk within its arrays -/
def twf (K : Nat) (vr : Nat → Int32) (dp : Nat) (ca bo : Nat → Int32) : Prop := dp ≤ K ∧ (∀ j, j ≤ dp → j < K → ∃ f : Nat → Bool, ca j = nI (tmk f 8)) ∧ (∀ v, v < 4 → tkk (bo v)) ∧ ∀ j, j < dp → ∃ x : Nat, x < 8 ∧ bo (tvv vr j) = nI x
theorem tcl_f : ∀ x, x < 8 → (nI 1 <<< (nI x &&& 31)) ^^^ (-1) = nI (4294967295 - 2 ^ x) := by decide +kernel
theorem tcl_b : ∀ x, x < 8 → ∀ j, j < 8 → (4294967295 - 2 ^ x).testBit j = !decide (j = x) := by decide +kernel
theorem tcl_eq {f : Nat → Bool} {x : Nat} (hx : x < 8) : nI (tmk f 8) &&& ((nI 1 <<< (nI x &&& 31)) ^^^ (-1)) = nI (tmk (fun q => f q && !decide (q = x)) 8) := by
  rw [tcl_f x hx, nx_and]
  congr 1
  refine tmk_ext ?_ (fun j hj => ?_)
  · exact Nat.lt_of_le_of_lt Nat.and_le_left (tmk_lt f 8)
  · rw [Nat.testBit_and, tmk_bit, tcl_b x hx j hj]
    simp [hj]
theorem tlo_lt (M : Nat) : tlo M < 8 := by
  unfold tlo
  repeat (first | split | decide)
theorem tkk_upd {bo : Nat → Int32} {k : Nat} {y : Int32} (h : ∀ v, v < 4 → tkk (bo v)) (hy : tkk y) : ∀ v, v < 4 → tkk (upd bo k y v) := by
  intro v hv
  by_cases e : v = k
  · rw [e, pk_us]; exact hy
  · rw [pk_un e]; exact h v hv
theorem twf_leaf (h : twf K vr dp ca bo) : twf K vr (dp - 1) ca bo := ⟨by have := h.1; omega, fun j h1 h2 => h.2.1 j (by omega) h2, h.2.2.1, fun j hj => h.2.2.2 j (by omega)⟩
theorem twf_back (hv : tvo K vr) (h : twf K vr dp ca bo) (hd : dp < K) : twf K vr (dp - 1) ca (upd bo (tvv vr dp) (-1)) := by
  refine ⟨by have := h.1; omega, fun j h1 h2 => h.2.1 j (by omega) h2, tkk_upd h.2.2.1 (Or.inr rfl), fun j hj => ?_⟩
  rw [pk_un (fun e => by have := hv.2.2 j dp (by omega) hd e; omega)]
  exact h.2.2.2 j (by omega)
theorem twf_last {x : Nat} (hv : tvo K vr) (h : twf K vr dp ca bo) (hd : dp < K) (hx : x < 8) : twf K vr (dp + 1) (tcd ca dp x) (upd bo (tvv vr dp) (nI x)) ∨ dp + 1 < K := by
  by_cases q : dp + 1 < K
  · exact Or.inr q
  · refine Or.inl ⟨by omega, fun j h1 h2 => ?_, tkk_upd h.2.2.1 (Or.inl ⟨x, hx, rfl⟩), fun j hj => ?_⟩
    · obtain ⟨f, hf⟩ := h.2.1 j (by omega) h2
      unfold tcd
      by_cases e : j = dp
      · subst e; rw [pk_us, hf, tcl_eq hx]; exact ⟨_, rfl⟩
      · rw [pk_un e]; exact ⟨f, hf⟩
    · by_cases e : j = dp
      · rw [e, pk_us]; exact ⟨x, hx, rfl⟩
      · rw [pk_un (fun z => by have := hv.2.2 j dp (by omega) hd z; omega)]
        exact h.2.2.2 j (by omega)
theorem twf_down {x : Nat} {f : Nat → Bool} (hv : tvo K vr) (h : twf K vr dp ca bo) (hd : dp + 1 < K) (hx : x < 8) : twf K vr (dp + 1) (upd (tcd ca dp x) (dp + 1) (nI (tmk f 8))) (upd (upd bo (tvv vr dp) (nI x)) (tvv vr (dp + 1)) (-1)) := by
  refine ⟨by omega, fun j h1 h2 => ?_, tkk_upd (tkk_upd h.2.2.1 (Or.inl ⟨x, hx, rfl⟩)) (Or.inr rfl), fun j hj => ?_⟩
  · by_cases e0 : j = dp + 1
    · rw [e0, pk_us]; exact ⟨f, rfl⟩
    · rw [pk_un e0]
      obtain ⟨g, hg⟩ := h.2.1 j (by omega) h2
      unfold tcd
      by_cases e : j = dp
      · subst e; rw [pk_us, hg, tcl_eq hx]; exact ⟨_, rfl⟩
      · rw [pk_un e]; exact ⟨g, hg⟩
  · rw [pk_un (fun z => by have := hv.2.2 j (dp + 1) (by omega) hd z; omega)]
    by_cases e : j = dp
    · rw [e, pk_us]; exact ⟨x, hx, rfl⟩
    · rw [pk_un (fun z => by have := hv.2.2 j dp (by omega) (by omega) z; omega)]
      exact h.2.2.2 j (by omega)
theorem tmk_ne {f : Nat → Bool} (h : nI (tmk f 8) ≠ nI 0) : ∃ j, j < 8 ∧ (tmk f 8).testBit j = true := by
  refine Classical.byContradiction (fun q => h ?_)
  congr 1
  apply Nat.eq_of_testBit_eq
  intro j
  rw [Nat.zero_testBit]
  by_cases hj : j < 8
  · cases e : (tmk f 8).testBit j with
    | false => rfl
    | true => exact absurd ⟨j, hj, e⟩ q
  · rw [tmk_bit]; simp [hj]
/-- what prepare leaves -/
def tpp (pl : Nat → Int32) (N : Nat) (vr bo vc : Nat → Int32) : Prop := (∀ w, w < 4 → tst pl N w = true → vr (tcn (tst pl N) w) = nI w) ∧ (∀ w, w < 4 → bo w = -1) ∧ (∀ w, w < 32 → vc w = nI 0)
theorem tcn_inv (f : Nat → Bool) : ∀ n k, k < tcn f n → ∃ w, w < n ∧ f w = true ∧ tcn f w = k
  | 0, k, h => absurd h (Nat.not_lt_zero k)
  | n + 1, k, h => by
    by_cases q : k < tcn f n
    · obtain ⟨w, h1, h2⟩ := tcn_inv f n k q
      exact ⟨w, by omega, h2⟩
    · have h2 : tcn f (n + 1) = tcn f n + tb (f n) := rfl
      have h3 := tb_le (f n)
      have h4 : f n = true := tb_1 (by omega)
      exact ⟨n, by omega, h4, by omega⟩
theorem tpp_vo {bo vc : Nat → Int32} (h : tpp pl N vr bo vc) : tvo (tcn (tst pl N) 4) vr := by
  have key : ∀ k, k < tcn (tst pl N) 4 → ∃ w, w < 4 ∧ tst pl N w = true ∧ tcn (tst pl N) w = k ∧ vr k = nI w ∧ tvv vr k = w := by
    intro k hk
    obtain ⟨w, h1, h2, h3⟩ := tcn_inv _ 4 k hk
    have h4 := h.1 w h1 h2
    rw [h3] at h4
    exact ⟨w, h1, h2, h3, h4, by unfold tvv; rw [h4, nI_clamp (by omega)]⟩
  refine ⟨tcn_le _ 4, fun k hk => ?_, fun j k hj hk e => ?_⟩
  · obtain ⟨w, h1, _, _, h4, h5⟩ := key k hk
    rw [h5]
    exact ⟨h4, h1⟩
  · obtain ⟨w, _, _, h3, _, h5⟩ := key j hj
    obtain ⟨w2, _, _, g3, _, g5⟩ := key k hk
    rw [h5, g5] at e
    rw [← h3, ← g3, e]
end TJIT
/-- where the join's loop starts -/
def tj0 (F : Nat → Bool) (pl : Nat → Int32) (N : Nat) (vr ca bo vc : Nat → Int32) : tJS := (tgh F pl N, 0, (if tgh F pl N = true ∧ 0 < tcn (tst pl N) 4 then upd ca 0 (tms F pl N bo (tvv vr 0)) else ca), bo, vc, nI 0)
/-- what join leaves -/
def tjr (F : Nat → Bool) (pl : Nat → Int32) (N : Nat) (stop : Int32) (vr bo ca vc : Nat → Int32) (sc : Int32) : Prop := ∃ (ca0 bo0 vc0 : Nat → Int32) (op : Bool) (dp : Nat), tpp pl N vr bo0 vc0 ∧ tit F pl N (tcn (tst pl N) 4) vr stop (tj0 F pl N vr ca0 bo0 vc0) 10000 = (op, dp, ca, bo, vc, sc)
end
section
theorem t_prd {d : Nat} (h : 0 < d) (h2 : d ≤ 4) : ¬ nI d + (-1) < 0 := by
  rcases (show d = 1 ∨ d = 2 ∨ d = 3 ∨ d = 4 by omega) with rfl | rfl | rfl | rfl <;> decide
theorem t_prdn {d : Nat} (h : 1 ≤ d) : nI d + (-1) = nI (d - 1) := sb_m1 h
set_option maxHeartbeats 1000000 in
set_option maxRecDepth 100000 in
/-- join -/
theorem m_join {l : Launch} {D : va_G} {d z : ClassId} {h : Nat} {a : Nat → Nat} {he : Int32} {ob pr su go si : Nat → Int32} {N : Nat} {pl : Nat → Int32} {nv : Int32} {vr bo ca vc : Nat → Int32} {sc : Int32} {F : Nat → Bool} (hI : tTI F he ob pr su go si) (hN : N ≤ 4) (hpl : ∀ j, j < 3 * N → tok (pl j)) (stop : Int32) : Met l yX0_join (ws_ yX0_join cX0_join 6 none) (rm_ 6 133) (pJ D d z (wJ h a d he ob pr su go si (nI N) pl nv vr bo ca vc sc) [.ref h, .int stop]) (va_Qv (fun u : (Nat → Int32) × (Nat → Int32) × (Nat → Int32) × (Nat → Int32) × Int32 => tjr F pl N stop u.1 u.2.1 u.2.2.1 u.2.2.2.1 u.2.2.2.2) (fun u t => va_P D vwCl (wJ h a d he ob pr su go si (nI N) pl (nI (tcn (tst pl N) 4)) u.1 u.2.1 u.2.2.1 u.2.2.2.1 u.2.2.2.2) t.heap) (oJ h a)) 0 0 (oJ h a) := by
  refine Met.ofW (cc := cX0_join) (maxL := 6) (ret := none) (by decide) rfl ?_
  intro p e s m args below meth c s₁ B hml hv
  obtain ⟨rfl, hP, hK, hD⟩ := hv
  have hx := B.exec
  have hb := B.bytes
  have hr := B.returns
  have hts := atoms_spec (ws := (ws_ yX0_join cX0_join 6 none)) B.pre
  have hts : ∀ w ∈ lw_all, w.before _ s = true := fun w h => hts w (List.mem_cons_of_mem _ h)
  have hown : s.vm.findClass RX0 = some m.cls := findClass_of_methodNamed B.named
  have hlocks := B.notSynchronized
  have hD := oJ_D hD
  have hS : va_S (oJ h a) s.heap s.heap [] := va_S.rf
  have hl := lv_entry ([.ref h, .int stop]) (n := 6) (Nat.le_of_ble_eq_true rfl)
  rw [lg_entry_eq]
  generalize (lg_sl ([.ref h, .int stop]) ++ List.replicate (6 - (lg_sl ([.ref h, .int stop])).length) Slot.unset).toArray = ls at hl ⊢
  have hl : lv_has ls 6 [(0, .ref h), (1, .int stop)] := hl
  refine lv_aload_n hx hb dX0_join_0 rfl (lv_at hl 0 rfl) ?_
  refine va_callv (va_runV (As := []) (rest := []) ⟨hx, hb, hml, hown, hts⟩ (m_prepare hN) (cwV 0 hts (lw_V q103 q105 qs2 q18 q106) rfl rfl rfl (by decide +kernel) ⟨Nat.le_of_ble_eq_true rfl, Nat.le_of_ble_eq_true rfl⟩) (pJ_preJ hK hP hD rfl) rfl rfl hl.1 rfl (lv_room (Nat.le_of_ble_eq_true rfl)) dX0_join_1 ⟨Nat.le_refl _, Nat.le_refl _⟩) hS (fun q _ h9 => h9) (fun q h9 => h9) (fun u_ t_ H locs ht_ hvm_ hu hB _ _ hS => ?_)
  obtain ⟨vr_, bo_, vc_⟩ := u_
  rw [ht_] at hB
  have hP : va_P D vwCl (wJ h a d he ob pr su go si (nI N) pl (nI (tcn (tst pl N) 4)) vr_ bo_ ca vc_ (nI 0)) H := hB
  have hD : va_D (oJ h a) (wJ h a d he ob pr su go si (nI N) pl (nI (tcn (tst pl N) 4)) vr_ bo_ ca vc_ (nI 0)) := va_D_re hD rfl
  have hpp : tpp pl N vr_ bo_ vc_ := hu
  have hvo : tvo (tcn (tst pl N) 4) vr_ := tpp_vo hpp
  have hK4 := hvo.1
  have hbk : ∀ v, v < 4 → tkk (bo_ v) := fun v hv => Or.inr (hpp.2.1 v hv)
  refine lv_iconst (v := nI 0) hx hb dX0_join_4 (by decide) ?_
  refine lv_istore_n (lv' := [(2, .int (nI 0)), (0, .ref h), (1, .int stop)]) hx hb dX0_join_5 rfl hl (by decide) rfl (fun ls hl => ?_)
  refine lv_aload_n hx hb dX0_join_6 rfl (lv_at hl 1 rfl) ?_
  refine vp_callSi (W.runV (As := []) (rest := []) ⟨hx, hb, hml, hown, hts⟩ (m_groundHolds hI hN hpl) (cwV 0 hts (lw_V q111 q113 qs4 q18 q114) rfl rfl rfl (by decide +kernel) ⟨Nat.le_of_ble_eq_true rfl, Nat.le_of_ble_eq_true rfl⟩) (pJ_preJ hK hP hD rfl) rfl rfl hl.1 rfl (lv_room (Nat.le_of_ble_eq_true rfl)) dX0_join_7 ⟨Nat.le_refl _, Nat.le_refl _⟩) (fun r_7 hr_7 => ?_)
  subst hr_7
  refine lv_istore_n (lv' := [(3, .int (nI (tb (tgh F pl N)))), (2, .int (nI 0)), (0, .ref h), (1, .int stop)]) hx hb dX0_join_10 rfl hl (by decide) rfl (fun ls hl => ?_)
  refine lv_iload_n hx hb dX0_join_11 rfl (lv_at hl 0 rfl) ?_
  refine tn_if_eq (tgt := 38) hx hb dX0_join_12 (by decide) (tb_lt _) (fun c_12 => ?_) (fun c_12 => ?_)
  · refine lv_iconst (v := nI 0) hx hb dX0_join_38 (by decide) ?_
    refine lv_istore (lv' := [(4, .int (nI 0)), (3, .int (nI (tb (tgh F pl N)))), (2, .int (nI 0)), (0, .ref h), (1, .int stop)]) hx hb dX0_join_39 hl (by decide) rfl (fun ls hl => ?_)
    have hD_41 := hD
    refine tn_forH (fun j H locs ls => ∃ (op : Bool) (dp : Nat) (dI : Int32) (ca_ : Nat → Int32) (bo2 : Nat → Int32) (vc2 : Nat → Int32) (sc2 : Int32), lv_has ls 6 [(4, .int (nI j)), (3, .int (nI (tb op))), (2, .int dI), (0, .ref h), (1, .int stop)] ∧ va_P D vwCl (wJ h a d he ob pr su go si (nI N) pl (nI (tcn (tst pl N) 4)) vr_ bo2 ca_ vc2 sc2) H ∧ va_S (oJ h a) s.heap H locs ∧ (tit F pl N (tcn (tst pl N) 4) vr_ stop (tj0 F pl N vr_ ca bo_ vc_) j = (op, dp, ca_, bo2, vc2, sc2)) ∧ (op = true → dI = nI dp) ∧ (op = true → twf (tcn (tst pl N) 4) vr_ dp ca_ bo2)) 10000 0 (by decide) ⟨tgh F pl N, 0, _, _, _, _, _, lv_sub hl [0, 1, 2, 3, 4] rfl, hP, hS, (by show tj0 F pl N vr_ ca bo_ vc_ = _; unfold tj0; rw [if_neg (fun z => absurd z.1 (by rw [tb_0 c_12]; decide))]), (fun _ => rfl), (fun z => absurd z (by rw [tb_0 c_12]; decide))⟩ (fun j H locs ls hj hJ ih => ?_) (fun H locs ls hJ => ?_)
    · obtain ⟨op, dp, dI, ca_, bo2, vc2, sc2, hl, hP, hS, hit, hdI, hwf⟩ := hJ
      have hD : va_D (oJ h a) (wJ h a d he ob pr su go si (nI N) pl (nI (tcn (tst pl N) 4)) vr_ bo2 ca_ vc2 sc2) := va_D_re hD_41 rfl
      refine lv_iload hx hb dX0_join_41 (lv_at hl 0 rfl) ?_
      refine lv_sipush (v := nI 10000) hx hb dX0_join_43 (by decide) ?_
      refine tn_icmp_ge (tgt := 224) hx hb dX0_join_46 (by decide) (by omega) (by decide) (fun z => absurd z (by omega)) (fun _ => ?_)
      refine lv_iload_n hx hb dX0_join_49 rfl (lv_at hl 1 rfl) ?_
      refine tn_if_eq (tgt := 224) hx hb dX0_join_50 (by decide) (tb_lt _) (fun c_50 => ?_) (fun c_50 => ?_)
      · have ho := tb_0 c_50
        have hit2 : tit F pl N (tcn (tst pl N) 4) vr_ stop (tj0 F pl N vr_ ca bo_ vc_) 10000 = (op, dp, ca_, bo2, vc2, sc2) := by
          have h1 := tit_shut (F := F) (pl := pl) (N := N) (K := tcn (tst pl N) 4) (vr := vr_) (stop := stop) (σ := tj0 F pl N vr_ ca bo_ vc_) (i := j) (by rw [hit]; exact ho) (10000 - j)
          rw [show j + (10000 - j) = 10000 by omega] at h1
          rw [h1, hit]
        exact W.vret hx hb hr (fun t ht hW => ⟨⟨(vr_, bo2, ca_, vc2, sc2), rfl, ⟨ca, bo_, vc_, op, dp, hpp, hit2⟩, by show va_P D vwCl _ t.heap; rw [ht]; exact hP⟩, hS.F ht⟩) hS.2.2 dX0_join_224
      · have ho := tb_1 c_50
        subst ho
        have hdI := hdI rfl
        subst hdI
        have hwf := hwf rfl
        have hdK := hwf.1
        have hK4 := hvo.1
        refine lv_iload_n hx hb dX0_join_53 rfl (lv_at hl 2 rfl) ?_
        refine lv_aload_n hx hb dX0_join_54 rfl (lv_at hl 3 rfl) ?_
        refine va_get (D := D) (ci := 0) (v := .int (nI (tcn (tst pl N) 4))) (C := RX0) (T := TX0) (N := 14) hx hb hts in_X0 hown hK hP 0 rfl rfl 8 (by decide) (hts _ q36) (fun _ h9 => h9) rfl dX0_join_55 ?_
        refine tn_icmp_ne (tgt := 103) hx hb dX0_join_58 (by decide) (by omega) (by omega) (fun c_58 => ?_) (fun c_58 => ?_)
        · have hdl : dp < tcn (tst pl N) 4 := by omega
          obtain ⟨fm, hfm⟩ := hwf.2.1 dp (Nat.le_refl _) hdl
          have hfm8 := tmk_8 fm
          obtain ⟨ev, hv4⟩ := hvo.2.1 dp hdl
          refine lv_aload_n hx hb dX0_join_103 rfl (lv_at hl 3 rfl) ?_
          refine va_get (D := D) (ci := 0) (v := .ref (a 11)) (C := RX0) (T := TX0) (N := 14) hx hb hts in_X0 hown hK hP 0 rfl rfl 11 (by decide) (hts _ q39) (fun _ h9 => h9) rfl dX0_join_104 ?_
          refine lv_iload_n hx hb dX0_join_107 rfl (lv_at hl 2 rfl) ?_
          refine tn_iald hx hb hK hP 9 0 rfl rfl (j := dp) (by omega) (by decide) dX0_join_108 ?_
          refine tn_as (nI (tmk fm 8)) hfm ?_
          refine tn_if_ne (tgt := 140) hx hb dX0_join_109 (by decide) (by omega) (fun c_109 => ?_) (fun c_109 => ?_)
          · have hne : ca_ dp ≠ nI 0 := fun z => c_109 (by rw [hfm] at z; exact (nI_eq (Nat.lt_trans (tmk_8 fm) (by decide)) (by decide)).mp z)
            have hx0 : ∃ q, q < 8 ∧ (tmk fm 8).testBit q = true := tmk_ne (fun z => hne (hfm.trans z))
            have hx8 := tlo_lt (tmk fm 8)
            have hlo : tlo (ca_ dp).toNatClampNeg = tlo (tmk fm 8) := by rw [hfm, nI_clamp (Nat.lt_trans (tmk_8 fm) (by decide))]
            refine lv_aload_n hx hb dX0_join_140 rfl (lv_at hl 3 rfl) ?_
            refine va_get (D := D) (ci := 0) (v := .ref (a 11)) (C := RX0) (T := TX0) (N := 14) hx hb hts in_X0 hown hK hP 0 rfl rfl 11 (by decide) (hts _ q39) (fun _ h9 => h9) rfl dX0_join_141 ?_
            refine lv_iload_n hx hb dX0_join_144 rfl (lv_at hl 2 rfl) ?_
            refine tn_iald hx hb hK hP 9 0 rfl rfl (j := dp) (by omega) (by decide) dX0_join_145 ?_
            refine tn_as (nI (tmk fm 8)) hfm ?_
            refine vp_callSi (W.runS (As := [.int (nI (tmk fm 8))]) (rest := []) ⟨hx, hb, hml, hown, hts⟩ (m_lowest l (tmk fm 8) (tmk_8 fm) hx0) (va_cwS 1 hts (lw_S q150 q151 q18 q152) rfl rfl rfl (by decide +kernel) ⟨Nat.le_of_ble_eq_true rfl, Nat.le_of_ble_eq_true rfl⟩) pS_pre rfl rfl hl.1 rfl (lv_room (Nat.le_of_ble_eq_true rfl)) dX0_join_146 ⟨Nat.le_refl _, Nat.le_refl _⟩) (fun r_146 hr_146 => ?_)
            subst hr_146
            generalize hX : tlo (tmk fm 8) = X at hx8 hlo ⊢
            refine lv_istore (lv' := [(5, .int (nI X)), (4, .int (nI j)), (3, .int (nI (tb true))), (2, .int (nI dp)), (0, .ref h), (1, .int stop)]) hx hb dX0_join_149 hl (by decide) rfl (fun ls hl => ?_)
            refine lv_aload_n hx hb dX0_join_151 rfl (lv_at hl 4 rfl) ?_
            refine va_get (D := D) (ci := 0) (v := .ref (a 11)) (C := RX0) (T := TX0) (N := 14) hx hb hts in_X0 hown hK hP 0 rfl rfl 11 (by decide) (hts _ q39) (fun _ h9 => h9) rfl dX0_join_152 ?_
            refine lv_iload_n hx hb dX0_join_155 rfl (lv_at hl 3 rfl) ?_
            refine lv_dup2_11 hx hb dX0_join_156 rfl rfl ?_
            refine tn_iald hx hb hK hP 9 0 rfl rfl (j := dp) (by omega) (by decide) dX0_join_157 ?_
            refine lv_iconst (v := nI 1) hx hb dX0_join_158 (by decide) ?_
            refine lv_iload hx hb dX0_join_159 (lv_at hl 0 rfl) ?_
            refine lv_ishl hx hb dX0_join_161 ?_
            refine lv_iconst (v := (-1)) hx hb dX0_join_162 (by decide) ?_
            refine lv_ixor hx hb dX0_join_163 ?_
            refine lv_iand hx hb dX0_join_164 ?_
            refine tn_iast hx hb hK hP hD hS 9 0 rfl rfl (j := dp) (x := ((ca_ dp) &&& (((nI 1) <<< ((nI X) &&& 31)) ^^^ (-1)))) (by omega) (by decide) dX0_join_165 (fun H locs hP hD hS => ?_)
            have hP : va_P D vwCl (wJ h a d he ob pr su go si (nI N) pl (nI (tcn (tst pl N) 4)) vr_ bo2 (upd ca_ dp ((ca_ dp) &&& (((nI 1) <<< ((nI X) &&& 31)) ^^^ (-1)))) vc2 sc2) H := hP
            have hD : va_D (oJ h a) (wJ h a d he ob pr su go si (nI N) pl (nI (tcn (tst pl N) 4)) vr_ bo2 (upd ca_ dp ((ca_ dp) &&& (((nI 1) <<< ((nI X) &&& 31)) ^^^ (-1)))) vc2 sc2) := hD
            have hP : va_P D vwCl (wJ h a d he ob pr su go si (nI N) pl (nI (tcn (tst pl N) 4)) vr_ bo2 (tcd ca_ dp X) vc2 sc2) H := hP
            have hD : va_D (oJ h a) (wJ h a d he ob pr su go si (nI N) pl (nI (tcn (tst pl N) 4)) vr_ bo2 (tcd ca_ dp X) vc2 sc2) := hD
            refine lv_aload_n hx hb dX0_join_166 rfl (lv_at hl 4 rfl) ?_
            refine va_get (D := D) (ci := 0) (v := .ref (a 10)) (C := RX0) (T := TX0) (N := 14) hx hb hts in_X0 hown hK hP 0 rfl rfl 10 (by decide) (hts _ q38) (fun _ h9 => h9) rfl dX0_join_167 ?_
            refine lv_aload_n hx hb dX0_join_170 rfl (lv_at hl 4 rfl) ?_
            refine va_get (D := D) (ci := 0) (v := .ref (a 9)) (C := RX0) (T := TX0) (N := 14) hx hb hts in_X0 hown hK hP 0 rfl rfl 9 (by decide) (hts _ q37) (fun _ h9 => h9) rfl dX0_join_171 ?_
            refine lv_iload_n hx hb dX0_join_174 rfl (lv_at hl 3 rfl) ?_
            refine tn_iald hx hb hK hP 7 0 rfl rfl (j := dp) (by omega) (by decide) dX0_join_175 ?_
            refine tn_as (nI (tvv vr_ dp)) ev ?_
            refine lv_iload hx hb dX0_join_176 (lv_at hl 0 rfl) ?_
            refine tn_iast hx hb hK hP hD hS 8 0 rfl rfl (j := tvv vr_ dp) (x := nI X) (by omega) (by decide) dX0_join_178 (fun H locs hP hD hS => ?_)
            have hP : va_P D vwCl (wJ h a d he ob pr su go si (nI N) pl (nI (tcn (tst pl N) 4)) vr_ (upd bo2 (tvv vr_ dp) (nI X)) (tcd ca_ dp X) vc2 sc2) H := hP
            have hD : va_D (oJ h a) (wJ h a d he ob pr su go si (nI N) pl (nI (tcn (tst pl N) 4)) vr_ (upd bo2 (tvv vr_ dp) (nI X)) (tcd ca_ dp X) vc2 sc2) := hD
            refine lv_iinc (v := nI (dp + 1)) (lv' := [(2, .int (nI (dp + 1))), (5, .int (nI X)), (4, .int (nI j)), (3, .int (nI (tb true))), (0, .ref h), (1, .int stop)]) hx hb dX0_join_179 hl (k := 3) rfl (nI_1 _) (by decide) rfl (fun ls hl => ?_)
            refine lv_iload_n hx hb dX0_join_182 rfl (lv_at hl 0 rfl) ?_
            refine lv_aload_n hx hb dX0_join_183 rfl (lv_at hl 4 rfl) ?_
            refine va_get (D := D) (ci := 0) (v := .int (nI (tcn (tst pl N) 4))) (C := RX0) (T := TX0) (N := 14) hx hb hts in_X0 hown hK hP 0 rfl rfl 8 (by decide) (hts _ q36) (fun _ h9 => h9) rfl dX0_join_184 ?_
            refine tn_icmp_ge (tgt := 218) hx hb dX0_join_187 (by decide) (by omega) (by omega) (fun c_187 => ?_) (fun c_187 => ?_)
            · refine lv_iinc (v := nI (j + 1)) (lv' := [(4, .int (nI (j + 1))), (2, .int (nI (dp + 1))), (5, .int (nI X)), (3, .int (nI (tb true))), (0, .ref h), (1, .int stop)]) hx hb dX0_join_218 hl (k := 2) rfl (nI_1 _) (by decide) rfl (fun ls hl => ?_)
              refine lv_goto (tgt := 41) hx hb dX0_join_221 (by decide) ?_
              exact ih _ _ _ ⟨true, dp + 1, _, _, _, _, _, lv_sub hl [0, 3, 1, 4, 5] rfl, hP, hS, (by show tjit F pl N (tcn (tst pl N) 4) vr_ stop (tit F pl N (tcn (tst pl N) 4) vr_ stop (tj0 F pl N vr_ ca bo_ vc_) j) = _; rw [hit]; exact tjit_last (by omega) hne hlo (by omega)), (fun _ => rfl), (fun _ => (twf_last hvo hwf hdl hx8).elim id (fun z => absurd z (by omega)))⟩
            · obtain ⟨ev2, hv42⟩ := hvo.2.1 (dp + 1) c_187
              refine lv_aload_n hx hb dX0_join_190 rfl (lv_at hl 4 rfl) ?_
              refine va_get (D := D) (ci := 0) (v := .ref (a 10)) (C := RX0) (T := TX0) (N := 14) hx hb hts in_X0 hown hK hP 0 rfl rfl 10 (by decide) (hts _ q38) (fun _ h9 => h9) rfl dX0_join_191 ?_
              refine lv_aload_n hx hb dX0_join_194 rfl (lv_at hl 4 rfl) ?_
              refine va_get (D := D) (ci := 0) (v := .ref (a 9)) (C := RX0) (T := TX0) (N := 14) hx hb hts in_X0 hown hK hP 0 rfl rfl 9 (by decide) (hts _ q37) (fun _ h9 => h9) rfl dX0_join_195 ?_
              refine lv_iload_n hx hb dX0_join_198 rfl (lv_at hl 0 rfl) ?_
              refine tn_iald hx hb hK hP 7 0 rfl rfl (j := dp + 1) (by omega) (by decide) dX0_join_199 ?_
              refine tn_as (nI (tvv vr_ (dp + 1))) ev2 ?_
              have hbk2 : ∀ v, v < 4 → tkk (upd (upd bo2 (tvv vr_ dp) (nI X)) (tvv vr_ (dp + 1)) (-1) v) := tkk_upd (tkk_upd hwf.2.2.1 (Or.inl ⟨X, hx8, rfl⟩)) (Or.inr rfl)
              refine lv_iconst (v := (-1)) hx hb dX0_join_200 (by decide) ?_
              refine tn_iast hx hb hK hP hD hS 8 0 rfl rfl (j := tvv vr_ (dp + 1)) (x := (-1)) (by omega) (by decide) dX0_join_201 (fun H locs hP hD hS => ?_)
              have hP : va_P D vwCl (wJ h a d he ob pr su go si (nI N) pl (nI (tcn (tst pl N) 4)) vr_ (upd (upd bo2 (tvv vr_ dp) (nI X)) (tvv vr_ (dp + 1)) (-1)) (tcd ca_ dp X) vc2 sc2) H := hP
              have hD : va_D (oJ h a) (wJ h a d he ob pr su go si (nI N) pl (nI (tcn (tst pl N) 4)) vr_ (upd (upd bo2 (tvv vr_ dp) (nI X)) (tvv vr_ (dp + 1)) (-1)) (tcd ca_ dp X) vc2 sc2) := hD
              refine lv_aload_n hx hb dX0_join_202 rfl (lv_at hl 4 rfl) ?_
              refine va_get (D := D) (ci := 0) (v := .ref (a 11)) (C := RX0) (T := TX0) (N := 14) hx hb hts in_X0 hown hK hP 0 rfl rfl 11 (by decide) (hts _ q39) (fun _ h9 => h9) rfl dX0_join_203 ?_
              refine lv_iload_n hx hb dX0_join_206 rfl (lv_at hl 0 rfl) ?_
              refine lv_aload_n hx hb dX0_join_207 rfl (lv_at hl 4 rfl) ?_
              refine lv_aload_n hx hb dX0_join_208 rfl (lv_at hl 4 rfl) ?_
              refine va_get (D := D) (ci := 0) (v := .ref (a 9)) (C := RX0) (T := TX0) (N := 14) hx hb hts in_X0 hown hK hP 0 rfl rfl 9 (by decide) (hts _ q37) (fun _ h9 => h9) rfl dX0_join_209 ?_
              refine lv_iload_n hx hb dX0_join_212 rfl (lv_at hl 0 rfl) ?_
              refine tn_iald hx hb hK hP 7 0 rfl rfl (j := dp + 1) (by omega) (by decide) dX0_join_213 ?_
              refine tn_as (nI (tvv vr_ (dp + 1))) ev2 ?_
              refine vp_callSi (W.runV (As := [.int (nI (tvv vr_ (dp + 1)))]) (rest := [.int (nI (dp + 1)), .ref (a 11)]) ⟨hx, hb, hml, hown, hts⟩ (m_allowed hI hN hpl hbk2 (tvv vr_ (dp + 1)) hv42) (cwV 1 hts (lw_V q115 q117 qs5 q18 q118) rfl rfl rfl (by decide +kernel) ⟨Nat.le_of_ble_eq_true rfl, Nat.le_of_ble_eq_true rfl⟩) (pJ_preJ hK hP hD rfl) rfl rfl hl.1 rfl (lv_room (Nat.le_of_ble_eq_true rfl)) dX0_join_214 ⟨Nat.le_refl _, Nat.le_refl _⟩) (fun r_214 hr_214 => ?_)
              subst hr_214
              refine tn_iast hx hb hK hP hD hS 9 0 rfl rfl (j := dp + 1) (x := nI (tmk (fun q => tal F pl (upd (upd bo2 (tvv vr_ dp) (nI X)) (tvv vr_ (dp + 1)) (-1)) (tvv vr_ (dp + 1)) q N) 8)) (by omega) (by decide) dX0_join_217 (fun H locs hP hD hS => ?_)
              have hP : va_P D vwCl (wJ h a d he ob pr su go si (nI N) pl (nI (tcn (tst pl N) 4)) vr_ (upd (upd bo2 (tvv vr_ dp) (nI X)) (tvv vr_ (dp + 1)) (-1)) (upd (tcd ca_ dp X) (dp + 1) (nI (tmk (fun q => tal F pl (upd (upd bo2 (tvv vr_ dp) (nI X)) (tvv vr_ (dp + 1)) (-1)) (tvv vr_ (dp + 1)) q N) 8))) vc2 sc2) H := hP
              have hD : va_D (oJ h a) (wJ h a d he ob pr su go si (nI N) pl (nI (tcn (tst pl N) 4)) vr_ (upd (upd bo2 (tvv vr_ dp) (nI X)) (tvv vr_ (dp + 1)) (-1)) (upd (tcd ca_ dp X) (dp + 1) (nI (tmk (fun q => tal F pl (upd (upd bo2 (tvv vr_ dp) (nI X)) (tvv vr_ (dp + 1)) (-1)) (tvv vr_ (dp + 1)) q N) 8))) vc2 sc2) := hD
              refine lv_iinc (v := nI (j + 1)) (lv' := [(4, .int (nI (j + 1))), (2, .int (nI (dp + 1))), (5, .int (nI X)), (3, .int (nI (tb true))), (0, .ref h), (1, .int stop)]) hx hb dX0_join_218 hl (k := 2) rfl (nI_1 _) (by decide) rfl (fun ls hl => ?_)
              refine lv_goto (tgt := 41) hx hb dX0_join_221 (by decide) ?_
              exact ih _ _ _ ⟨true, dp + 1, _, _, _, _, _, lv_sub hl [0, 3, 1, 4, 5] rfl, hP, hS, (by show tjit F pl N (tcn (tst pl N) 4) vr_ stop (tit F pl N (tcn (tst pl N) 4) vr_ stop (tj0 F pl N vr_ ca bo_ vc_) j) = _; rw [hit]; exact tjit_down (by omega) hne hlo c_187), (fun _ => rfl), (fun _ => twf_down hvo hwf c_187 hx8)⟩
          · have h0 : ca_ dp = nI 0 := by rw [hfm, c_109]
            refine lv_aload_n hx hb dX0_join_112 rfl (lv_at hl 3 rfl) ?_
            refine va_get (D := D) (ci := 0) (v := .ref (a 10)) (C := RX0) (T := TX0) (N := 14) hx hb hts in_X0 hown hK hP 0 rfl rfl 10 (by decide) (hts _ q38) (fun _ h9 => h9) rfl dX0_join_113 ?_
            refine lv_aload_n hx hb dX0_join_116 rfl (lv_at hl 3 rfl) ?_
            refine va_get (D := D) (ci := 0) (v := .ref (a 9)) (C := RX0) (T := TX0) (N := 14) hx hb hts in_X0 hown hK hP 0 rfl rfl 9 (by decide) (hts _ q37) (fun _ h9 => h9) rfl dX0_join_117 ?_
            refine lv_iload_n hx hb dX0_join_120 rfl (lv_at hl 2 rfl) ?_
            refine tn_iald hx hb hK hP 7 0 rfl rfl (j := dp) (by omega) (by decide) dX0_join_121 ?_
            refine tn_as (nI (tvv vr_ dp)) ev ?_
            refine lv_iconst (v := (-1)) hx hb dX0_join_122 (by decide) ?_
            refine tn_iast hx hb hK hP hD hS 8 0 rfl rfl (j := tvv vr_ dp) (x := (-1)) (by omega) (by decide) dX0_join_123 (fun H locs hP hD hS => ?_)
            have hP : va_P D vwCl (wJ h a d he ob pr su go si (nI N) pl (nI (tcn (tst pl N) 4)) vr_ (upd bo2 (tvv vr_ dp) (-1)) ca_ vc2 sc2) H := hP
            have hD : va_D (oJ h a) (wJ h a d he ob pr su go si (nI N) pl (nI (tcn (tst pl N) 4)) vr_ (upd bo2 (tvv vr_ dp) (-1)) ca_ vc2 sc2) := hD
            refine lv_iinc (v := (nI dp + (-1))) (lv' := [(2, .int (nI dp + (-1))), (4, .int (nI j)), (3, .int (nI (tb true))), (0, .ref h), (1, .int stop)]) hx hb dX0_join_124 hl (k := 2) rfl rfl (by decide) rfl (fun ls hl => ?_)
            have hnx : tit F pl N (tcn (tst pl N) 4) vr_ stop (tj0 F pl N vr_ ca bo_ vc_) (j + 1) = (decide (1 ≤ dp), dp - 1, ca_, upd bo2 (tvv vr_ dp) (-1), vc2, sc2) := by show tjit F pl N (tcn (tst pl N) 4) vr_ stop (tit F pl N (tcn (tst pl N) 4) vr_ stop (tj0 F pl N vr_ ca bo_ vc_) j) = _; rw [hit]; exact tjit_back (by omega) h0
            refine lv_iload_n hx hb dX0_join_127 rfl (lv_at hl 0 rfl) ?_
            refine lv_if_lt (tgt := 135) hx hb dX0_join_128 (by decide) (fun c_128 => ?_) (fun c_128 => ?_)
            · have hd0 : dp = 0 := Nat.eq_zero_of_not_pos (fun z => t_prd z (by omega) c_128)
              refine lv_iconst (v := nI 0) hx hb dX0_join_135 (by decide) ?_
              refine tn_as (nI (tb (decide (1 ≤ dp)))) (by rw [decide_eq_false (by omega)]; rfl) ?_
              refine lv_istore_n (lv' := [(3, .int (nI (tb (decide (1 ≤ dp))))), (2, .int (nI dp + (-1))), (4, .int (nI j)), (0, .ref h), (1, .int stop)]) hx hb dX0_join_136 rfl hl (by decide) rfl (fun ls hl => ?_)
              refine lv_goto (tgt := 218) hx hb dX0_join_137 (by decide) ?_
              refine lv_iinc (v := nI (j + 1)) (lv' := [(4, .int (nI (j + 1))), (3, .int (nI (tb (decide (1 ≤ dp))))), (2, .int (nI dp + (-1))), (0, .ref h), (1, .int stop)]) hx hb dX0_join_218 hl (k := 2) rfl (nI_1 _) (by decide) rfl (fun ls hl => ?_)
              refine lv_goto (tgt := 41) hx hb dX0_join_221 (by decide) ?_
              exact ih _ _ _ ⟨_, _, _, _, _, _, _, lv_sub hl [0, 1, 2, 3, 4] rfl, hP, hS, hnx, (fun z => absurd (of_decide_eq_true z) (by omega)), (fun z => absurd (of_decide_eq_true z) (by omega))⟩
            · have hd1 : 1 ≤ dp := Nat.pos_of_ne_zero (fun z => c_128 (by rw [z]; decide))
              refine lv_iconst (v := nI 1) hx hb dX0_join_131 (by decide) ?_
              refine lv_goto (tgt := 136) hx hb dX0_join_132 (by decide) ?_
              refine tn_as (nI (tb (decide (1 ≤ dp)))) (by rw [decide_eq_true hd1]; rfl) ?_
              refine lv_istore_n (lv' := [(3, .int (nI (tb (decide (1 ≤ dp))))), (2, .int (nI dp + (-1))), (4, .int (nI j)), (0, .ref h), (1, .int stop)]) hx hb dX0_join_136 rfl hl (by decide) rfl (fun ls hl => ?_)
              refine lv_goto (tgt := 218) hx hb dX0_join_137 (by decide) ?_
              refine lv_iinc (v := nI (j + 1)) (lv' := [(4, .int (nI (j + 1))), (3, .int (nI (tb (decide (1 ≤ dp))))), (2, .int (nI dp + (-1))), (0, .ref h), (1, .int stop)]) hx hb dX0_join_218 hl (k := 2) rfl (nI_1 _) (by decide) rfl (fun ls hl => ?_)
              refine lv_goto (tgt := 41) hx hb dX0_join_221 (by decide) ?_
              exact ih _ _ _ ⟨_, _, _, _, _, _, _, lv_sub hl [0, 1, 2, 3, 4] rfl, hP, hS, hnx, (fun _ => t_prdn hd1), (fun _ => twf_back hvo hwf hdl)⟩
        · have hvk : ∀ k, k < tcn (tst pl N) 4 → ∃ v x : Nat, v < 4 ∧ x < 8 ∧ vr_ k = nI v ∧ bo2 v = nI x := fun k hk => by
            obtain ⟨x9, h91, h92⟩ := hwf.2.2.2 k (by omega)
            exact ⟨tvv vr_ k, x9, (hvo.2.1 k hk).2, h91, (hvo.2.1 k hk).1, h92⟩
          refine lv_aload_n hx hb dX0_join_61 rfl (lv_at hl 3 rfl) ?_
          refine va_callv (va_runV (As := []) (rest := []) ⟨hx, hb, hml, hown, hts⟩ (m_countSolution (tcn (tst pl N) 4) hvo.1 hvk) (cwV 0 hts (lw_V q146 q148 qs11 q18 q149) rfl rfl rfl (by decide +kernel) ⟨Nat.le_of_ble_eq_true rfl, Nat.le_of_ble_eq_true rfl⟩) (pJ_preJ hK hP hD rfl) rfl rfl hl.1 rfl (lv_room (Nat.le_of_ble_eq_true rfl)) dX0_join_62 ⟨Nat.le_refl _, Nat.le_refl _⟩) hS (fun q _ h9 => h9) (fun q h9 => h9) (fun _ t_ H locs ht_ hvm_ _ hB _ _ hS => ?_)
          rw [ht_] at hB
          have hP : va_P D vwCl (wJ h a d he ob pr su go si (nI N) pl (nI (tcn (tst pl N) 4)) vr_ bo2 ca_ (tcs vr_ bo2 vc2 (tcn (tst pl N) 4)) (sc2 + nI 1)) H := hB
          have hD : va_D (oJ h a) (wJ h a d he ob pr su go si (nI N) pl (nI (tcn (tst pl N) 4)) vr_ bo2 ca_ (tcs vr_ bo2 vc2 (tcn (tst pl N) 4)) (sc2 + nI 1)) := va_D_re hD rfl
          have hnx : tit F pl N (tcn (tst pl N) 4) vr_ stop (tj0 F pl N vr_ ca bo_ vc_) (j + 1) = (decide ((sc2 + nI 1 ≤ stop ∨ stop < 0) ∧ 1 ≤ dp), dp - 1, ca_, bo2, tcs vr_ bo2 vc2 (tcn (tst pl N) 4), sc2 + nI 1) := by show tjit F pl N (tcn (tst pl N) 4) vr_ stop (tit F pl N (tcn (tst pl N) 4) vr_ stop (tj0 F pl N vr_ ca bo_ vc_) j) = _; rw [hit]; exact tjit_leaf c_58
          refine lv_aload_n hx hb dX0_join_65 rfl (lv_at hl 3 rfl) ?_
          refine va_get (D := D) (ci := 0) (v := .int (sc2 + nI 1)) (C := RX0) (T := TX0) (N := 14) hx hb hts in_X0 hown hK hP 0 rfl rfl 13 (by decide) (hts _ q41) (fun _ h9 => h9) rfl dX0_join_66 ?_
          refine lv_iload_n hx hb dX0_join_69 rfl (lv_at hl 4 rfl) ?_
          refine lv_icmp_le (tgt := 77) hx hb dX0_join_70 (by decide) (fun c_70 => ?_) (fun c_70 => ?_)
          · refine lv_iconst (v := nI 1) hx hb dX0_join_77 (by decide) ?_
            refine lv_goto (tgt := 82) hx hb dX0_join_78 (by decide) ?_
            refine lv_istore_n (lv' := [(3, .int (nI 1)), (4, .int (nI j)), (2, .int (nI dp)), (0, .ref h), (1, .int stop)]) hx hb dX0_join_82 rfl hl (by decide) rfl (fun ls hl => ?_)
            refine lv_iinc (v := (nI dp + (-1))) (lv' := [(2, .int (nI dp + (-1))), (3, .int (nI 1)), (4, .int (nI j)), (0, .ref h), (1, .int stop)]) hx hb dX0_join_83 hl (k := 2) rfl rfl (by decide) rfl (fun ls hl => ?_)
            refine lv_iload_n hx hb dX0_join_86 rfl (lv_at hl 1 rfl) ?_
            refine tn_if_eq (tgt := 98) hx hb dX0_join_87 (by decide) (by decide) (fun z => absurd z (by decide)) (fun _ => ?_)
            refine lv_iload_n hx hb dX0_join_90 rfl (lv_at hl 0 rfl) ?_
            have hcs : (sc2 + nI 1 ≤ stop ∨ stop < 0) := Or.inl c_70
            refine lv_if_lt (tgt := 98) hx hb dX0_join_91 (by decide) (fun c_91 => ?_) (fun c_91 => ?_)
            · have hd0 : dp = 0 := Nat.eq_zero_of_not_pos (fun z => t_prd z (by omega) c_91)
              refine lv_iconst (v := nI 0) hx hb dX0_join_98 (by decide) ?_
              refine tn_as (nI (tb (decide ((sc2 + nI 1 ≤ stop ∨ stop < 0) ∧ 1 ≤ dp)))) (by rw [decide_eq_false (by omega)]; rfl) ?_
              refine lv_istore_n (lv' := [(3, .int (nI (tb (decide ((sc2 + nI 1 ≤ stop ∨ stop < 0) ∧ 1 ≤ dp))))), (2, .int (nI dp + (-1))), (4, .int (nI j)), (0, .ref h), (1, .int stop)]) hx hb dX0_join_99 rfl hl (by decide) rfl (fun ls hl => ?_)
              refine lv_goto (tgt := 218) hx hb dX0_join_100 (by decide) ?_
              refine lv_iinc (v := nI (j + 1)) (lv' := [(4, .int (nI (j + 1))), (3, .int (nI (tb (decide ((sc2 + nI 1 ≤ stop ∨ stop < 0) ∧ 1 ≤ dp))))), (2, .int (nI dp + (-1))), (0, .ref h), (1, .int stop)]) hx hb dX0_join_218 hl (k := 2) rfl (nI_1 _) (by decide) rfl (fun ls hl => ?_)
              refine lv_goto (tgt := 41) hx hb dX0_join_221 (by decide) ?_
              exact ih _ _ _ ⟨_, _, _, _, _, _, _, lv_sub hl [0, 1, 2, 3, 4] rfl, hP, hS, hnx, (fun z => absurd (of_decide_eq_true z) (by omega)), (fun z => absurd (of_decide_eq_true z) (by omega))⟩
            · have hd1 : 1 ≤ dp := Nat.pos_of_ne_zero (fun z => c_91 (by rw [z]; decide))
              refine lv_iconst (v := nI 1) hx hb dX0_join_94 (by decide) ?_
              refine lv_goto (tgt := 99) hx hb dX0_join_95 (by decide) ?_
              refine tn_as (nI (tb (decide ((sc2 + nI 1 ≤ stop ∨ stop < 0) ∧ 1 ≤ dp)))) (by rw [decide_eq_true ⟨hcs, hd1⟩]; rfl) ?_
              refine lv_istore_n (lv' := [(3, .int (nI (tb (decide ((sc2 + nI 1 ≤ stop ∨ stop < 0) ∧ 1 ≤ dp))))), (2, .int (nI dp + (-1))), (4, .int (nI j)), (0, .ref h), (1, .int stop)]) hx hb dX0_join_99 rfl hl (by decide) rfl (fun ls hl => ?_)
              refine lv_goto (tgt := 218) hx hb dX0_join_100 (by decide) ?_
              refine lv_iinc (v := nI (j + 1)) (lv' := [(4, .int (nI (j + 1))), (3, .int (nI (tb (decide ((sc2 + nI 1 ≤ stop ∨ stop < 0) ∧ 1 ≤ dp))))), (2, .int (nI dp + (-1))), (0, .ref h), (1, .int stop)]) hx hb dX0_join_218 hl (k := 2) rfl (nI_1 _) (by decide) rfl (fun ls hl => ?_)
              refine lv_goto (tgt := 41) hx hb dX0_join_221 (by decide) ?_
              exact ih _ _ _ ⟨_, _, _, _, _, _, _, lv_sub hl [0, 1, 2, 3, 4] rfl, hP, hS, hnx, (fun _ => t_prdn hd1), (fun _ => twf_leaf hwf)⟩
          · refine lv_iload_n hx hb dX0_join_73 rfl (lv_at hl 4 rfl) ?_
            refine lv_if_ge (tgt := 81) hx hb dX0_join_74 (by decide) (fun c_74 => ?_) (fun c_74 => ?_)
            · have hcs : ¬ (sc2 + nI 1 ≤ stop ∨ stop < 0) := fun z => z.elim c_70 (fun q => absurd q (Int32.not_lt.mpr c_74))
              refine lv_iconst (v := nI 0) hx hb dX0_join_81 (by decide) ?_
              refine lv_istore_n (lv' := [(3, .int (nI 0)), (4, .int (nI j)), (2, .int (nI dp)), (0, .ref h), (1, .int stop)]) hx hb dX0_join_82 rfl hl (by decide) rfl (fun ls hl => ?_)
              refine lv_iinc (v := (nI dp + (-1))) (lv' := [(2, .int (nI dp + (-1))), (3, .int (nI 0)), (4, .int (nI j)), (0, .ref h), (1, .int stop)]) hx hb dX0_join_83 hl (k := 2) rfl rfl (by decide) rfl (fun ls hl => ?_)
              refine lv_iload_n hx hb dX0_join_86 rfl (lv_at hl 1 rfl) ?_
              refine tn_if_eq (tgt := 98) hx hb dX0_join_87 (by decide) (by decide) (fun _ => ?_) (fun z => absurd z (by decide))
              refine lv_iconst (v := nI 0) hx hb dX0_join_98 (by decide) ?_
              refine tn_as (nI (tb (decide ((sc2 + nI 1 ≤ stop ∨ stop < 0) ∧ 1 ≤ dp)))) (by rw [decide_eq_false (fun z => hcs z.1)]; rfl) ?_
              refine lv_istore_n (lv' := [(3, .int (nI (tb (decide ((sc2 + nI 1 ≤ stop ∨ stop < 0) ∧ 1 ≤ dp))))), (2, .int (nI dp + (-1))), (4, .int (nI j)), (0, .ref h), (1, .int stop)]) hx hb dX0_join_99 rfl hl (by decide) rfl (fun ls hl => ?_)
              refine lv_goto (tgt := 218) hx hb dX0_join_100 (by decide) ?_
              refine lv_iinc (v := nI (j + 1)) (lv' := [(4, .int (nI (j + 1))), (3, .int (nI (tb (decide ((sc2 + nI 1 ≤ stop ∨ stop < 0) ∧ 1 ≤ dp))))), (2, .int (nI dp + (-1))), (0, .ref h), (1, .int stop)]) hx hb dX0_join_218 hl (k := 2) rfl (nI_1 _) (by decide) rfl (fun ls hl => ?_)
              refine lv_goto (tgt := 41) hx hb dX0_join_221 (by decide) ?_
              exact ih _ _ _ ⟨_, _, _, _, _, _, _, lv_sub hl [0, 1, 2, 3, 4] rfl, hP, hS, hnx, (fun z => absurd (of_decide_eq_true z).1 hcs), (fun z => absurd (of_decide_eq_true z).1 hcs)⟩
            · refine lv_iconst (v := nI 1) hx hb dX0_join_77 (by decide) ?_
              refine lv_goto (tgt := 82) hx hb dX0_join_78 (by decide) ?_
              refine lv_istore_n (lv' := [(3, .int (nI 1)), (4, .int (nI j)), (2, .int (nI dp)), (0, .ref h), (1, .int stop)]) hx hb dX0_join_82 rfl hl (by decide) rfl (fun ls hl => ?_)
              refine lv_iinc (v := (nI dp + (-1))) (lv' := [(2, .int (nI dp + (-1))), (3, .int (nI 1)), (4, .int (nI j)), (0, .ref h), (1, .int stop)]) hx hb dX0_join_83 hl (k := 2) rfl rfl (by decide) rfl (fun ls hl => ?_)
              refine lv_iload_n hx hb dX0_join_86 rfl (lv_at hl 1 rfl) ?_
              refine tn_if_eq (tgt := 98) hx hb dX0_join_87 (by decide) (by decide) (fun z => absurd z (by decide)) (fun _ => ?_)
              refine lv_iload_n hx hb dX0_join_90 rfl (lv_at hl 0 rfl) ?_
              have hcs : (sc2 + nI 1 ≤ stop ∨ stop < 0) := Or.inr (Int32.not_le.mp c_74)
              refine lv_if_lt (tgt := 98) hx hb dX0_join_91 (by decide) (fun c_91 => ?_) (fun c_91 => ?_)
              · have hd0 : dp = 0 := Nat.eq_zero_of_not_pos (fun z => t_prd z (by omega) c_91)
                refine lv_iconst (v := nI 0) hx hb dX0_join_98 (by decide) ?_
                refine tn_as (nI (tb (decide ((sc2 + nI 1 ≤ stop ∨ stop < 0) ∧ 1 ≤ dp)))) (by rw [decide_eq_false (by omega)]; rfl) ?_
                refine lv_istore_n (lv' := [(3, .int (nI (tb (decide ((sc2 + nI 1 ≤ stop ∨ stop < 0) ∧ 1 ≤ dp))))), (2, .int (nI dp + (-1))), (4, .int (nI j)), (0, .ref h), (1, .int stop)]) hx hb dX0_join_99 rfl hl (by decide) rfl (fun ls hl => ?_)
                refine lv_goto (tgt := 218) hx hb dX0_join_100 (by decide) ?_
                refine lv_iinc (v := nI (j + 1)) (lv' := [(4, .int (nI (j + 1))), (3, .int (nI (tb (decide ((sc2 + nI 1 ≤ stop ∨ stop < 0) ∧ 1 ≤ dp))))), (2, .int (nI dp + (-1))), (0, .ref h), (1, .int stop)]) hx hb dX0_join_218 hl (k := 2) rfl (nI_1 _) (by decide) rfl (fun ls hl => ?_)
                refine lv_goto (tgt := 41) hx hb dX0_join_221 (by decide) ?_
                exact ih _ _ _ ⟨_, _, _, _, _, _, _, lv_sub hl [0, 1, 2, 3, 4] rfl, hP, hS, hnx, (fun z => absurd (of_decide_eq_true z) (by omega)), (fun z => absurd (of_decide_eq_true z) (by omega))⟩
              · have hd1 : 1 ≤ dp := Nat.pos_of_ne_zero (fun z => c_91 (by rw [z]; decide))
                refine lv_iconst (v := nI 1) hx hb dX0_join_94 (by decide) ?_
                refine lv_goto (tgt := 99) hx hb dX0_join_95 (by decide) ?_
                refine tn_as (nI (tb (decide ((sc2 + nI 1 ≤ stop ∨ stop < 0) ∧ 1 ≤ dp)))) (by rw [decide_eq_true ⟨hcs, hd1⟩]; rfl) ?_
                refine lv_istore_n (lv' := [(3, .int (nI (tb (decide ((sc2 + nI 1 ≤ stop ∨ stop < 0) ∧ 1 ≤ dp))))), (2, .int (nI dp + (-1))), (4, .int (nI j)), (0, .ref h), (1, .int stop)]) hx hb dX0_join_99 rfl hl (by decide) rfl (fun ls hl => ?_)
                refine lv_goto (tgt := 218) hx hb dX0_join_100 (by decide) ?_
                refine lv_iinc (v := nI (j + 1)) (lv' := [(4, .int (nI (j + 1))), (3, .int (nI (tb (decide ((sc2 + nI 1 ≤ stop ∨ stop < 0) ∧ 1 ≤ dp))))), (2, .int (nI dp + (-1))), (0, .ref h), (1, .int stop)]) hx hb dX0_join_218 hl (k := 2) rfl (nI_1 _) (by decide) rfl (fun ls hl => ?_)
                refine lv_goto (tgt := 41) hx hb dX0_join_221 (by decide) ?_
                exact ih _ _ _ ⟨_, _, _, _, _, _, _, lv_sub hl [0, 1, 2, 3, 4] rfl, hP, hS, hnx, (fun _ => t_prdn hd1), (fun _ => twf_leaf hwf)⟩
    · obtain ⟨op, dp, dI, ca_, bo2, vc2, sc2, hl, hP, hS, hit, hdI, hwf⟩ := hJ
      have hD : va_D (oJ h a) (wJ h a d he ob pr su go si (nI N) pl (nI (tcn (tst pl N) 4)) vr_ bo2 ca_ vc2 sc2) := va_D_re hD_41 rfl
      refine lv_iload hx hb dX0_join_41 (lv_at hl 0 rfl) ?_
      refine lv_sipush (v := nI 10000) hx hb dX0_join_43 (by decide) ?_
      refine tn_icmp_ge (tgt := 224) hx hb dX0_join_46 (by decide) (by decide) (by decide) (fun _ => ?_) (fun z => absurd z (by decide))
      exact W.vret hx hb hr (fun t ht hW => ⟨⟨(vr_, bo2, ca_, vc2, sc2), rfl, ⟨ca, bo_, vc_, op, dp, hpp, hit⟩, by show va_P D vwCl _ t.heap; rw [ht]; exact hP⟩, hS.F ht⟩) hS.2.2 dX0_join_224
  · refine lv_aload_n hx hb dX0_join_15 rfl (lv_at hl 2 rfl) ?_
    refine va_get (D := D) (ci := 0) (v := .int (nI (tcn (tst pl N) 4))) (C := RX0) (T := TX0) (N := 14) hx hb hts in_X0 hown hK hP 0 rfl rfl 8 (by decide) (hts _ q36) (fun _ h9 => h9) rfl dX0_join_16 ?_
    refine tn_if_le (tgt := 38) hx hb dX0_join_19 (by decide) (by omega) (fun c_19 => ?_) (fun c_19 => ?_)
    · refine lv_iconst (v := nI 0) hx hb dX0_join_38 (by decide) ?_
      refine lv_istore (lv' := [(4, .int (nI 0)), (3, .int (nI (tb (tgh F pl N)))), (2, .int (nI 0)), (0, .ref h), (1, .int stop)]) hx hb dX0_join_39 hl (by decide) rfl (fun ls hl => ?_)
      have hD_41 := hD
      refine tn_forH (fun j H locs ls => ∃ (op : Bool) (dp : Nat) (dI : Int32) (ca_ : Nat → Int32) (bo2 : Nat → Int32) (vc2 : Nat → Int32) (sc2 : Int32), lv_has ls 6 [(4, .int (nI j)), (3, .int (nI (tb op))), (2, .int dI), (0, .ref h), (1, .int stop)] ∧ va_P D vwCl (wJ h a d he ob pr su go si (nI N) pl (nI (tcn (tst pl N) 4)) vr_ bo2 ca_ vc2 sc2) H ∧ va_S (oJ h a) s.heap H locs ∧ (tit F pl N (tcn (tst pl N) 4) vr_ stop (tj0 F pl N vr_ ca bo_ vc_) j = (op, dp, ca_, bo2, vc2, sc2)) ∧ (op = true → dI = nI dp) ∧ (op = true → twf (tcn (tst pl N) 4) vr_ dp ca_ bo2)) 10000 0 (by decide) ⟨tgh F pl N, 0, _, _, _, _, _, lv_sub hl [0, 1, 2, 3, 4] rfl, hP, hS, (by show tj0 F pl N vr_ ca bo_ vc_ = _; unfold tj0; rw [if_neg (fun z => by omega)]), (fun _ => rfl), (fun z => ⟨Nat.zero_le _, fun j h1 h2 => absurd h2 (by omega), hbk, fun j hj => absurd hj (Nat.not_lt_zero j)⟩)⟩ (fun j H locs ls hj hJ ih => ?_) (fun H locs ls hJ => ?_)
      · obtain ⟨op, dp, dI, ca_, bo2, vc2, sc2, hl, hP, hS, hit, hdI, hwf⟩ := hJ
        have hD : va_D (oJ h a) (wJ h a d he ob pr su go si (nI N) pl (nI (tcn (tst pl N) 4)) vr_ bo2 ca_ vc2 sc2) := va_D_re hD_41 rfl
        refine lv_iload hx hb dX0_join_41 (lv_at hl 0 rfl) ?_
        refine lv_sipush (v := nI 10000) hx hb dX0_join_43 (by decide) ?_
        refine tn_icmp_ge (tgt := 224) hx hb dX0_join_46 (by decide) (by omega) (by decide) (fun z => absurd z (by omega)) (fun _ => ?_)
        refine lv_iload_n hx hb dX0_join_49 rfl (lv_at hl 1 rfl) ?_
        refine tn_if_eq (tgt := 224) hx hb dX0_join_50 (by decide) (tb_lt _) (fun c_50 => ?_) (fun c_50 => ?_)
        · have ho := tb_0 c_50
          have hit2 : tit F pl N (tcn (tst pl N) 4) vr_ stop (tj0 F pl N vr_ ca bo_ vc_) 10000 = (op, dp, ca_, bo2, vc2, sc2) := by
            have h1 := tit_shut (F := F) (pl := pl) (N := N) (K := tcn (tst pl N) 4) (vr := vr_) (stop := stop) (σ := tj0 F pl N vr_ ca bo_ vc_) (i := j) (by rw [hit]; exact ho) (10000 - j)
            rw [show j + (10000 - j) = 10000 by omega] at h1
            rw [h1, hit]
          exact W.vret hx hb hr (fun t ht hW => ⟨⟨(vr_, bo2, ca_, vc2, sc2), rfl, ⟨ca, bo_, vc_, op, dp, hpp, hit2⟩, by show va_P D vwCl _ t.heap; rw [ht]; exact hP⟩, hS.F ht⟩) hS.2.2 dX0_join_224
        · have ho := tb_1 c_50
          subst ho
          have hdI := hdI rfl
          subst hdI
          have hwf := hwf rfl
          have hdK := hwf.1
          have hK4 := hvo.1
          refine lv_iload_n hx hb dX0_join_53 rfl (lv_at hl 2 rfl) ?_
          refine lv_aload_n hx hb dX0_join_54 rfl (lv_at hl 3 rfl) ?_
          refine va_get (D := D) (ci := 0) (v := .int (nI (tcn (tst pl N) 4))) (C := RX0) (T := TX0) (N := 14) hx hb hts in_X0 hown hK hP 0 rfl rfl 8 (by decide) (hts _ q36) (fun _ h9 => h9) rfl dX0_join_55 ?_
          refine tn_icmp_ne (tgt := 103) hx hb dX0_join_58 (by decide) (by omega) (by omega) (fun c_58 => ?_) (fun c_58 => ?_)
          · have hdl : dp < tcn (tst pl N) 4 := by omega
            obtain ⟨fm, hfm⟩ := hwf.2.1 dp (Nat.le_refl _) hdl
            have hfm8 := tmk_8 fm
            obtain ⟨ev, hv4⟩ := hvo.2.1 dp hdl
            refine lv_aload_n hx hb dX0_join_103 rfl (lv_at hl 3 rfl) ?_
            refine va_get (D := D) (ci := 0) (v := .ref (a 11)) (C := RX0) (T := TX0) (N := 14) hx hb hts in_X0 hown hK hP 0 rfl rfl 11 (by decide) (hts _ q39) (fun _ h9 => h9) rfl dX0_join_104 ?_
            refine lv_iload_n hx hb dX0_join_107 rfl (lv_at hl 2 rfl) ?_
            refine tn_iald hx hb hK hP 9 0 rfl rfl (j := dp) (by omega) (by decide) dX0_join_108 ?_
            refine tn_as (nI (tmk fm 8)) hfm ?_
            refine tn_if_ne (tgt := 140) hx hb dX0_join_109 (by decide) (by omega) (fun c_109 => ?_) (fun c_109 => ?_)
            · have hne : ca_ dp ≠ nI 0 := fun z => c_109 (by rw [hfm] at z; exact (nI_eq (Nat.lt_trans (tmk_8 fm) (by decide)) (by decide)).mp z)
              have hx0 : ∃ q, q < 8 ∧ (tmk fm 8).testBit q = true := tmk_ne (fun z => hne (hfm.trans z))
              have hx8 := tlo_lt (tmk fm 8)
              have hlo : tlo (ca_ dp).toNatClampNeg = tlo (tmk fm 8) := by rw [hfm, nI_clamp (Nat.lt_trans (tmk_8 fm) (by decide))]
              refine lv_aload_n hx hb dX0_join_140 rfl (lv_at hl 3 rfl) ?_
              refine va_get (D := D) (ci := 0) (v := .ref (a 11)) (C := RX0) (T := TX0) (N := 14) hx hb hts in_X0 hown hK hP 0 rfl rfl 11 (by decide) (hts _ q39) (fun _ h9 => h9) rfl dX0_join_141 ?_
              refine lv_iload_n hx hb dX0_join_144 rfl (lv_at hl 2 rfl) ?_
              refine tn_iald hx hb hK hP 9 0 rfl rfl (j := dp) (by omega) (by decide) dX0_join_145 ?_
              refine tn_as (nI (tmk fm 8)) hfm ?_
              refine vp_callSi (W.runS (As := [.int (nI (tmk fm 8))]) (rest := []) ⟨hx, hb, hml, hown, hts⟩ (m_lowest l (tmk fm 8) (tmk_8 fm) hx0) (va_cwS 1 hts (lw_S q150 q151 q18 q152) rfl rfl rfl (by decide +kernel) ⟨Nat.le_of_ble_eq_true rfl, Nat.le_of_ble_eq_true rfl⟩) pS_pre rfl rfl hl.1 rfl (lv_room (Nat.le_of_ble_eq_true rfl)) dX0_join_146 ⟨Nat.le_refl _, Nat.le_refl _⟩) (fun r_146 hr_146 => ?_)
              subst hr_146
              generalize hX : tlo (tmk fm 8) = X at hx8 hlo ⊢
              refine lv_istore (lv' := [(5, .int (nI X)), (4, .int (nI j)), (3, .int (nI (tb true))), (2, .int (nI dp)), (0, .ref h), (1, .int stop)]) hx hb dX0_join_149 hl (by decide) rfl (fun ls hl => ?_)
              refine lv_aload_n hx hb dX0_join_151 rfl (lv_at hl 4 rfl) ?_
              refine va_get (D := D) (ci := 0) (v := .ref (a 11)) (C := RX0) (T := TX0) (N := 14) hx hb hts in_X0 hown hK hP 0 rfl rfl 11 (by decide) (hts _ q39) (fun _ h9 => h9) rfl dX0_join_152 ?_
              refine lv_iload_n hx hb dX0_join_155 rfl (lv_at hl 3 rfl) ?_
              refine lv_dup2_11 hx hb dX0_join_156 rfl rfl ?_
              refine tn_iald hx hb hK hP 9 0 rfl rfl (j := dp) (by omega) (by decide) dX0_join_157 ?_
              refine lv_iconst (v := nI 1) hx hb dX0_join_158 (by decide) ?_
              refine lv_iload hx hb dX0_join_159 (lv_at hl 0 rfl) ?_
              refine lv_ishl hx hb dX0_join_161 ?_
              refine lv_iconst (v := (-1)) hx hb dX0_join_162 (by decide) ?_
              refine lv_ixor hx hb dX0_join_163 ?_
              refine lv_iand hx hb dX0_join_164 ?_
              refine tn_iast hx hb hK hP hD hS 9 0 rfl rfl (j := dp) (x := ((ca_ dp) &&& (((nI 1) <<< ((nI X) &&& 31)) ^^^ (-1)))) (by omega) (by decide) dX0_join_165 (fun H locs hP hD hS => ?_)
              have hP : va_P D vwCl (wJ h a d he ob pr su go si (nI N) pl (nI (tcn (tst pl N) 4)) vr_ bo2 (upd ca_ dp ((ca_ dp) &&& (((nI 1) <<< ((nI X) &&& 31)) ^^^ (-1)))) vc2 sc2) H := hP
              have hD : va_D (oJ h a) (wJ h a d he ob pr su go si (nI N) pl (nI (tcn (tst pl N) 4)) vr_ bo2 (upd ca_ dp ((ca_ dp) &&& (((nI 1) <<< ((nI X) &&& 31)) ^^^ (-1)))) vc2 sc2) := hD
              have hP : va_P D vwCl (wJ h a d he ob pr su go si (nI N) pl (nI (tcn (tst pl N) 4)) vr_ bo2 (tcd ca_ dp X) vc2 sc2) H := hP
              have hD : va_D (oJ h a) (wJ h a d he ob pr su go si (nI N) pl (nI (tcn (tst pl N) 4)) vr_ bo2 (tcd ca_ dp X) vc2 sc2) := hD
              refine lv_aload_n hx hb dX0_join_166 rfl (lv_at hl 4 rfl) ?_
              refine va_get (D := D) (ci := 0) (v := .ref (a 10)) (C := RX0) (T := TX0) (N := 14) hx hb hts in_X0 hown hK hP 0 rfl rfl 10 (by decide) (hts _ q38) (fun _ h9 => h9) rfl dX0_join_167 ?_
              refine lv_aload_n hx hb dX0_join_170 rfl (lv_at hl 4 rfl) ?_
              refine va_get (D := D) (ci := 0) (v := .ref (a 9)) (C := RX0) (T := TX0) (N := 14) hx hb hts in_X0 hown hK hP 0 rfl rfl 9 (by decide) (hts _ q37) (fun _ h9 => h9) rfl dX0_join_171 ?_
              refine lv_iload_n hx hb dX0_join_174 rfl (lv_at hl 3 rfl) ?_
              refine tn_iald hx hb hK hP 7 0 rfl rfl (j := dp) (by omega) (by decide) dX0_join_175 ?_
              refine tn_as (nI (tvv vr_ dp)) ev ?_
              refine lv_iload hx hb dX0_join_176 (lv_at hl 0 rfl) ?_
              refine tn_iast hx hb hK hP hD hS 8 0 rfl rfl (j := tvv vr_ dp) (x := nI X) (by omega) (by decide) dX0_join_178 (fun H locs hP hD hS => ?_)
              have hP : va_P D vwCl (wJ h a d he ob pr su go si (nI N) pl (nI (tcn (tst pl N) 4)) vr_ (upd bo2 (tvv vr_ dp) (nI X)) (tcd ca_ dp X) vc2 sc2) H := hP
              have hD : va_D (oJ h a) (wJ h a d he ob pr su go si (nI N) pl (nI (tcn (tst pl N) 4)) vr_ (upd bo2 (tvv vr_ dp) (nI X)) (tcd ca_ dp X) vc2 sc2) := hD
              refine lv_iinc (v := nI (dp + 1)) (lv' := [(2, .int (nI (dp + 1))), (5, .int (nI X)), (4, .int (nI j)), (3, .int (nI (tb true))), (0, .ref h), (1, .int stop)]) hx hb dX0_join_179 hl (k := 3) rfl (nI_1 _) (by decide) rfl (fun ls hl => ?_)
              refine lv_iload_n hx hb dX0_join_182 rfl (lv_at hl 0 rfl) ?_
              refine lv_aload_n hx hb dX0_join_183 rfl (lv_at hl 4 rfl) ?_
              refine va_get (D := D) (ci := 0) (v := .int (nI (tcn (tst pl N) 4))) (C := RX0) (T := TX0) (N := 14) hx hb hts in_X0 hown hK hP 0 rfl rfl 8 (by decide) (hts _ q36) (fun _ h9 => h9) rfl dX0_join_184 ?_
              refine tn_icmp_ge (tgt := 218) hx hb dX0_join_187 (by decide) (by omega) (by omega) (fun c_187 => ?_) (fun c_187 => ?_)
              · refine lv_iinc (v := nI (j + 1)) (lv' := [(4, .int (nI (j + 1))), (2, .int (nI (dp + 1))), (5, .int (nI X)), (3, .int (nI (tb true))), (0, .ref h), (1, .int stop)]) hx hb dX0_join_218 hl (k := 2) rfl (nI_1 _) (by decide) rfl (fun ls hl => ?_)
                refine lv_goto (tgt := 41) hx hb dX0_join_221 (by decide) ?_
                exact ih _ _ _ ⟨true, dp + 1, _, _, _, _, _, lv_sub hl [0, 3, 1, 4, 5] rfl, hP, hS, (by show tjit F pl N (tcn (tst pl N) 4) vr_ stop (tit F pl N (tcn (tst pl N) 4) vr_ stop (tj0 F pl N vr_ ca bo_ vc_) j) = _; rw [hit]; exact tjit_last (by omega) hne hlo (by omega)), (fun _ => rfl), (fun _ => (twf_last hvo hwf hdl hx8).elim id (fun z => absurd z (by omega)))⟩
              · obtain ⟨ev2, hv42⟩ := hvo.2.1 (dp + 1) c_187
                refine lv_aload_n hx hb dX0_join_190 rfl (lv_at hl 4 rfl) ?_
                refine va_get (D := D) (ci := 0) (v := .ref (a 10)) (C := RX0) (T := TX0) (N := 14) hx hb hts in_X0 hown hK hP 0 rfl rfl 10 (by decide) (hts _ q38) (fun _ h9 => h9) rfl dX0_join_191 ?_
                refine lv_aload_n hx hb dX0_join_194 rfl (lv_at hl 4 rfl) ?_
                refine va_get (D := D) (ci := 0) (v := .ref (a 9)) (C := RX0) (T := TX0) (N := 14) hx hb hts in_X0 hown hK hP 0 rfl rfl 9 (by decide) (hts _ q37) (fun _ h9 => h9) rfl dX0_join_195 ?_
                refine lv_iload_n hx hb dX0_join_198 rfl (lv_at hl 0 rfl) ?_
                refine tn_iald hx hb hK hP 7 0 rfl rfl (j := dp + 1) (by omega) (by decide) dX0_join_199 ?_
                refine tn_as (nI (tvv vr_ (dp + 1))) ev2 ?_
                have hbk2 : ∀ v, v < 4 → tkk (upd (upd bo2 (tvv vr_ dp) (nI X)) (tvv vr_ (dp + 1)) (-1) v) := tkk_upd (tkk_upd hwf.2.2.1 (Or.inl ⟨X, hx8, rfl⟩)) (Or.inr rfl)
                refine lv_iconst (v := (-1)) hx hb dX0_join_200 (by decide) ?_
                refine tn_iast hx hb hK hP hD hS 8 0 rfl rfl (j := tvv vr_ (dp + 1)) (x := (-1)) (by omega) (by decide) dX0_join_201 (fun H locs hP hD hS => ?_)
                have hP : va_P D vwCl (wJ h a d he ob pr su go si (nI N) pl (nI (tcn (tst pl N) 4)) vr_ (upd (upd bo2 (tvv vr_ dp) (nI X)) (tvv vr_ (dp + 1)) (-1)) (tcd ca_ dp X) vc2 sc2) H := hP
                have hD : va_D (oJ h a) (wJ h a d he ob pr su go si (nI N) pl (nI (tcn (tst pl N) 4)) vr_ (upd (upd bo2 (tvv vr_ dp) (nI X)) (tvv vr_ (dp + 1)) (-1)) (tcd ca_ dp X) vc2 sc2) := hD
                refine lv_aload_n hx hb dX0_join_202 rfl (lv_at hl 4 rfl) ?_
                refine va_get (D := D) (ci := 0) (v := .ref (a 11)) (C := RX0) (T := TX0) (N := 14) hx hb hts in_X0 hown hK hP 0 rfl rfl 11 (by decide) (hts _ q39) (fun _ h9 => h9) rfl dX0_join_203 ?_
                refine lv_iload_n hx hb dX0_join_206 rfl (lv_at hl 0 rfl) ?_
                refine lv_aload_n hx hb dX0_join_207 rfl (lv_at hl 4 rfl) ?_
                refine lv_aload_n hx hb dX0_join_208 rfl (lv_at hl 4 rfl) ?_
                refine va_get (D := D) (ci := 0) (v := .ref (a 9)) (C := RX0) (T := TX0) (N := 14) hx hb hts in_X0 hown hK hP 0 rfl rfl 9 (by decide) (hts _ q37) (fun _ h9 => h9) rfl dX0_join_209 ?_
                refine lv_iload_n hx hb dX0_join_212 rfl (lv_at hl 0 rfl) ?_
                refine tn_iald hx hb hK hP 7 0 rfl rfl (j := dp + 1) (by omega) (by decide) dX0_join_213 ?_
                refine tn_as (nI (tvv vr_ (dp + 1))) ev2 ?_
                refine vp_callSi (W.runV (As := [.int (nI (tvv vr_ (dp + 1)))]) (rest := [.int (nI (dp + 1)), .ref (a 11)]) ⟨hx, hb, hml, hown, hts⟩ (m_allowed hI hN hpl hbk2 (tvv vr_ (dp + 1)) hv42) (cwV 1 hts (lw_V q115 q117 qs5 q18 q118) rfl rfl rfl (by decide +kernel) ⟨Nat.le_of_ble_eq_true rfl, Nat.le_of_ble_eq_true rfl⟩) (pJ_preJ hK hP hD rfl) rfl rfl hl.1 rfl (lv_room (Nat.le_of_ble_eq_true rfl)) dX0_join_214 ⟨Nat.le_refl _, Nat.le_refl _⟩) (fun r_214 hr_214 => ?_)
                subst hr_214
                refine tn_iast hx hb hK hP hD hS 9 0 rfl rfl (j := dp + 1) (x := nI (tmk (fun q => tal F pl (upd (upd bo2 (tvv vr_ dp) (nI X)) (tvv vr_ (dp + 1)) (-1)) (tvv vr_ (dp + 1)) q N) 8)) (by omega) (by decide) dX0_join_217 (fun H locs hP hD hS => ?_)
                have hP : va_P D vwCl (wJ h a d he ob pr su go si (nI N) pl (nI (tcn (tst pl N) 4)) vr_ (upd (upd bo2 (tvv vr_ dp) (nI X)) (tvv vr_ (dp + 1)) (-1)) (upd (tcd ca_ dp X) (dp + 1) (nI (tmk (fun q => tal F pl (upd (upd bo2 (tvv vr_ dp) (nI X)) (tvv vr_ (dp + 1)) (-1)) (tvv vr_ (dp + 1)) q N) 8))) vc2 sc2) H := hP
                have hD : va_D (oJ h a) (wJ h a d he ob pr su go si (nI N) pl (nI (tcn (tst pl N) 4)) vr_ (upd (upd bo2 (tvv vr_ dp) (nI X)) (tvv vr_ (dp + 1)) (-1)) (upd (tcd ca_ dp X) (dp + 1) (nI (tmk (fun q => tal F pl (upd (upd bo2 (tvv vr_ dp) (nI X)) (tvv vr_ (dp + 1)) (-1)) (tvv vr_ (dp + 1)) q N) 8))) vc2 sc2) := hD
                refine lv_iinc (v := nI (j + 1)) (lv' := [(4, .int (nI (j + 1))), (2, .int (nI (dp + 1))), (5, .int (nI X)), (3, .int (nI (tb true))), (0, .ref h), (1, .int stop)]) hx hb dX0_join_218 hl (k := 2) rfl (nI_1 _) (by decide) rfl (fun ls hl => ?_)
                refine lv_goto (tgt := 41) hx hb dX0_join_221 (by decide) ?_
                exact ih _ _ _ ⟨true, dp + 1, _, _, _, _, _, lv_sub hl [0, 3, 1, 4, 5] rfl, hP, hS, (by show tjit F pl N (tcn (tst pl N) 4) vr_ stop (tit F pl N (tcn (tst pl N) 4) vr_ stop (tj0 F pl N vr_ ca bo_ vc_) j) = _; rw [hit]; exact tjit_down (by omega) hne hlo c_187), (fun _ => rfl), (fun _ => twf_down hvo hwf c_187 hx8)⟩
            · have h0 : ca_ dp = nI 0 := by rw [hfm, c_109]
              refine lv_aload_n hx hb dX0_join_112 rfl (lv_at hl 3 rfl) ?_
              refine va_get (D := D) (ci := 0) (v := .ref (a 10)) (C := RX0) (T := TX0) (N := 14) hx hb hts in_X0 hown hK hP 0 rfl rfl 10 (by decide) (hts _ q38) (fun _ h9 => h9) rfl dX0_join_113 ?_
              refine lv_aload_n hx hb dX0_join_116 rfl (lv_at hl 3 rfl) ?_
              refine va_get (D := D) (ci := 0) (v := .ref (a 9)) (C := RX0) (T := TX0) (N := 14) hx hb hts in_X0 hown hK hP 0 rfl rfl 9 (by decide) (hts _ q37) (fun _ h9 => h9) rfl dX0_join_117 ?_
              refine lv_iload_n hx hb dX0_join_120 rfl (lv_at hl 2 rfl) ?_
              refine tn_iald hx hb hK hP 7 0 rfl rfl (j := dp) (by omega) (by decide) dX0_join_121 ?_
              refine tn_as (nI (tvv vr_ dp)) ev ?_
              refine lv_iconst (v := (-1)) hx hb dX0_join_122 (by decide) ?_
              refine tn_iast hx hb hK hP hD hS 8 0 rfl rfl (j := tvv vr_ dp) (x := (-1)) (by omega) (by decide) dX0_join_123 (fun H locs hP hD hS => ?_)
              have hP : va_P D vwCl (wJ h a d he ob pr su go si (nI N) pl (nI (tcn (tst pl N) 4)) vr_ (upd bo2 (tvv vr_ dp) (-1)) ca_ vc2 sc2) H := hP
              have hD : va_D (oJ h a) (wJ h a d he ob pr su go si (nI N) pl (nI (tcn (tst pl N) 4)) vr_ (upd bo2 (tvv vr_ dp) (-1)) ca_ vc2 sc2) := hD
              refine lv_iinc (v := (nI dp + (-1))) (lv' := [(2, .int (nI dp + (-1))), (4, .int (nI j)), (3, .int (nI (tb true))), (0, .ref h), (1, .int stop)]) hx hb dX0_join_124 hl (k := 2) rfl rfl (by decide) rfl (fun ls hl => ?_)
              have hnx : tit F pl N (tcn (tst pl N) 4) vr_ stop (tj0 F pl N vr_ ca bo_ vc_) (j + 1) = (decide (1 ≤ dp), dp - 1, ca_, upd bo2 (tvv vr_ dp) (-1), vc2, sc2) := by show tjit F pl N (tcn (tst pl N) 4) vr_ stop (tit F pl N (tcn (tst pl N) 4) vr_ stop (tj0 F pl N vr_ ca bo_ vc_) j) = _; rw [hit]; exact tjit_back (by omega) h0
              refine lv_iload_n hx hb dX0_join_127 rfl (lv_at hl 0 rfl) ?_
              refine lv_if_lt (tgt := 135) hx hb dX0_join_128 (by decide) (fun c_128 => ?_) (fun c_128 => ?_)
              · have hd0 : dp = 0 := Nat.eq_zero_of_not_pos (fun z => t_prd z (by omega) c_128)
                refine lv_iconst (v := nI 0) hx hb dX0_join_135 (by decide) ?_
                refine tn_as (nI (tb (decide (1 ≤ dp)))) (by rw [decide_eq_false (by omega)]; rfl) ?_
                refine lv_istore_n (lv' := [(3, .int (nI (tb (decide (1 ≤ dp))))), (2, .int (nI dp + (-1))), (4, .int (nI j)), (0, .ref h), (1, .int stop)]) hx hb dX0_join_136 rfl hl (by decide) rfl (fun ls hl => ?_)
                refine lv_goto (tgt := 218) hx hb dX0_join_137 (by decide) ?_
                refine lv_iinc (v := nI (j + 1)) (lv' := [(4, .int (nI (j + 1))), (3, .int (nI (tb (decide (1 ≤ dp))))), (2, .int (nI dp + (-1))), (0, .ref h), (1, .int stop)]) hx hb dX0_join_218 hl (k := 2) rfl (nI_1 _) (by decide) rfl (fun ls hl => ?_)
                refine lv_goto (tgt := 41) hx hb dX0_join_221 (by decide) ?_
                exact ih _ _ _ ⟨_, _, _, _, _, _, _, lv_sub hl [0, 1, 2, 3, 4] rfl, hP, hS, hnx, (fun z => absurd (of_decide_eq_true z) (by omega)), (fun z => absurd (of_decide_eq_true z) (by omega))⟩
              · have hd1 : 1 ≤ dp := Nat.pos_of_ne_zero (fun z => c_128 (by rw [z]; decide))
                refine lv_iconst (v := nI 1) hx hb dX0_join_131 (by decide) ?_
                refine lv_goto (tgt := 136) hx hb dX0_join_132 (by decide) ?_
                refine tn_as (nI (tb (decide (1 ≤ dp)))) (by rw [decide_eq_true hd1]; rfl) ?_
                refine lv_istore_n (lv' := [(3, .int (nI (tb (decide (1 ≤ dp))))), (2, .int (nI dp + (-1))), (4, .int (nI j)), (0, .ref h), (1, .int stop)]) hx hb dX0_join_136 rfl hl (by decide) rfl (fun ls hl => ?_)
                refine lv_goto (tgt := 218) hx hb dX0_join_137 (by decide) ?_
                refine lv_iinc (v := nI (j + 1)) (lv' := [(4, .int (nI (j + 1))), (3, .int (nI (tb (decide (1 ≤ dp))))), (2, .int (nI dp + (-1))), (0, .ref h), (1, .int stop)]) hx hb dX0_join_218 hl (k := 2) rfl (nI_1 _) (by decide) rfl (fun ls hl => ?_)
                refine lv_goto (tgt := 41) hx hb dX0_join_221 (by decide) ?_
                exact ih _ _ _ ⟨_, _, _, _, _, _, _, lv_sub hl [0, 1, 2, 3, 4] rfl, hP, hS, hnx, (fun _ => t_prdn hd1), (fun _ => twf_back hvo hwf hdl)⟩
          · have hvk : ∀ k, k < tcn (tst pl N) 4 → ∃ v x : Nat, v < 4 ∧ x < 8 ∧ vr_ k = nI v ∧ bo2 v = nI x := fun k hk => by
              obtain ⟨x9, h91, h92⟩ := hwf.2.2.2 k (by omega)
              exact ⟨tvv vr_ k, x9, (hvo.2.1 k hk).2, h91, (hvo.2.1 k hk).1, h92⟩
            refine lv_aload_n hx hb dX0_join_61 rfl (lv_at hl 3 rfl) ?_
            refine va_callv (va_runV (As := []) (rest := []) ⟨hx, hb, hml, hown, hts⟩ (m_countSolution (tcn (tst pl N) 4) hvo.1 hvk) (cwV 0 hts (lw_V q146 q148 qs11 q18 q149) rfl rfl rfl (by decide +kernel) ⟨Nat.le_of_ble_eq_true rfl, Nat.le_of_ble_eq_true rfl⟩) (pJ_preJ hK hP hD rfl) rfl rfl hl.1 rfl (lv_room (Nat.le_of_ble_eq_true rfl)) dX0_join_62 ⟨Nat.le_refl _, Nat.le_refl _⟩) hS (fun q _ h9 => h9) (fun q h9 => h9) (fun _ t_ H locs ht_ hvm_ _ hB _ _ hS => ?_)
            rw [ht_] at hB
            have hP : va_P D vwCl (wJ h a d he ob pr su go si (nI N) pl (nI (tcn (tst pl N) 4)) vr_ bo2 ca_ (tcs vr_ bo2 vc2 (tcn (tst pl N) 4)) (sc2 + nI 1)) H := hB
            have hD : va_D (oJ h a) (wJ h a d he ob pr su go si (nI N) pl (nI (tcn (tst pl N) 4)) vr_ bo2 ca_ (tcs vr_ bo2 vc2 (tcn (tst pl N) 4)) (sc2 + nI 1)) := va_D_re hD rfl
            have hnx : tit F pl N (tcn (tst pl N) 4) vr_ stop (tj0 F pl N vr_ ca bo_ vc_) (j + 1) = (decide ((sc2 + nI 1 ≤ stop ∨ stop < 0) ∧ 1 ≤ dp), dp - 1, ca_, bo2, tcs vr_ bo2 vc2 (tcn (tst pl N) 4), sc2 + nI 1) := by show tjit F pl N (tcn (tst pl N) 4) vr_ stop (tit F pl N (tcn (tst pl N) 4) vr_ stop (tj0 F pl N vr_ ca bo_ vc_) j) = _; rw [hit]; exact tjit_leaf c_58
            refine lv_aload_n hx hb dX0_join_65 rfl (lv_at hl 3 rfl) ?_
            refine va_get (D := D) (ci := 0) (v := .int (sc2 + nI 1)) (C := RX0) (T := TX0) (N := 14) hx hb hts in_X0 hown hK hP 0 rfl rfl 13 (by decide) (hts _ q41) (fun _ h9 => h9) rfl dX0_join_66 ?_
            refine lv_iload_n hx hb dX0_join_69 rfl (lv_at hl 4 rfl) ?_
            refine lv_icmp_le (tgt := 77) hx hb dX0_join_70 (by decide) (fun c_70 => ?_) (fun c_70 => ?_)
            · refine lv_iconst (v := nI 1) hx hb dX0_join_77 (by decide) ?_
              refine lv_goto (tgt := 82) hx hb dX0_join_78 (by decide) ?_
              refine lv_istore_n (lv' := [(3, .int (nI 1)), (4, .int (nI j)), (2, .int (nI dp)), (0, .ref h), (1, .int stop)]) hx hb dX0_join_82 rfl hl (by decide) rfl (fun ls hl => ?_)
              refine lv_iinc (v := (nI dp + (-1))) (lv' := [(2, .int (nI dp + (-1))), (3, .int (nI 1)), (4, .int (nI j)), (0, .ref h), (1, .int stop)]) hx hb dX0_join_83 hl (k := 2) rfl rfl (by decide) rfl (fun ls hl => ?_)
              refine lv_iload_n hx hb dX0_join_86 rfl (lv_at hl 1 rfl) ?_
              refine tn_if_eq (tgt := 98) hx hb dX0_join_87 (by decide) (by decide) (fun z => absurd z (by decide)) (fun _ => ?_)
              refine lv_iload_n hx hb dX0_join_90 rfl (lv_at hl 0 rfl) ?_
              have hcs : (sc2 + nI 1 ≤ stop ∨ stop < 0) := Or.inl c_70
              refine lv_if_lt (tgt := 98) hx hb dX0_join_91 (by decide) (fun c_91 => ?_) (fun c_91 => ?_)
              · have hd0 : dp = 0 := Nat.eq_zero_of_not_pos (fun z => t_prd z (by omega) c_91)
                refine lv_iconst (v := nI 0) hx hb dX0_join_98 (by decide) ?_
                refine tn_as (nI (tb (decide ((sc2 + nI 1 ≤ stop ∨ stop < 0) ∧ 1 ≤ dp)))) (by rw [decide_eq_false (by omega)]; rfl) ?_
                refine lv_istore_n (lv' := [(3, .int (nI (tb (decide ((sc2 + nI 1 ≤ stop ∨ stop < 0) ∧ 1 ≤ dp))))), (2, .int (nI dp + (-1))), (4, .int (nI j)), (0, .ref h), (1, .int stop)]) hx hb dX0_join_99 rfl hl (by decide) rfl (fun ls hl => ?_)
                refine lv_goto (tgt := 218) hx hb dX0_join_100 (by decide) ?_
                refine lv_iinc (v := nI (j + 1)) (lv' := [(4, .int (nI (j + 1))), (3, .int (nI (tb (decide ((sc2 + nI 1 ≤ stop ∨ stop < 0) ∧ 1 ≤ dp))))), (2, .int (nI dp + (-1))), (0, .ref h), (1, .int stop)]) hx hb dX0_join_218 hl (k := 2) rfl (nI_1 _) (by decide) rfl (fun ls hl => ?_)
                refine lv_goto (tgt := 41) hx hb dX0_join_221 (by decide) ?_
                exact ih _ _ _ ⟨_, _, _, _, _, _, _, lv_sub hl [0, 1, 2, 3, 4] rfl, hP, hS, hnx, (fun z => absurd (of_decide_eq_true z) (by omega)), (fun z => absurd (of_decide_eq_true z) (by omega))⟩
              · have hd1 : 1 ≤ dp := Nat.pos_of_ne_zero (fun z => c_91 (by rw [z]; decide))
                refine lv_iconst (v := nI 1) hx hb dX0_join_94 (by decide) ?_
                refine lv_goto (tgt := 99) hx hb dX0_join_95 (by decide) ?_
                refine tn_as (nI (tb (decide ((sc2 + nI 1 ≤ stop ∨ stop < 0) ∧ 1 ≤ dp)))) (by rw [decide_eq_true ⟨hcs, hd1⟩]; rfl) ?_
                refine lv_istore_n (lv' := [(3, .int (nI (tb (decide ((sc2 + nI 1 ≤ stop ∨ stop < 0) ∧ 1 ≤ dp))))), (2, .int (nI dp + (-1))), (4, .int (nI j)), (0, .ref h), (1, .int stop)]) hx hb dX0_join_99 rfl hl (by decide) rfl (fun ls hl => ?_)
                refine lv_goto (tgt := 218) hx hb dX0_join_100 (by decide) ?_
                refine lv_iinc (v := nI (j + 1)) (lv' := [(4, .int (nI (j + 1))), (3, .int (nI (tb (decide ((sc2 + nI 1 ≤ stop ∨ stop < 0) ∧ 1 ≤ dp))))), (2, .int (nI dp + (-1))), (0, .ref h), (1, .int stop)]) hx hb dX0_join_218 hl (k := 2) rfl (nI_1 _) (by decide) rfl (fun ls hl => ?_)
                refine lv_goto (tgt := 41) hx hb dX0_join_221 (by decide) ?_
                exact ih _ _ _ ⟨_, _, _, _, _, _, _, lv_sub hl [0, 1, 2, 3, 4] rfl, hP, hS, hnx, (fun _ => t_prdn hd1), (fun _ => twf_leaf hwf)⟩
            · refine lv_iload_n hx hb dX0_join_73 rfl (lv_at hl 4 rfl) ?_
              refine lv_if_ge (tgt := 81) hx hb dX0_join_74 (by decide) (fun c_74 => ?_) (fun c_74 => ?_)
              · have hcs : ¬ (sc2 + nI 1 ≤ stop ∨ stop < 0) := fun z => z.elim c_70 (fun q => absurd q (Int32.not_lt.mpr c_74))
                refine lv_iconst (v := nI 0) hx hb dX0_join_81 (by decide) ?_
                refine lv_istore_n (lv' := [(3, .int (nI 0)), (4, .int (nI j)), (2, .int (nI dp)), (0, .ref h), (1, .int stop)]) hx hb dX0_join_82 rfl hl (by decide) rfl (fun ls hl => ?_)
                refine lv_iinc (v := (nI dp + (-1))) (lv' := [(2, .int (nI dp + (-1))), (3, .int (nI 0)), (4, .int (nI j)), (0, .ref h), (1, .int stop)]) hx hb dX0_join_83 hl (k := 2) rfl rfl (by decide) rfl (fun ls hl => ?_)
                refine lv_iload_n hx hb dX0_join_86 rfl (lv_at hl 1 rfl) ?_
                refine tn_if_eq (tgt := 98) hx hb dX0_join_87 (by decide) (by decide) (fun _ => ?_) (fun z => absurd z (by decide))
                refine lv_iconst (v := nI 0) hx hb dX0_join_98 (by decide) ?_
                refine tn_as (nI (tb (decide ((sc2 + nI 1 ≤ stop ∨ stop < 0) ∧ 1 ≤ dp)))) (by rw [decide_eq_false (fun z => hcs z.1)]; rfl) ?_
                refine lv_istore_n (lv' := [(3, .int (nI (tb (decide ((sc2 + nI 1 ≤ stop ∨ stop < 0) ∧ 1 ≤ dp))))), (2, .int (nI dp + (-1))), (4, .int (nI j)), (0, .ref h), (1, .int stop)]) hx hb dX0_join_99 rfl hl (by decide) rfl (fun ls hl => ?_)
                refine lv_goto (tgt := 218) hx hb dX0_join_100 (by decide) ?_
                refine lv_iinc (v := nI (j + 1)) (lv' := [(4, .int (nI (j + 1))), (3, .int (nI (tb (decide ((sc2 + nI 1 ≤ stop ∨ stop < 0) ∧ 1 ≤ dp))))), (2, .int (nI dp + (-1))), (0, .ref h), (1, .int stop)]) hx hb dX0_join_218 hl (k := 2) rfl (nI_1 _) (by decide) rfl (fun ls hl => ?_)
                refine lv_goto (tgt := 41) hx hb dX0_join_221 (by decide) ?_
                exact ih _ _ _ ⟨_, _, _, _, _, _, _, lv_sub hl [0, 1, 2, 3, 4] rfl, hP, hS, hnx, (fun z => absurd (of_decide_eq_true z).1 hcs), (fun z => absurd (of_decide_eq_true z).1 hcs)⟩
              · refine lv_iconst (v := nI 1) hx hb dX0_join_77 (by decide) ?_
                refine lv_goto (tgt := 82) hx hb dX0_join_78 (by decide) ?_
                refine lv_istore_n (lv' := [(3, .int (nI 1)), (4, .int (nI j)), (2, .int (nI dp)), (0, .ref h), (1, .int stop)]) hx hb dX0_join_82 rfl hl (by decide) rfl (fun ls hl => ?_)
                refine lv_iinc (v := (nI dp + (-1))) (lv' := [(2, .int (nI dp + (-1))), (3, .int (nI 1)), (4, .int (nI j)), (0, .ref h), (1, .int stop)]) hx hb dX0_join_83 hl (k := 2) rfl rfl (by decide) rfl (fun ls hl => ?_)
                refine lv_iload_n hx hb dX0_join_86 rfl (lv_at hl 1 rfl) ?_
                refine tn_if_eq (tgt := 98) hx hb dX0_join_87 (by decide) (by decide) (fun z => absurd z (by decide)) (fun _ => ?_)
                refine lv_iload_n hx hb dX0_join_90 rfl (lv_at hl 0 rfl) ?_
                have hcs : (sc2 + nI 1 ≤ stop ∨ stop < 0) := Or.inr (Int32.not_le.mp c_74)
                refine lv_if_lt (tgt := 98) hx hb dX0_join_91 (by decide) (fun c_91 => ?_) (fun c_91 => ?_)
                · have hd0 : dp = 0 := Nat.eq_zero_of_not_pos (fun z => t_prd z (by omega) c_91)
                  refine lv_iconst (v := nI 0) hx hb dX0_join_98 (by decide) ?_
                  refine tn_as (nI (tb (decide ((sc2 + nI 1 ≤ stop ∨ stop < 0) ∧ 1 ≤ dp)))) (by rw [decide_eq_false (by omega)]; rfl) ?_
                  refine lv_istore_n (lv' := [(3, .int (nI (tb (decide ((sc2 + nI 1 ≤ stop ∨ stop < 0) ∧ 1 ≤ dp))))), (2, .int (nI dp + (-1))), (4, .int (nI j)), (0, .ref h), (1, .int stop)]) hx hb dX0_join_99 rfl hl (by decide) rfl (fun ls hl => ?_)
                  refine lv_goto (tgt := 218) hx hb dX0_join_100 (by decide) ?_
                  refine lv_iinc (v := nI (j + 1)) (lv' := [(4, .int (nI (j + 1))), (3, .int (nI (tb (decide ((sc2 + nI 1 ≤ stop ∨ stop < 0) ∧ 1 ≤ dp))))), (2, .int (nI dp + (-1))), (0, .ref h), (1, .int stop)]) hx hb dX0_join_218 hl (k := 2) rfl (nI_1 _) (by decide) rfl (fun ls hl => ?_)
                  refine lv_goto (tgt := 41) hx hb dX0_join_221 (by decide) ?_
                  exact ih _ _ _ ⟨_, _, _, _, _, _, _, lv_sub hl [0, 1, 2, 3, 4] rfl, hP, hS, hnx, (fun z => absurd (of_decide_eq_true z) (by omega)), (fun z => absurd (of_decide_eq_true z) (by omega))⟩
                · have hd1 : 1 ≤ dp := Nat.pos_of_ne_zero (fun z => c_91 (by rw [z]; decide))
                  refine lv_iconst (v := nI 1) hx hb dX0_join_94 (by decide) ?_
                  refine lv_goto (tgt := 99) hx hb dX0_join_95 (by decide) ?_
                  refine tn_as (nI (tb (decide ((sc2 + nI 1 ≤ stop ∨ stop < 0) ∧ 1 ≤ dp)))) (by rw [decide_eq_true ⟨hcs, hd1⟩]; rfl) ?_
                  refine lv_istore_n (lv' := [(3, .int (nI (tb (decide ((sc2 + nI 1 ≤ stop ∨ stop < 0) ∧ 1 ≤ dp))))), (2, .int (nI dp + (-1))), (4, .int (nI j)), (0, .ref h), (1, .int stop)]) hx hb dX0_join_99 rfl hl (by decide) rfl (fun ls hl => ?_)
                  refine lv_goto (tgt := 218) hx hb dX0_join_100 (by decide) ?_
                  refine lv_iinc (v := nI (j + 1)) (lv' := [(4, .int (nI (j + 1))), (3, .int (nI (tb (decide ((sc2 + nI 1 ≤ stop ∨ stop < 0) ∧ 1 ≤ dp))))), (2, .int (nI dp + (-1))), (0, .ref h), (1, .int stop)]) hx hb dX0_join_218 hl (k := 2) rfl (nI_1 _) (by decide) rfl (fun ls hl => ?_)
                  refine lv_goto (tgt := 41) hx hb dX0_join_221 (by decide) ?_
                  exact ih _ _ _ ⟨_, _, _, _, _, _, _, lv_sub hl [0, 1, 2, 3, 4] rfl, hP, hS, hnx, (fun _ => t_prdn hd1), (fun _ => twf_leaf hwf)⟩
      · obtain ⟨op, dp, dI, ca_, bo2, vc2, sc2, hl, hP, hS, hit, hdI, hwf⟩ := hJ
        have hD : va_D (oJ h a) (wJ h a d he ob pr su go si (nI N) pl (nI (tcn (tst pl N) 4)) vr_ bo2 ca_ vc2 sc2) := va_D_re hD_41 rfl
        refine lv_iload hx hb dX0_join_41 (lv_at hl 0 rfl) ?_
        refine lv_sipush (v := nI 10000) hx hb dX0_join_43 (by decide) ?_
        refine tn_icmp_ge (tgt := 224) hx hb dX0_join_46 (by decide) (by decide) (by decide) (fun _ => ?_) (fun z => absurd z (by decide))
        exact W.vret hx hb hr (fun t ht hW => ⟨⟨(vr_, bo2, ca_, vc2, sc2), rfl, ⟨ca, bo_, vc_, op, dp, hpp, hit⟩, by show va_P D vwCl _ t.heap; rw [ht]; exact hP⟩, hS.F ht⟩) hS.2.2 dX0_join_224
    · obtain ⟨ev, hv4⟩ := hvo.2.1 0 c_19
      refine lv_aload_n hx hb dX0_join_22 rfl (lv_at hl 2 rfl) ?_
      refine va_get (D := D) (ci := 0) (v := .ref (a 11)) (C := RX0) (T := TX0) (N := 14) hx hb hts in_X0 hown hK hP 0 rfl rfl 11 (by decide) (hts _ q39) (fun _ h9 => h9) rfl dX0_join_23 ?_
      refine lv_iconst (v := nI 0) hx hb dX0_join_26 (by decide) ?_
      refine lv_aload_n hx hb dX0_join_27 rfl (lv_at hl 2 rfl) ?_
      refine lv_aload_n hx hb dX0_join_28 rfl (lv_at hl 2 rfl) ?_
      refine va_get (D := D) (ci := 0) (v := .ref (a 9)) (C := RX0) (T := TX0) (N := 14) hx hb hts in_X0 hown hK hP 0 rfl rfl 9 (by decide) (hts _ q37) (fun _ h9 => h9) rfl dX0_join_29 ?_
      refine lv_iconst (v := nI 0) hx hb dX0_join_32 (by decide) ?_
      refine tn_iald hx hb hK hP 7 0 rfl rfl (j := 0) (by decide) (by decide) dX0_join_33 ?_
      refine tn_as (nI (tvv vr_ 0)) ev ?_
      refine vp_callSi (W.runV (As := [.int (nI (tvv vr_ 0))]) (rest := [.int (nI 0), .ref (a 11)]) ⟨hx, hb, hml, hown, hts⟩ (m_allowed hI hN hpl hbk (tvv vr_ 0) hv4) (cwV 1 hts (lw_V q115 q117 qs5 q18 q118) rfl rfl rfl (by decide +kernel) ⟨Nat.le_of_ble_eq_true rfl, Nat.le_of_ble_eq_true rfl⟩) (pJ_preJ hK hP hD rfl) rfl rfl hl.1 rfl (lv_room (Nat.le_of_ble_eq_true rfl)) dX0_join_34 ⟨Nat.le_refl _, Nat.le_refl _⟩) (fun r_34 hr_34 => ?_)
      subst hr_34
      refine tn_iast hx hb hK hP hD hS 9 0 rfl rfl (j := 0) (x := nI (tmk (fun q => tal F pl bo_ (tvv vr_ 0) q N) 8)) (by decide) (by decide) dX0_join_37 (fun H locs hP hD hS => ?_)
      have hP : va_P D vwCl (wJ h a d he ob pr su go si (nI N) pl (nI (tcn (tst pl N) 4)) vr_ bo_ (upd ca 0 (nI (tmk (fun q => tal F pl bo_ (tvv vr_ 0) q N) 8))) vc_ (nI 0)) H := hP
      have hD : va_D (oJ h a) (wJ h a d he ob pr su go si (nI N) pl (nI (tcn (tst pl N) 4)) vr_ bo_ (upd ca 0 (nI (tmk (fun q => tal F pl bo_ (tvv vr_ 0) q N) 8))) vc_ (nI 0)) := hD
      refine lv_iconst (v := nI 0) hx hb dX0_join_38 (by decide) ?_
      refine lv_istore (lv' := [(4, .int (nI 0)), (3, .int (nI (tb (tgh F pl N)))), (2, .int (nI 0)), (0, .ref h), (1, .int stop)]) hx hb dX0_join_39 hl (by decide) rfl (fun ls hl => ?_)
      have hD_41 := hD
      refine tn_forH (fun j H locs ls => ∃ (op : Bool) (dp : Nat) (dI : Int32) (ca_ : Nat → Int32) (bo2 : Nat → Int32) (vc2 : Nat → Int32) (sc2 : Int32), lv_has ls 6 [(4, .int (nI j)), (3, .int (nI (tb op))), (2, .int dI), (0, .ref h), (1, .int stop)] ∧ va_P D vwCl (wJ h a d he ob pr su go si (nI N) pl (nI (tcn (tst pl N) 4)) vr_ bo2 ca_ vc2 sc2) H ∧ va_S (oJ h a) s.heap H locs ∧ (tit F pl N (tcn (tst pl N) 4) vr_ stop (tj0 F pl N vr_ ca bo_ vc_) j = (op, dp, ca_, bo2, vc2, sc2)) ∧ (op = true → dI = nI dp) ∧ (op = true → twf (tcn (tst pl N) 4) vr_ dp ca_ bo2)) 10000 0 (by decide) ⟨tgh F pl N, 0, _, _, _, _, _, lv_sub hl [0, 1, 2, 3, 4] rfl, hP, hS, (by show tj0 F pl N vr_ ca bo_ vc_ = _; unfold tj0; rw [if_pos ⟨tb_1 c_12, c_19⟩]; rfl), (fun _ => rfl), (fun _ => ⟨Nat.zero_le _, fun j h1 h2 => ⟨fun q => tal F pl bo_ (tvv vr_ 0) q N, by rw [show j = 0 by omega, pk_us]⟩, hbk, fun j hj => absurd hj (Nat.not_lt_zero j)⟩)⟩ (fun j H locs ls hj hJ ih => ?_) (fun H locs ls hJ => ?_)
      · obtain ⟨op, dp, dI, ca_, bo2, vc2, sc2, hl, hP, hS, hit, hdI, hwf⟩ := hJ
        have hD : va_D (oJ h a) (wJ h a d he ob pr su go si (nI N) pl (nI (tcn (tst pl N) 4)) vr_ bo2 ca_ vc2 sc2) := va_D_re hD_41 rfl
        refine lv_iload hx hb dX0_join_41 (lv_at hl 0 rfl) ?_
        refine lv_sipush (v := nI 10000) hx hb dX0_join_43 (by decide) ?_
        refine tn_icmp_ge (tgt := 224) hx hb dX0_join_46 (by decide) (by omega) (by decide) (fun z => absurd z (by omega)) (fun _ => ?_)
        refine lv_iload_n hx hb dX0_join_49 rfl (lv_at hl 1 rfl) ?_
        refine tn_if_eq (tgt := 224) hx hb dX0_join_50 (by decide) (tb_lt _) (fun c_50 => ?_) (fun c_50 => ?_)
        · have ho := tb_0 c_50
          have hit2 : tit F pl N (tcn (tst pl N) 4) vr_ stop (tj0 F pl N vr_ ca bo_ vc_) 10000 = (op, dp, ca_, bo2, vc2, sc2) := by
            have h1 := tit_shut (F := F) (pl := pl) (N := N) (K := tcn (tst pl N) 4) (vr := vr_) (stop := stop) (σ := tj0 F pl N vr_ ca bo_ vc_) (i := j) (by rw [hit]; exact ho) (10000 - j)
            rw [show j + (10000 - j) = 10000 by omega] at h1
            rw [h1, hit]
          exact W.vret hx hb hr (fun t ht hW => ⟨⟨(vr_, bo2, ca_, vc2, sc2), rfl, ⟨ca, bo_, vc_, op, dp, hpp, hit2⟩, by show va_P D vwCl _ t.heap; rw [ht]; exact hP⟩, hS.F ht⟩) hS.2.2 dX0_join_224
        · have ho := tb_1 c_50
          subst ho
          have hdI := hdI rfl
          subst hdI
          have hwf := hwf rfl
          have hdK := hwf.1
          have hK4 := hvo.1
          refine lv_iload_n hx hb dX0_join_53 rfl (lv_at hl 2 rfl) ?_
          refine lv_aload_n hx hb dX0_join_54 rfl (lv_at hl 3 rfl) ?_
          refine va_get (D := D) (ci := 0) (v := .int (nI (tcn (tst pl N) 4))) (C := RX0) (T := TX0) (N := 14) hx hb hts in_X0 hown hK hP 0 rfl rfl 8 (by decide) (hts _ q36) (fun _ h9 => h9) rfl dX0_join_55 ?_
          refine tn_icmp_ne (tgt := 103) hx hb dX0_join_58 (by decide) (by omega) (by omega) (fun c_58 => ?_) (fun c_58 => ?_)
          · have hdl : dp < tcn (tst pl N) 4 := by omega
            obtain ⟨fm, hfm⟩ := hwf.2.1 dp (Nat.le_refl _) hdl
            have hfm8 := tmk_8 fm
            obtain ⟨ev, hv4⟩ := hvo.2.1 dp hdl
            refine lv_aload_n hx hb dX0_join_103 rfl (lv_at hl 3 rfl) ?_
            refine va_get (D := D) (ci := 0) (v := .ref (a 11)) (C := RX0) (T := TX0) (N := 14) hx hb hts in_X0 hown hK hP 0 rfl rfl 11 (by decide) (hts _ q39) (fun _ h9 => h9) rfl dX0_join_104 ?_
            refine lv_iload_n hx hb dX0_join_107 rfl (lv_at hl 2 rfl) ?_
            refine tn_iald hx hb hK hP 9 0 rfl rfl (j := dp) (by omega) (by decide) dX0_join_108 ?_
            refine tn_as (nI (tmk fm 8)) hfm ?_
            refine tn_if_ne (tgt := 140) hx hb dX0_join_109 (by decide) (by omega) (fun c_109 => ?_) (fun c_109 => ?_)
            · have hne : ca_ dp ≠ nI 0 := fun z => c_109 (by rw [hfm] at z; exact (nI_eq (Nat.lt_trans (tmk_8 fm) (by decide)) (by decide)).mp z)
              have hx0 : ∃ q, q < 8 ∧ (tmk fm 8).testBit q = true := tmk_ne (fun z => hne (hfm.trans z))
              have hx8 := tlo_lt (tmk fm 8)
              have hlo : tlo (ca_ dp).toNatClampNeg = tlo (tmk fm 8) := by rw [hfm, nI_clamp (Nat.lt_trans (tmk_8 fm) (by decide))]
              refine lv_aload_n hx hb dX0_join_140 rfl (lv_at hl 3 rfl) ?_
              refine va_get (D := D) (ci := 0) (v := .ref (a 11)) (C := RX0) (T := TX0) (N := 14) hx hb hts in_X0 hown hK hP 0 rfl rfl 11 (by decide) (hts _ q39) (fun _ h9 => h9) rfl dX0_join_141 ?_
              refine lv_iload_n hx hb dX0_join_144 rfl (lv_at hl 2 rfl) ?_
              refine tn_iald hx hb hK hP 9 0 rfl rfl (j := dp) (by omega) (by decide) dX0_join_145 ?_
              refine tn_as (nI (tmk fm 8)) hfm ?_
              refine vp_callSi (W.runS (As := [.int (nI (tmk fm 8))]) (rest := []) ⟨hx, hb, hml, hown, hts⟩ (m_lowest l (tmk fm 8) (tmk_8 fm) hx0) (va_cwS 1 hts (lw_S q150 q151 q18 q152) rfl rfl rfl (by decide +kernel) ⟨Nat.le_of_ble_eq_true rfl, Nat.le_of_ble_eq_true rfl⟩) pS_pre rfl rfl hl.1 rfl (lv_room (Nat.le_of_ble_eq_true rfl)) dX0_join_146 ⟨Nat.le_refl _, Nat.le_refl _⟩) (fun r_146 hr_146 => ?_)
              subst hr_146
              generalize hX : tlo (tmk fm 8) = X at hx8 hlo ⊢
              refine lv_istore (lv' := [(5, .int (nI X)), (4, .int (nI j)), (3, .int (nI (tb true))), (2, .int (nI dp)), (0, .ref h), (1, .int stop)]) hx hb dX0_join_149 hl (by decide) rfl (fun ls hl => ?_)
              refine lv_aload_n hx hb dX0_join_151 rfl (lv_at hl 4 rfl) ?_
              refine va_get (D := D) (ci := 0) (v := .ref (a 11)) (C := RX0) (T := TX0) (N := 14) hx hb hts in_X0 hown hK hP 0 rfl rfl 11 (by decide) (hts _ q39) (fun _ h9 => h9) rfl dX0_join_152 ?_
              refine lv_iload_n hx hb dX0_join_155 rfl (lv_at hl 3 rfl) ?_
              refine lv_dup2_11 hx hb dX0_join_156 rfl rfl ?_
              refine tn_iald hx hb hK hP 9 0 rfl rfl (j := dp) (by omega) (by decide) dX0_join_157 ?_
              refine lv_iconst (v := nI 1) hx hb dX0_join_158 (by decide) ?_
              refine lv_iload hx hb dX0_join_159 (lv_at hl 0 rfl) ?_
              refine lv_ishl hx hb dX0_join_161 ?_
              refine lv_iconst (v := (-1)) hx hb dX0_join_162 (by decide) ?_
              refine lv_ixor hx hb dX0_join_163 ?_
              refine lv_iand hx hb dX0_join_164 ?_
              refine tn_iast hx hb hK hP hD hS 9 0 rfl rfl (j := dp) (x := ((ca_ dp) &&& (((nI 1) <<< ((nI X) &&& 31)) ^^^ (-1)))) (by omega) (by decide) dX0_join_165 (fun H locs hP hD hS => ?_)
              have hP : va_P D vwCl (wJ h a d he ob pr su go si (nI N) pl (nI (tcn (tst pl N) 4)) vr_ bo2 (upd ca_ dp ((ca_ dp) &&& (((nI 1) <<< ((nI X) &&& 31)) ^^^ (-1)))) vc2 sc2) H := hP
              have hD : va_D (oJ h a) (wJ h a d he ob pr su go si (nI N) pl (nI (tcn (tst pl N) 4)) vr_ bo2 (upd ca_ dp ((ca_ dp) &&& (((nI 1) <<< ((nI X) &&& 31)) ^^^ (-1)))) vc2 sc2) := hD
              have hP : va_P D vwCl (wJ h a d he ob pr su go si (nI N) pl (nI (tcn (tst pl N) 4)) vr_ bo2 (tcd ca_ dp X) vc2 sc2) H := hP
              have hD : va_D (oJ h a) (wJ h a d he ob pr su go si (nI N) pl (nI (tcn (tst pl N) 4)) vr_ bo2 (tcd ca_ dp X) vc2 sc2) := hD
              refine lv_aload_n hx hb dX0_join_166 rfl (lv_at hl 4 rfl) ?_
              refine va_get (D := D) (ci := 0) (v := .ref (a 10)) (C := RX0) (T := TX0) (N := 14) hx hb hts in_X0 hown hK hP 0 rfl rfl 10 (by decide) (hts _ q38) (fun _ h9 => h9) rfl dX0_join_167 ?_
              refine lv_aload_n hx hb dX0_join_170 rfl (lv_at hl 4 rfl) ?_
              refine va_get (D := D) (ci := 0) (v := .ref (a 9)) (C := RX0) (T := TX0) (N := 14) hx hb hts in_X0 hown hK hP 0 rfl rfl 9 (by decide) (hts _ q37) (fun _ h9 => h9) rfl dX0_join_171 ?_
              refine lv_iload_n hx hb dX0_join_174 rfl (lv_at hl 3 rfl) ?_
              refine tn_iald hx hb hK hP 7 0 rfl rfl (j := dp) (by omega) (by decide) dX0_join_175 ?_
              refine tn_as (nI (tvv vr_ dp)) ev ?_
              refine lv_iload hx hb dX0_join_176 (lv_at hl 0 rfl) ?_
              refine tn_iast hx hb hK hP hD hS 8 0 rfl rfl (j := tvv vr_ dp) (x := nI X) (by omega) (by decide) dX0_join_178 (fun H locs hP hD hS => ?_)
              have hP : va_P D vwCl (wJ h a d he ob pr su go si (nI N) pl (nI (tcn (tst pl N) 4)) vr_ (upd bo2 (tvv vr_ dp) (nI X)) (tcd ca_ dp X) vc2 sc2) H := hP
              have hD : va_D (oJ h a) (wJ h a d he ob pr su go si (nI N) pl (nI (tcn (tst pl N) 4)) vr_ (upd bo2 (tvv vr_ dp) (nI X)) (tcd ca_ dp X) vc2 sc2) := hD
              refine lv_iinc (v := nI (dp + 1)) (lv' := [(2, .int (nI (dp + 1))), (5, .int (nI X)), (4, .int (nI j)), (3, .int (nI (tb true))), (0, .ref h), (1, .int stop)]) hx hb dX0_join_179 hl (k := 3) rfl (nI_1 _) (by decide) rfl (fun ls hl => ?_)
              refine lv_iload_n hx hb dX0_join_182 rfl (lv_at hl 0 rfl) ?_
              refine lv_aload_n hx hb dX0_join_183 rfl (lv_at hl 4 rfl) ?_
              refine va_get (D := D) (ci := 0) (v := .int (nI (tcn (tst pl N) 4))) (C := RX0) (T := TX0) (N := 14) hx hb hts in_X0 hown hK hP 0 rfl rfl 8 (by decide) (hts _ q36) (fun _ h9 => h9) rfl dX0_join_184 ?_
              refine tn_icmp_ge (tgt := 218) hx hb dX0_join_187 (by decide) (by omega) (by omega) (fun c_187 => ?_) (fun c_187 => ?_)
              · refine lv_iinc (v := nI (j + 1)) (lv' := [(4, .int (nI (j + 1))), (2, .int (nI (dp + 1))), (5, .int (nI X)), (3, .int (nI (tb true))), (0, .ref h), (1, .int stop)]) hx hb dX0_join_218 hl (k := 2) rfl (nI_1 _) (by decide) rfl (fun ls hl => ?_)
                refine lv_goto (tgt := 41) hx hb dX0_join_221 (by decide) ?_
                exact ih _ _ _ ⟨true, dp + 1, _, _, _, _, _, lv_sub hl [0, 3, 1, 4, 5] rfl, hP, hS, (by show tjit F pl N (tcn (tst pl N) 4) vr_ stop (tit F pl N (tcn (tst pl N) 4) vr_ stop (tj0 F pl N vr_ ca bo_ vc_) j) = _; rw [hit]; exact tjit_last (by omega) hne hlo (by omega)), (fun _ => rfl), (fun _ => (twf_last hvo hwf hdl hx8).elim id (fun z => absurd z (by omega)))⟩
              · obtain ⟨ev2, hv42⟩ := hvo.2.1 (dp + 1) c_187
                refine lv_aload_n hx hb dX0_join_190 rfl (lv_at hl 4 rfl) ?_
                refine va_get (D := D) (ci := 0) (v := .ref (a 10)) (C := RX0) (T := TX0) (N := 14) hx hb hts in_X0 hown hK hP 0 rfl rfl 10 (by decide) (hts _ q38) (fun _ h9 => h9) rfl dX0_join_191 ?_
                refine lv_aload_n hx hb dX0_join_194 rfl (lv_at hl 4 rfl) ?_
                refine va_get (D := D) (ci := 0) (v := .ref (a 9)) (C := RX0) (T := TX0) (N := 14) hx hb hts in_X0 hown hK hP 0 rfl rfl 9 (by decide) (hts _ q37) (fun _ h9 => h9) rfl dX0_join_195 ?_
                refine lv_iload_n hx hb dX0_join_198 rfl (lv_at hl 0 rfl) ?_
                refine tn_iald hx hb hK hP 7 0 rfl rfl (j := dp + 1) (by omega) (by decide) dX0_join_199 ?_
                refine tn_as (nI (tvv vr_ (dp + 1))) ev2 ?_
                have hbk2 : ∀ v, v < 4 → tkk (upd (upd bo2 (tvv vr_ dp) (nI X)) (tvv vr_ (dp + 1)) (-1) v) := tkk_upd (tkk_upd hwf.2.2.1 (Or.inl ⟨X, hx8, rfl⟩)) (Or.inr rfl)
                refine lv_iconst (v := (-1)) hx hb dX0_join_200 (by decide) ?_
                refine tn_iast hx hb hK hP hD hS 8 0 rfl rfl (j := tvv vr_ (dp + 1)) (x := (-1)) (by omega) (by decide) dX0_join_201 (fun H locs hP hD hS => ?_)
                have hP : va_P D vwCl (wJ h a d he ob pr su go si (nI N) pl (nI (tcn (tst pl N) 4)) vr_ (upd (upd bo2 (tvv vr_ dp) (nI X)) (tvv vr_ (dp + 1)) (-1)) (tcd ca_ dp X) vc2 sc2) H := hP
                have hD : va_D (oJ h a) (wJ h a d he ob pr su go si (nI N) pl (nI (tcn (tst pl N) 4)) vr_ (upd (upd bo2 (tvv vr_ dp) (nI X)) (tvv vr_ (dp + 1)) (-1)) (tcd ca_ dp X) vc2 sc2) := hD
                refine lv_aload_n hx hb dX0_join_202 rfl (lv_at hl 4 rfl) ?_
                refine va_get (D := D) (ci := 0) (v := .ref (a 11)) (C := RX0) (T := TX0) (N := 14) hx hb hts in_X0 hown hK hP 0 rfl rfl 11 (by decide) (hts _ q39) (fun _ h9 => h9) rfl dX0_join_203 ?_
                refine lv_iload_n hx hb dX0_join_206 rfl (lv_at hl 0 rfl) ?_
                refine lv_aload_n hx hb dX0_join_207 rfl (lv_at hl 4 rfl) ?_
                refine lv_aload_n hx hb dX0_join_208 rfl (lv_at hl 4 rfl) ?_
                refine va_get (D := D) (ci := 0) (v := .ref (a 9)) (C := RX0) (T := TX0) (N := 14) hx hb hts in_X0 hown hK hP 0 rfl rfl 9 (by decide) (hts _ q37) (fun _ h9 => h9) rfl dX0_join_209 ?_
                refine lv_iload_n hx hb dX0_join_212 rfl (lv_at hl 0 rfl) ?_
                refine tn_iald hx hb hK hP 7 0 rfl rfl (j := dp + 1) (by omega) (by decide) dX0_join_213 ?_
                refine tn_as (nI (tvv vr_ (dp + 1))) ev2 ?_
                refine vp_callSi (W.runV (As := [.int (nI (tvv vr_ (dp + 1)))]) (rest := [.int (nI (dp + 1)), .ref (a 11)]) ⟨hx, hb, hml, hown, hts⟩ (m_allowed hI hN hpl hbk2 (tvv vr_ (dp + 1)) hv42) (cwV 1 hts (lw_V q115 q117 qs5 q18 q118) rfl rfl rfl (by decide +kernel) ⟨Nat.le_of_ble_eq_true rfl, Nat.le_of_ble_eq_true rfl⟩) (pJ_preJ hK hP hD rfl) rfl rfl hl.1 rfl (lv_room (Nat.le_of_ble_eq_true rfl)) dX0_join_214 ⟨Nat.le_refl _, Nat.le_refl _⟩) (fun r_214 hr_214 => ?_)
                subst hr_214
                refine tn_iast hx hb hK hP hD hS 9 0 rfl rfl (j := dp + 1) (x := nI (tmk (fun q => tal F pl (upd (upd bo2 (tvv vr_ dp) (nI X)) (tvv vr_ (dp + 1)) (-1)) (tvv vr_ (dp + 1)) q N) 8)) (by omega) (by decide) dX0_join_217 (fun H locs hP hD hS => ?_)
                have hP : va_P D vwCl (wJ h a d he ob pr su go si (nI N) pl (nI (tcn (tst pl N) 4)) vr_ (upd (upd bo2 (tvv vr_ dp) (nI X)) (tvv vr_ (dp + 1)) (-1)) (upd (tcd ca_ dp X) (dp + 1) (nI (tmk (fun q => tal F pl (upd (upd bo2 (tvv vr_ dp) (nI X)) (tvv vr_ (dp + 1)) (-1)) (tvv vr_ (dp + 1)) q N) 8))) vc2 sc2) H := hP
                have hD : va_D (oJ h a) (wJ h a d he ob pr su go si (nI N) pl (nI (tcn (tst pl N) 4)) vr_ (upd (upd bo2 (tvv vr_ dp) (nI X)) (tvv vr_ (dp + 1)) (-1)) (upd (tcd ca_ dp X) (dp + 1) (nI (tmk (fun q => tal F pl (upd (upd bo2 (tvv vr_ dp) (nI X)) (tvv vr_ (dp + 1)) (-1)) (tvv vr_ (dp + 1)) q N) 8))) vc2 sc2) := hD
                refine lv_iinc (v := nI (j + 1)) (lv' := [(4, .int (nI (j + 1))), (2, .int (nI (dp + 1))), (5, .int (nI X)), (3, .int (nI (tb true))), (0, .ref h), (1, .int stop)]) hx hb dX0_join_218 hl (k := 2) rfl (nI_1 _) (by decide) rfl (fun ls hl => ?_)
                refine lv_goto (tgt := 41) hx hb dX0_join_221 (by decide) ?_
                exact ih _ _ _ ⟨true, dp + 1, _, _, _, _, _, lv_sub hl [0, 3, 1, 4, 5] rfl, hP, hS, (by show tjit F pl N (tcn (tst pl N) 4) vr_ stop (tit F pl N (tcn (tst pl N) 4) vr_ stop (tj0 F pl N vr_ ca bo_ vc_) j) = _; rw [hit]; exact tjit_down (by omega) hne hlo c_187), (fun _ => rfl), (fun _ => twf_down hvo hwf c_187 hx8)⟩
            · have h0 : ca_ dp = nI 0 := by rw [hfm, c_109]
              refine lv_aload_n hx hb dX0_join_112 rfl (lv_at hl 3 rfl) ?_
              refine va_get (D := D) (ci := 0) (v := .ref (a 10)) (C := RX0) (T := TX0) (N := 14) hx hb hts in_X0 hown hK hP 0 rfl rfl 10 (by decide) (hts _ q38) (fun _ h9 => h9) rfl dX0_join_113 ?_
              refine lv_aload_n hx hb dX0_join_116 rfl (lv_at hl 3 rfl) ?_
              refine va_get (D := D) (ci := 0) (v := .ref (a 9)) (C := RX0) (T := TX0) (N := 14) hx hb hts in_X0 hown hK hP 0 rfl rfl 9 (by decide) (hts _ q37) (fun _ h9 => h9) rfl dX0_join_117 ?_
              refine lv_iload_n hx hb dX0_join_120 rfl (lv_at hl 2 rfl) ?_
              refine tn_iald hx hb hK hP 7 0 rfl rfl (j := dp) (by omega) (by decide) dX0_join_121 ?_
              refine tn_as (nI (tvv vr_ dp)) ev ?_
              refine lv_iconst (v := (-1)) hx hb dX0_join_122 (by decide) ?_
              refine tn_iast hx hb hK hP hD hS 8 0 rfl rfl (j := tvv vr_ dp) (x := (-1)) (by omega) (by decide) dX0_join_123 (fun H locs hP hD hS => ?_)
              have hP : va_P D vwCl (wJ h a d he ob pr su go si (nI N) pl (nI (tcn (tst pl N) 4)) vr_ (upd bo2 (tvv vr_ dp) (-1)) ca_ vc2 sc2) H := hP
              have hD : va_D (oJ h a) (wJ h a d he ob pr su go si (nI N) pl (nI (tcn (tst pl N) 4)) vr_ (upd bo2 (tvv vr_ dp) (-1)) ca_ vc2 sc2) := hD
              refine lv_iinc (v := (nI dp + (-1))) (lv' := [(2, .int (nI dp + (-1))), (4, .int (nI j)), (3, .int (nI (tb true))), (0, .ref h), (1, .int stop)]) hx hb dX0_join_124 hl (k := 2) rfl rfl (by decide) rfl (fun ls hl => ?_)
              have hnx : tit F pl N (tcn (tst pl N) 4) vr_ stop (tj0 F pl N vr_ ca bo_ vc_) (j + 1) = (decide (1 ≤ dp), dp - 1, ca_, upd bo2 (tvv vr_ dp) (-1), vc2, sc2) := by show tjit F pl N (tcn (tst pl N) 4) vr_ stop (tit F pl N (tcn (tst pl N) 4) vr_ stop (tj0 F pl N vr_ ca bo_ vc_) j) = _; rw [hit]; exact tjit_back (by omega) h0
              refine lv_iload_n hx hb dX0_join_127 rfl (lv_at hl 0 rfl) ?_
              refine lv_if_lt (tgt := 135) hx hb dX0_join_128 (by decide) (fun c_128 => ?_) (fun c_128 => ?_)
              · have hd0 : dp = 0 := Nat.eq_zero_of_not_pos (fun z => t_prd z (by omega) c_128)
                refine lv_iconst (v := nI 0) hx hb dX0_join_135 (by decide) ?_
                refine tn_as (nI (tb (decide (1 ≤ dp)))) (by rw [decide_eq_false (by omega)]; rfl) ?_
                refine lv_istore_n (lv' := [(3, .int (nI (tb (decide (1 ≤ dp))))), (2, .int (nI dp + (-1))), (4, .int (nI j)), (0, .ref h), (1, .int stop)]) hx hb dX0_join_136 rfl hl (by decide) rfl (fun ls hl => ?_)
                refine lv_goto (tgt := 218) hx hb dX0_join_137 (by decide) ?_
                refine lv_iinc (v := nI (j + 1)) (lv' := [(4, .int (nI (j + 1))), (3, .int (nI (tb (decide (1 ≤ dp))))), (2, .int (nI dp + (-1))), (0, .ref h), (1, .int stop)]) hx hb dX0_join_218 hl (k := 2) rfl (nI_1 _) (by decide) rfl (fun ls hl => ?_)
                refine lv_goto (tgt := 41) hx hb dX0_join_221 (by decide) ?_
                exact ih _ _ _ ⟨_, _, _, _, _, _, _, lv_sub hl [0, 1, 2, 3, 4] rfl, hP, hS, hnx, (fun z => absurd (of_decide_eq_true z) (by omega)), (fun z => absurd (of_decide_eq_true z) (by omega))⟩
              · have hd1 : 1 ≤ dp := Nat.pos_of_ne_zero (fun z => c_128 (by rw [z]; decide))
                refine lv_iconst (v := nI 1) hx hb dX0_join_131 (by decide) ?_
                refine lv_goto (tgt := 136) hx hb dX0_join_132 (by decide) ?_
                refine tn_as (nI (tb (decide (1 ≤ dp)))) (by rw [decide_eq_true hd1]; rfl) ?_
                refine lv_istore_n (lv' := [(3, .int (nI (tb (decide (1 ≤ dp))))), (2, .int (nI dp + (-1))), (4, .int (nI j)), (0, .ref h), (1, .int stop)]) hx hb dX0_join_136 rfl hl (by decide) rfl (fun ls hl => ?_)
                refine lv_goto (tgt := 218) hx hb dX0_join_137 (by decide) ?_
                refine lv_iinc (v := nI (j + 1)) (lv' := [(4, .int (nI (j + 1))), (3, .int (nI (tb (decide (1 ≤ dp))))), (2, .int (nI dp + (-1))), (0, .ref h), (1, .int stop)]) hx hb dX0_join_218 hl (k := 2) rfl (nI_1 _) (by decide) rfl (fun ls hl => ?_)
                refine lv_goto (tgt := 41) hx hb dX0_join_221 (by decide) ?_
                exact ih _ _ _ ⟨_, _, _, _, _, _, _, lv_sub hl [0, 1, 2, 3, 4] rfl, hP, hS, hnx, (fun _ => t_prdn hd1), (fun _ => twf_back hvo hwf hdl)⟩
          · have hvk : ∀ k, k < tcn (tst pl N) 4 → ∃ v x : Nat, v < 4 ∧ x < 8 ∧ vr_ k = nI v ∧ bo2 v = nI x := fun k hk => by
              obtain ⟨x9, h91, h92⟩ := hwf.2.2.2 k (by omega)
              exact ⟨tvv vr_ k, x9, (hvo.2.1 k hk).2, h91, (hvo.2.1 k hk).1, h92⟩
            refine lv_aload_n hx hb dX0_join_61 rfl (lv_at hl 3 rfl) ?_
            refine va_callv (va_runV (As := []) (rest := []) ⟨hx, hb, hml, hown, hts⟩ (m_countSolution (tcn (tst pl N) 4) hvo.1 hvk) (cwV 0 hts (lw_V q146 q148 qs11 q18 q149) rfl rfl rfl (by decide +kernel) ⟨Nat.le_of_ble_eq_true rfl, Nat.le_of_ble_eq_true rfl⟩) (pJ_preJ hK hP hD rfl) rfl rfl hl.1 rfl (lv_room (Nat.le_of_ble_eq_true rfl)) dX0_join_62 ⟨Nat.le_refl _, Nat.le_refl _⟩) hS (fun q _ h9 => h9) (fun q h9 => h9) (fun _ t_ H locs ht_ hvm_ _ hB _ _ hS => ?_)
            rw [ht_] at hB
            have hP : va_P D vwCl (wJ h a d he ob pr su go si (nI N) pl (nI (tcn (tst pl N) 4)) vr_ bo2 ca_ (tcs vr_ bo2 vc2 (tcn (tst pl N) 4)) (sc2 + nI 1)) H := hB
            have hD : va_D (oJ h a) (wJ h a d he ob pr su go si (nI N) pl (nI (tcn (tst pl N) 4)) vr_ bo2 ca_ (tcs vr_ bo2 vc2 (tcn (tst pl N) 4)) (sc2 + nI 1)) := va_D_re hD rfl
            have hnx : tit F pl N (tcn (tst pl N) 4) vr_ stop (tj0 F pl N vr_ ca bo_ vc_) (j + 1) = (decide ((sc2 + nI 1 ≤ stop ∨ stop < 0) ∧ 1 ≤ dp), dp - 1, ca_, bo2, tcs vr_ bo2 vc2 (tcn (tst pl N) 4), sc2 + nI 1) := by show tjit F pl N (tcn (tst pl N) 4) vr_ stop (tit F pl N (tcn (tst pl N) 4) vr_ stop (tj0 F pl N vr_ ca bo_ vc_) j) = _; rw [hit]; exact tjit_leaf c_58
            refine lv_aload_n hx hb dX0_join_65 rfl (lv_at hl 3 rfl) ?_
            refine va_get (D := D) (ci := 0) (v := .int (sc2 + nI 1)) (C := RX0) (T := TX0) (N := 14) hx hb hts in_X0 hown hK hP 0 rfl rfl 13 (by decide) (hts _ q41) (fun _ h9 => h9) rfl dX0_join_66 ?_
            refine lv_iload_n hx hb dX0_join_69 rfl (lv_at hl 4 rfl) ?_
            refine lv_icmp_le (tgt := 77) hx hb dX0_join_70 (by decide) (fun c_70 => ?_) (fun c_70 => ?_)
            · refine lv_iconst (v := nI 1) hx hb dX0_join_77 (by decide) ?_
              refine lv_goto (tgt := 82) hx hb dX0_join_78 (by decide) ?_
              refine lv_istore_n (lv' := [(3, .int (nI 1)), (4, .int (nI j)), (2, .int (nI dp)), (0, .ref h), (1, .int stop)]) hx hb dX0_join_82 rfl hl (by decide) rfl (fun ls hl => ?_)
              refine lv_iinc (v := (nI dp + (-1))) (lv' := [(2, .int (nI dp + (-1))), (3, .int (nI 1)), (4, .int (nI j)), (0, .ref h), (1, .int stop)]) hx hb dX0_join_83 hl (k := 2) rfl rfl (by decide) rfl (fun ls hl => ?_)
              refine lv_iload_n hx hb dX0_join_86 rfl (lv_at hl 1 rfl) ?_
              refine tn_if_eq (tgt := 98) hx hb dX0_join_87 (by decide) (by decide) (fun z => absurd z (by decide)) (fun _ => ?_)
              refine lv_iload_n hx hb dX0_join_90 rfl (lv_at hl 0 rfl) ?_
              have hcs : (sc2 + nI 1 ≤ stop ∨ stop < 0) := Or.inl c_70
              refine lv_if_lt (tgt := 98) hx hb dX0_join_91 (by decide) (fun c_91 => ?_) (fun c_91 => ?_)
              · have hd0 : dp = 0 := Nat.eq_zero_of_not_pos (fun z => t_prd z (by omega) c_91)
                refine lv_iconst (v := nI 0) hx hb dX0_join_98 (by decide) ?_
                refine tn_as (nI (tb (decide ((sc2 + nI 1 ≤ stop ∨ stop < 0) ∧ 1 ≤ dp)))) (by rw [decide_eq_false (by omega)]; rfl) ?_
                refine lv_istore_n (lv' := [(3, .int (nI (tb (decide ((sc2 + nI 1 ≤ stop ∨ stop < 0) ∧ 1 ≤ dp))))), (2, .int (nI dp + (-1))), (4, .int (nI j)), (0, .ref h), (1, .int stop)]) hx hb dX0_join_99 rfl hl (by decide) rfl (fun ls hl => ?_)
                refine lv_goto (tgt := 218) hx hb dX0_join_100 (by decide) ?_
                refine lv_iinc (v := nI (j + 1)) (lv' := [(4, .int (nI (j + 1))), (3, .int (nI (tb (decide ((sc2 + nI 1 ≤ stop ∨ stop < 0) ∧ 1 ≤ dp))))), (2, .int (nI dp + (-1))), (0, .ref h), (1, .int stop)]) hx hb dX0_join_218 hl (k := 2) rfl (nI_1 _) (by decide) rfl (fun ls hl => ?_)
                refine lv_goto (tgt := 41) hx hb dX0_join_221 (by decide) ?_
                exact ih _ _ _ ⟨_, _, _, _, _, _, _, lv_sub hl [0, 1, 2, 3, 4] rfl, hP, hS, hnx, (fun z => absurd (of_decide_eq_true z) (by omega)), (fun z => absurd (of_decide_eq_true z) (by omega))⟩
              · have hd1 : 1 ≤ dp := Nat.pos_of_ne_zero (fun z => c_91 (by rw [z]; decide))
                refine lv_iconst (v := nI 1) hx hb dX0_join_94 (by decide) ?_
                refine lv_goto (tgt := 99) hx hb dX0_join_95 (by decide) ?_
                refine tn_as (nI (tb (decide ((sc2 + nI 1 ≤ stop ∨ stop < 0) ∧ 1 ≤ dp)))) (by rw [decide_eq_true ⟨hcs, hd1⟩]; rfl) ?_
                refine lv_istore_n (lv' := [(3, .int (nI (tb (decide ((sc2 + nI 1 ≤ stop ∨ stop < 0) ∧ 1 ≤ dp))))), (2, .int (nI dp + (-1))), (4, .int (nI j)), (0, .ref h), (1, .int stop)]) hx hb dX0_join_99 rfl hl (by decide) rfl (fun ls hl => ?_)
                refine lv_goto (tgt := 218) hx hb dX0_join_100 (by decide) ?_
                refine lv_iinc (v := nI (j + 1)) (lv' := [(4, .int (nI (j + 1))), (3, .int (nI (tb (decide ((sc2 + nI 1 ≤ stop ∨ stop < 0) ∧ 1 ≤ dp))))), (2, .int (nI dp + (-1))), (0, .ref h), (1, .int stop)]) hx hb dX0_join_218 hl (k := 2) rfl (nI_1 _) (by decide) rfl (fun ls hl => ?_)
                refine lv_goto (tgt := 41) hx hb dX0_join_221 (by decide) ?_
                exact ih _ _ _ ⟨_, _, _, _, _, _, _, lv_sub hl [0, 1, 2, 3, 4] rfl, hP, hS, hnx, (fun _ => t_prdn hd1), (fun _ => twf_leaf hwf)⟩
            · refine lv_iload_n hx hb dX0_join_73 rfl (lv_at hl 4 rfl) ?_
              refine lv_if_ge (tgt := 81) hx hb dX0_join_74 (by decide) (fun c_74 => ?_) (fun c_74 => ?_)
              · have hcs : ¬ (sc2 + nI 1 ≤ stop ∨ stop < 0) := fun z => z.elim c_70 (fun q => absurd q (Int32.not_lt.mpr c_74))
                refine lv_iconst (v := nI 0) hx hb dX0_join_81 (by decide) ?_
                refine lv_istore_n (lv' := [(3, .int (nI 0)), (4, .int (nI j)), (2, .int (nI dp)), (0, .ref h), (1, .int stop)]) hx hb dX0_join_82 rfl hl (by decide) rfl (fun ls hl => ?_)
                refine lv_iinc (v := (nI dp + (-1))) (lv' := [(2, .int (nI dp + (-1))), (3, .int (nI 0)), (4, .int (nI j)), (0, .ref h), (1, .int stop)]) hx hb dX0_join_83 hl (k := 2) rfl rfl (by decide) rfl (fun ls hl => ?_)
                refine lv_iload_n hx hb dX0_join_86 rfl (lv_at hl 1 rfl) ?_
                refine tn_if_eq (tgt := 98) hx hb dX0_join_87 (by decide) (by decide) (fun _ => ?_) (fun z => absurd z (by decide))
                refine lv_iconst (v := nI 0) hx hb dX0_join_98 (by decide) ?_
                refine tn_as (nI (tb (decide ((sc2 + nI 1 ≤ stop ∨ stop < 0) ∧ 1 ≤ dp)))) (by rw [decide_eq_false (fun z => hcs z.1)]; rfl) ?_
                refine lv_istore_n (lv' := [(3, .int (nI (tb (decide ((sc2 + nI 1 ≤ stop ∨ stop < 0) ∧ 1 ≤ dp))))), (2, .int (nI dp + (-1))), (4, .int (nI j)), (0, .ref h), (1, .int stop)]) hx hb dX0_join_99 rfl hl (by decide) rfl (fun ls hl => ?_)
                refine lv_goto (tgt := 218) hx hb dX0_join_100 (by decide) ?_
                refine lv_iinc (v := nI (j + 1)) (lv' := [(4, .int (nI (j + 1))), (3, .int (nI (tb (decide ((sc2 + nI 1 ≤ stop ∨ stop < 0) ∧ 1 ≤ dp))))), (2, .int (nI dp + (-1))), (0, .ref h), (1, .int stop)]) hx hb dX0_join_218 hl (k := 2) rfl (nI_1 _) (by decide) rfl (fun ls hl => ?_)
                refine lv_goto (tgt := 41) hx hb dX0_join_221 (by decide) ?_
                exact ih _ _ _ ⟨_, _, _, _, _, _, _, lv_sub hl [0, 1, 2, 3, 4] rfl, hP, hS, hnx, (fun z => absurd (of_decide_eq_true z).1 hcs), (fun z => absurd (of_decide_eq_true z).1 hcs)⟩
              · refine lv_iconst (v := nI 1) hx hb dX0_join_77 (by decide) ?_
                refine lv_goto (tgt := 82) hx hb dX0_join_78 (by decide) ?_
                refine lv_istore_n (lv' := [(3, .int (nI 1)), (4, .int (nI j)), (2, .int (nI dp)), (0, .ref h), (1, .int stop)]) hx hb dX0_join_82 rfl hl (by decide) rfl (fun ls hl => ?_)
                refine lv_iinc (v := (nI dp + (-1))) (lv' := [(2, .int (nI dp + (-1))), (3, .int (nI 1)), (4, .int (nI j)), (0, .ref h), (1, .int stop)]) hx hb dX0_join_83 hl (k := 2) rfl rfl (by decide) rfl (fun ls hl => ?_)
                refine lv_iload_n hx hb dX0_join_86 rfl (lv_at hl 1 rfl) ?_
                refine tn_if_eq (tgt := 98) hx hb dX0_join_87 (by decide) (by decide) (fun z => absurd z (by decide)) (fun _ => ?_)
                refine lv_iload_n hx hb dX0_join_90 rfl (lv_at hl 0 rfl) ?_
                have hcs : (sc2 + nI 1 ≤ stop ∨ stop < 0) := Or.inr (Int32.not_le.mp c_74)
                refine lv_if_lt (tgt := 98) hx hb dX0_join_91 (by decide) (fun c_91 => ?_) (fun c_91 => ?_)
                · have hd0 : dp = 0 := Nat.eq_zero_of_not_pos (fun z => t_prd z (by omega) c_91)
                  refine lv_iconst (v := nI 0) hx hb dX0_join_98 (by decide) ?_
                  refine tn_as (nI (tb (decide ((sc2 + nI 1 ≤ stop ∨ stop < 0) ∧ 1 ≤ dp)))) (by rw [decide_eq_false (by omega)]; rfl) ?_
                  refine lv_istore_n (lv' := [(3, .int (nI (tb (decide ((sc2 + nI 1 ≤ stop ∨ stop < 0) ∧ 1 ≤ dp))))), (2, .int (nI dp + (-1))), (4, .int (nI j)), (0, .ref h), (1, .int stop)]) hx hb dX0_join_99 rfl hl (by decide) rfl (fun ls hl => ?_)
                  refine lv_goto (tgt := 218) hx hb dX0_join_100 (by decide) ?_
                  refine lv_iinc (v := nI (j + 1)) (lv' := [(4, .int (nI (j + 1))), (3, .int (nI (tb (decide ((sc2 + nI 1 ≤ stop ∨ stop < 0) ∧ 1 ≤ dp))))), (2, .int (nI dp + (-1))), (0, .ref h), (1, .int stop)]) hx hb dX0_join_218 hl (k := 2) rfl (nI_1 _) (by decide) rfl (fun ls hl => ?_)
                  refine lv_goto (tgt := 41) hx hb dX0_join_221 (by decide) ?_
                  exact ih _ _ _ ⟨_, _, _, _, _, _, _, lv_sub hl [0, 1, 2, 3, 4] rfl, hP, hS, hnx, (fun z => absurd (of_decide_eq_true z) (by omega)), (fun z => absurd (of_decide_eq_true z) (by omega))⟩
                · have hd1 : 1 ≤ dp := Nat.pos_of_ne_zero (fun z => c_91 (by rw [z]; decide))
                  refine lv_iconst (v := nI 1) hx hb dX0_join_94 (by decide) ?_
                  refine lv_goto (tgt := 99) hx hb dX0_join_95 (by decide) ?_
                  refine tn_as (nI (tb (decide ((sc2 + nI 1 ≤ stop ∨ stop < 0) ∧ 1 ≤ dp)))) (by rw [decide_eq_true ⟨hcs, hd1⟩]; rfl) ?_
                  refine lv_istore_n (lv' := [(3, .int (nI (tb (decide ((sc2 + nI 1 ≤ stop ∨ stop < 0) ∧ 1 ≤ dp))))), (2, .int (nI dp + (-1))), (4, .int (nI j)), (0, .ref h), (1, .int stop)]) hx hb dX0_join_99 rfl hl (by decide) rfl (fun ls hl => ?_)
                  refine lv_goto (tgt := 218) hx hb dX0_join_100 (by decide) ?_
                  refine lv_iinc (v := nI (j + 1)) (lv' := [(4, .int (nI (j + 1))), (3, .int (nI (tb (decide ((sc2 + nI 1 ≤ stop ∨ stop < 0) ∧ 1 ≤ dp))))), (2, .int (nI dp + (-1))), (0, .ref h), (1, .int stop)]) hx hb dX0_join_218 hl (k := 2) rfl (nI_1 _) (by decide) rfl (fun ls hl => ?_)
                  refine lv_goto (tgt := 41) hx hb dX0_join_221 (by decide) ?_
                  exact ih _ _ _ ⟨_, _, _, _, _, _, _, lv_sub hl [0, 1, 2, 3, 4] rfl, hP, hS, hnx, (fun _ => t_prdn hd1), (fun _ => twf_leaf hwf)⟩
      · obtain ⟨op, dp, dI, ca_, bo2, vc2, sc2, hl, hP, hS, hit, hdI, hwf⟩ := hJ
        have hD : va_D (oJ h a) (wJ h a d he ob pr su go si (nI N) pl (nI (tcn (tst pl N) 4)) vr_ bo2 ca_ vc2 sc2) := va_D_re hD_41 rfl
        refine lv_iload hx hb dX0_join_41 (lv_at hl 0 rfl) ?_
        refine lv_sipush (v := nI 10000) hx hb dX0_join_43 (by decide) ?_
        refine tn_icmp_ge (tgt := 224) hx hb dX0_join_46 (by decide) (by decide) (by decide) (fun _ => ?_) (fun z => absurd z (by decide))
        exact W.vret hx hb hr (fun t ht hW => ⟨⟨(vr_, bo2, ca_, vc2, sc2), rfl, ⟨ca, bo_, vc_, op, dp, hpp, hit⟩, by show va_P D vwCl _ t.heap; rw [ht]; exact hP⟩, hS.F ht⟩) hS.2.2 dX0_join_224
end
section
/-- digit v of a number, the highest first -/
def tdg (v m : Nat) : Nat := m / 2 ^ (9 - 3 * v) % 8
theorem tdg_lt (v m : Nat) : tdg v m < 8 := Nat.mod_lt _ (by decide)
def tbn (m : Nat) : Nat → Int32 := fun v => nI (tdg v m)
def tz (pl : Nat → Int32) (N m : Nat) : Nat → Bool
  | 0 => true
  | v + 1 => tz pl N m v && (decide (tdg v m = 0) || tst pl N v)
def tps (F : Nat → Bool) (pl : Nat → Int32) (m : Nat) : Nat → Bool
  | 0 => true
  | k + 1 => tps F pl m k && decide (0 < tC3 F (tkn (tbn m) (pl (3 * k))) (tkn (tbn m) (pl (3 * k + 1))) (tkn (tbn m) (pl (3 * k + 2))))
/-- the number is a solution -/
def tslv (F : Nat → Bool) (pl : Nat → Int32) (N m : Nat) : Bool := tz pl N m 4 && tps F pl m N
def tct (F : Nat → Bool) (pl : Nat → Int32) (N : Nat) : Nat → Nat := tcn (tslv F pl N)
def tcw (F : Nat → Bool) (pl : Nat → Int32) (N V : Nat) (x : Int32) : Nat → Nat := tcn (fun m => tslv F pl N m && decide (nI (tdg V m) = x))
theorem tct_lt (F : Nat → Bool) (pl : Nat → Int32) (N k : Nat) (h : k ≤ 4096) : tct F pl N k < 2 ^ 31 := Nat.lt_of_le_of_lt (tcn_le _ k) (by omega)
theorem tcw_lt (F : Nat → Bool) (pl : Nat → Int32) (N V : Nat) (x : Int32) (k : Nat) (h : k ≤ 4096) : tcw F pl N V x k < 2 ^ 31 := Nat.lt_of_le_of_lt (tcn_le _ k) (by omega)
/-- what the join answers, said by the numbers -/
def tres (F : Nat → Bool) (pl : Nat → Int32) (N : Nat) (stop : Int32) (bo vc : Nat → Int32) (sc : Int32) : Prop :=
  (stop < 0 → sc = nI (tct F pl N 4096) ∧ ∀ v, v < 4 → tst pl N v = true → ∀ x, x < 8 → vc (8 * v + x) = nI (tcw F pl N v (nI x) 4096)) ∧
  (¬ stop < 0 → (∃ m, m < 4096 ∧ tslv F pl N m = true ∧ nI (tct F pl N m) = stop ∧ stop < sc ∧ ∀ v, v < 4 → tst pl N v = true → bo v = nI (tdg v m)) ∨ ((∀ m, m < 4096 → tslv F pl N m = true → nI (tct F pl N m) ≠ stop) ∧ ¬ stop < sc))
/-- what solution answers -/
def tsol (F : Nat → Bool) (pl : Nat → Int32) (N : Nat) (k v r : Int32) : Prop :=
  (tsd pl N v = false ∧ r = -1) ∨ (tsd pl N v = true ∧ ((∃ m, m < 4096 ∧ tslv F pl N m = true ∧ nI (tct F pl N m) = k ∧ r = nI (tdg (-1 - v).toNatClampNeg m)) ∨ ((∀ m, m < 4096 → tslv F pl N m = true → nI (tct F pl N m) ≠ k) ∧ r = -1)))
def twi (F : Nat → Bool) (pl : Nat → Int32) (N : Nat) (v x : Int32) : Int32 := if tsd pl N v = true then nI (tcw F pl N (-1 - v).toNatClampNeg x 4096) else -1
def tvl (F : Nat → Bool) (pl : Nat → Int32) (N : Nat) (v : Int32) : Int32 := if tsd pl N v = true then nI (tcn (fun x => decide (0 < tcw F pl N (-1 - v).toNatClampNeg (nI x) 4096)) 8) else -1
theorem tct_inj {F : Nat → Bool} {pl : Nat → Int32} {N m k : Nat} (hm : m < 4096) (hk : k < 4096) (h1 : tslv F pl N m = true) (h2 : tslv F pl N k = true) (e : nI (tct F pl N m) = nI (tct F pl N k)) : m = k := by
  have e2 := (nI_eq (tct_lt F pl N m (by omega)) (tct_lt F pl N k (by omega))).mp e
  rcases Nat.lt_trichotomy m k with q | q | q
  · have := tcn_rank (f := tslv F pl N) q h1
    unfold tct at e2
    omega
  · exact q
  · have := tcn_rank (f := tslv F pl N) q h2
    unfold tct at e2
    omega
theorem tsol_one {F : Nat → Bool} {pl : Nat → Int32} {N : Nat} {k v r r2 : Int32} (h : tsol F pl N k v r) (h2 : tsol F pl N k v r2) : r = r2 := by
  rcases h with ⟨a1, a2⟩ | ⟨a1, a2⟩ <;> rcases h2 with ⟨b1, b2⟩ | ⟨b1, b2⟩
  · rw [a2, b2]
  · rw [a1] at b1; cases b1
  · rw [a1] at b1; cases b1
  · rcases a2 with ⟨m, m1, m2, m3, m4⟩ | ⟨a2, a3⟩ <;> rcases b2 with ⟨q, q1, q2, q3, q4⟩ | ⟨b2, b3⟩
    · have : m = q := tct_inj m1 q1 m2 q2 (m3.trans q3.symm)
      rw [m4, q4, this]
    · exact absurd m3 (b2 m m1 m2)
    · exact absurd q3 (a2 q q1 q2)
    · rw [a3, b3]
theorem tsd_v {pl : Nat → Int32} {N : Nat} {v : Int32} (h : tsd pl N v = true) : ∃ V : Nat, V < 4 ∧ v = -1 - nI V := by
  unfold tsd at h
  rw [Bool.and_eq_true] at h
  exact tva_t h.1
theorem t_bk {V : Nat} (h : V < 4) : ((-1 : Int32) - (-1 - nI V)).toNatClampNeg = V := by rw [t_back, nI_clamp (by omega)]
theorem tcw_np {F : Nat → Bool} {pl : Nat → Int32} {N V : Nat} {x : Int32} (h : tpa x = false) : ∀ k, tcw F pl N V x k = 0
  | 0 => rfl
  | k + 1 => by
    show tcw F pl N V x k + tb (tslv F pl N k && decide (nI (tdg V k) = x)) = 0
    rw [tcw_np h k, decide_eq_false (fun e => by rw [← e, tpa_nI (tdg_lt _ _)] at h; cases h), Bool.and_false]
    rfl
theorem t_neg_ne {a : Nat} {k : Int32} (ha : a < 2 ^ 31) (hk : k < 0) : nI a ≠ k := fun e => by
  rw [← e] at hk
  exact nI_pos ha hk
theorem tsd_st {pl : Nat → Int32} {N V : Nat} (h : tsd pl N (-1 - nI V) = true) : tst pl N V = true := h
end
section
/-! the pure law of the join: the numbers are tried in order, what is passed over is no solution -/
def tbl (w : Nat) : Nat := 8 ^ (4 - w)
theorem tbl_s {w : Nat} (h : w < 4) : tbl w = 8 * tbl (w + 1) := by
  rcases (show w = 0 ∨ w = 1 ∨ w = 2 ∨ w = 3 by omega) with rfl | rfl | rfl | rfl <;> decide
theorem tbl_pos (w : Nat) : 0 < tbl w := Nat.pow_pos (by decide)
theorem tbl_le {a w : Nat} (h : a ≤ w) : tbl w ≤ tbl a := Nat.pow_le_pow_right (by decide) (by omega)
theorem tbl_v : tbl 0 = 4096 ∧ tbl 1 = 512 ∧ tbl 2 = 64 ∧ tbl 3 = 8 ∧ tbl 4 = 1 := by decide
theorem tdg_v (m : Nat) : tdg 0 m = m / 512 % 8 ∧ tdg 1 m = m / 64 % 8 ∧ tdg 2 m = m / 8 % 8 ∧ tdg 3 m = m / 1 % 8 := ⟨rfl, rfl, rfl, rfl⟩
theorem t5 {w : Nat} (h : w ≤ 4) : w = 0 ∨ w = 1 ∨ w = 2 ∨ w = 3 ∨ w = 4 := by omega
theorem t4 {w : Nat} (h : w < 4) : w = 0 ∨ w = 1 ∨ w = 2 ∨ w = 3 := by omega
theorem tdg_same {w P m v : Nat} (hw : w ≤ 4) (hP : P % tbl w = 0) (h1 : P ≤ m) (h2 : m < P + tbl w) (hv : v < w) : tdg v m = tdg v P := by
  obtain ⟨b0, b1, b2, b3, b4⟩ := tbl_v
  obtain ⟨d0, d1, d2, d3⟩ := tdg_v m
  obtain ⟨e0, e1, e2, e3⟩ := tdg_v P
  rcases t5 hw with rfl | rfl | rfl | rfl | rfl <;> rcases t4 (show v < 4 by omega) with rfl | rfl | rfl | rfl <;> (try simp only [b0, b1, b2, b3, b4] at hP h1 h2) <;> omega
theorem tdg_here {w P m x : Nat} (hw : w < 4) (hP : P % tbl w = 0) (hx : x < 8) (h1 : P + x * tbl (w + 1) ≤ m) (h2 : m < P + (x + 1) * tbl (w + 1)) : tdg w m = x := by
  obtain ⟨b0, b1, b2, b3, b4⟩ := tbl_v
  obtain ⟨d0, d1, d2, d3⟩ := tdg_v m
  rcases t4 hw with rfl | rfl | rfl | rfl
  · rw [b1] at h1 h2; rw [b0] at hP; omega
  · rw [b2] at h1 h2; rw [b1] at hP; omega
  · rw [b3] at h1 h2; rw [b2] at hP; omega
  · rw [b4] at h1 h2; rw [b3] at hP; omega
theorem tdg_zero {w P v : Nat} (hw : w ≤ 4) (hP : P % tbl w = 0) (h1 : w ≤ v) (h2 : v < 4) : tdg v P = 0 := by
  obtain ⟨b0, b1, b2, b3, b4⟩ := tbl_v
  obtain ⟨e0, e1, e2, e3⟩ := tdg_v P
  rcases t5 hw with rfl | rfl | rfl | rfl | rfl <;> rcases t4 h2 with rfl | rfl | rfl | rfl <;> (try simp only [b0, b1, b2, b3, b4] at hP) <;> omega
theorem tbl_mod {w P x w2 : Nat} (hw : w < 4) (hP : P % tbl w = 0) (h : w < w2) (h4 : w2 ≤ 4) : (P + x * tbl (w + 1)) % tbl w2 = 0 := by
  obtain ⟨b0, b1, b2, b3, b4⟩ := tbl_v
  rcases t4 hw with rfl | rfl | rfl | rfl <;> rcases t5 h4 with rfl | rfl | rfl | rfl | rfl <;> simp only [b0, b1, b2, b3, b4, Nat.zero_add, Nat.reduceAdd] at * <;> omega
theorem tbl_top {w P : Nat} (hw : w ≤ 4) (hP : P % tbl w = 0) (h : P < 4096) : P + tbl w ≤ 4096 := by
  obtain ⟨b0, b1, b2, b3, b4⟩ := tbl_v
  rcases t5 hw with rfl | rfl | rfl | rfl | rfl <;> (try simp only [b0, b1, b2, b3, b4] at hP) <;> omega
/-- a number beyond the block has a digit that isn't 0 where none may be -/
theorem tdg_skip {a w P m : Nat} (ha : a ≤ w) (hw : w ≤ 4) (hP : P % tbl a = 0) (h1 : P + tbl w ≤ m) (h2 : m < P + tbl a) : ∃ v, a ≤ v ∧ v < w ∧ tdg v m ≠ 0 := by
  obtain ⟨b0, b1, b2, b3, b4⟩ := tbl_v
  obtain ⟨d0, d1, d2, d3⟩ := tdg_v m
  refine Classical.byContradiction (fun q => ?_)
  have q : ∀ v, a ≤ v → v < w → tdg v m = 0 := fun v h1 h2 => Classical.byContradiction (fun z => q ⟨v, h1, h2, z⟩)
  have q0 := q 0
  have q1 := q 1
  have q2 := q 2
  have q3 := q 3
  rcases t5 (show a ≤ 4 by omega) with rfl | rfl | rfl | rfl | rfl <;> rcases t5 hw with rfl | rfl | rfl | rfl | rfl <;> (try simp only [b0, b1, b2, b3, b4] at hP h1 h2) <;> omega
theorem tcn_skip {f : Nat → Bool} {a : Nat} : ∀ b, a ≤ b → (∀ i, a ≤ i → i < b → f i = false) → tcn f b = tcn f a
  | 0, h, _ => by rw [show a = 0 by omega]
  | b + 1, h, h0 => by
    by_cases e : a = b + 1
    · rw [e]
    · show tcn f b + tb (f b) = tcn f a
      rw [h0 b (by omega) (by omega), tcn_skip b (by omega) (fun i h1 h2 => h0 i h1 (by omega))]
      rfl
theorem tcn_imp {f g : Nat → Bool} (h : ∀ i, f i = true → g i = true) : ∀ k, tcn f k ≤ tcn g k
  | 0 => Nat.le_refl _
  | k + 1 => by
    show tcn f k + tb (f k) ≤ tcn g k + tb (g k)
    have h1 := tcn_imp h k
    cases e : f k with
    | false => rw [show tb false = 0 from rfl]; omega
    | true => rw [h k e]; omega
/-- a looser filter -/
def tls (y y2 : Int32) : Prop := y2 = y ∨ y2 = -1
theorem tls_tag {y y2 : Int32} (h : tls y y2) {i : Nat} (hi : tag y i = true) : tag y2 i = true := by
  rcases h with rfl | rfl
  · exact hi
  · exact tag_m1 i
theorem tC3_mono (F : Nat → Bool) {s p o s2 p2 o2 : Int32} (h1 : tls s s2) (h2 : tls p p2) (h3 : tls o o2) : tC3 F s p o ≤ tC3 F s2 p2 o2 := by
  unfold tC3
  refine tcn_imp (fun i hi => ?_) 512
  simp only [Bool.and_eq_true] at hi ⊢
  exact ⟨⟨⟨hi.1.1.1, tls_tag h1 hi.1.1.2⟩, tls_tag h2 hi.1.2⟩, tls_tag h3 hi.2⟩
theorem t_minj : ∀ a, a < 4 → ∀ b, b < 4 → (-1 - nI a : Int32) = -1 - nI b → a = b := by decide +kernel
theorem t_mne : ∀ a, a < 8 → ∀ b, b < 4 → nI a ≠ (-1 - nI b : Int32) := by decide +kernel
theorem tnotf2 {b : Bool} (h : (!b) = false) : b = true := by cases b <;> first | rfl | cases h
theorem tkn_cg {bo bo2 : Nat → Int32} {y : Int32} (h : tok y) (hv : ∀ v, v < 4 → y = -1 - nI v → bo v = bo2 v) : tkn bo y = tkn bo2 y := by
  rcases h with ⟨S, hS, rfl⟩ | ⟨k, hk, rfl⟩
  · rw [tkn_nI _ hS, tkn_nI _ hS]
  · rw [tkn_k _ hk, tkn_k _ hk]; exact hv k hk rfl
section TDFS
variable {F : Nat → Bool} {pl : Nat → Int32} {N : Nat} {vr : Nat → Int32} {stop : Int32}
theorem tst_pl {j v : Nat} (hj : j < 3 * N) (hv : v < 4) (h : pl j = -1 - nI v) : tst pl N v = true := by
  unfold tst tsd
  rw [tva_k v hv, thit_t h (3 * N) hj]
  rfl
theorem tal_t {bo : Nat → Int32} {w x i : Nat} : ∀ n, tal F pl bo w x n = true → i < n → tin pl w i = true → tab F pl w (tkn bo (pl (3 * i))) (tkn bo (pl (3 * i + 1))) (tkn bo (pl (3 * i + 2))) (3 * i) x = true
  | 0, _, h, _ => absurd h (Nat.not_lt_zero i)
  | n + 1, h, hi, ht => by
    have h : (tal F pl bo w x n && (!tin pl w n || tab F pl w (tkn bo (pl (3 * n))) (tkn bo (pl (3 * n + 1))) (tkn bo (pl (3 * n + 2))) (3 * n) x)) = true := h
    rw [Bool.and_eq_true] at h
    by_cases e : i = n
    · subst e
      have h2 := h.2
      rw [ht] at h2
      exact h2
    · exact tal_t n h.1 (by omega) ht
theorem tal_f {bo : Nat → Int32} {w x : Nat} : ∀ n, tal F pl bo w x n = false → ∃ i, i < n ∧ tin pl w i = true ∧ tab F pl w (tkn bo (pl (3 * i))) (tkn bo (pl (3 * i + 1))) (tkn bo (pl (3 * i + 2))) (3 * i) x = false
  | 0, h => by cases h
  | n + 1, h => by
    have h : (tal F pl bo w x n && (!tin pl w n || tab F pl w (tkn bo (pl (3 * n))) (tkn bo (pl (3 * n + 1))) (tkn bo (pl (3 * n + 2))) (3 * n) x)) = false := h
    cases e : tal F pl bo w x n with
    | false =>
      obtain ⟨i, h1, h2⟩ := tal_f n e
      exact ⟨i, by omega, h2⟩
    | true =>
      rw [e, Bool.true_and] at h
      rw [Bool.or_eq_false_iff] at h
      exact ⟨n, by omega, tnotf2 h.1, h.2⟩
theorem tal_cg {bo bo2 : Nat → Int32} {w x : Nat} (hpl : ∀ j, j < 3 * N → tok (pl j)) (hb : ∀ v, v < 4 → bo v = bo2 v) : ∀ n, n ≤ N → tal F pl bo w x n = tal F pl bo2 w x n
  | 0, _ => rfl
  | n + 1, h => by
    show (tal F pl bo w x n && _) = (tal F pl bo2 w x n && _)
    rw [tal_cg hpl hb n (by omega), tkn_cg (hpl (3 * n) (by omega)) (fun v hv _ => hb v hv), tkn_cg (hpl (3 * n + 1) (by omega)) (fun v hv _ => hb v hv), tkn_cg (hpl (3 * n + 2) (by omega)) (fun v hv _ => hb v hv)]
theorem tz_t {m : Nat} : ∀ n, (∀ v, v < n → tdg v m = 0 ∨ tst pl N v = true) → tz pl N m n = true
  | 0, _ => rfl
  | n + 1, h => by
    show (tz pl N m n && (decide (tdg n m = 0) || tst pl N n)) = true
    rw [tz_t n (fun v hv => h v (by omega))]
    rcases h n (by omega) with q | q
    · rw [decide_eq_true q]; rfl
    · rw [q]; simp
theorem tz_no {m v : Nat} (hs : tst pl N v = false) (hd : tdg v m ≠ 0) : ∀ n, v < n → tz pl N m n = false
  | 0, h => absurd h (Nat.not_lt_zero v)
  | n + 1, h => by
    show (tz pl N m n && (decide (tdg n m = 0) || tst pl N n)) = false
    by_cases e : v = n
    · subst e; rw [hs, decide_eq_false hd]; simp
    · rw [tz_no hs hd n (by omega)]; rfl
theorem tps_t {m : Nat} : ∀ n, (∀ i, i < n → 0 < tC3 F (tkn (tbn m) (pl (3 * i))) (tkn (tbn m) (pl (3 * i + 1))) (tkn (tbn m) (pl (3 * i + 2)))) → tps F pl m n = true
  | 0, _ => rfl
  | n + 1, h => by
    show (tps F pl m n && decide _) = true
    rw [tps_t n (fun i hi => h i (by omega)), decide_eq_true (h n (by omega))]
    rfl
theorem tps_i {m i : Nat} : ∀ n, tps F pl m n = true → i < n → 0 < tC3 F (tkn (tbn m) (pl (3 * i))) (tkn (tbn m) (pl (3 * i + 1))) (tkn (tbn m) (pl (3 * i + 2)))
  | 0, _, h => absurd h (Nat.not_lt_zero i)
  | n + 1, h, hi => by
    have h : (tps F pl m n && decide (0 < tC3 F (tkn (tbn m) (pl (3 * n))) (tkn (tbn m) (pl (3 * n + 1))) (tkn (tbn m) (pl (3 * n + 2))))) = true := h
    rw [Bool.and_eq_true] at h
    by_cases e : i = n
    · subst e; exact of_decide_eq_true h.2
    · exact tps_i n h.1 (by omega)
/-- a pattern whose variables all lie before w holds -/
def tPI (F : Nat → Bool) (pl : Nat → Int32) (N w : Nat) (bo : Nat → Int32) : Prop := ∀ i, i < N → (∀ j, j < 3 → ∀ v, v < 4 → pl (3 * i + j) = -1 - nI v → v < w) → 0 < tC3 F (tkn bo (pl (3 * i))) (tkn bo (pl (3 * i + 1))) (tkn bo (pl (3 * i + 2)))
/-- a node of the search: the variables before w are bound to P's digits -/
def tND (F : Nat → Bool) (pl : Nat → Int32) (N w P : Nat) (bo : Nat → Int32) : Prop :=
  w ≤ 4 ∧ (w < 4 → tst pl N w = true) ∧ P % tbl w = 0 ∧ P < 4096 ∧ (∀ v, v < w → tst pl N v = true → bo v = nI (tdg v P)) ∧ (∀ v, v < w → tst pl N v = false → tdg v P = 0 ∧ bo v = -1) ∧ (∀ v, w ≤ v → v < 4 → bo v = -1) ∧ tPI F pl N w bo
/-- the counts say what was found before m -/
def tAC (F : Nat → Bool) (pl : Nat → Int32) (N m : Nat) (vc : Nat → Int32) (sc : Int32) : Prop := sc = nI (tct F pl N m) ∧ ∀ v, v < 4 → tst pl N v = true → ∀ x, x < 8 → vc (8 * v + x) = nI (tcw F pl N v (nI x) m)
def tNS (F : Nat → Bool) (pl : Nat → Int32) (N : Nat) (stop : Int32) (m : Nat) : Prop := stop < 0 ∨ nI (tct F pl N m) ≤ stop
theorem tAC_skip {a b : Nat} {vc : Nat → Int32} {sc : Int32} (h : tAC F pl N a vc sc) (hab : a ≤ b) (h0 : ∀ m, a ≤ m → m < b → tslv F pl N m = false) : tAC F pl N b vc sc := by
  refine ⟨?_, fun v hv hs x hx => ?_⟩
  · rw [h.1]; unfold tct; rw [tcn_skip b hab h0]
  · rw [h.2 v hv hs x hx]; unfold tcw; rw [tcn_skip b hab (fun i h1 h2 => by rw [h0 i h1 h2]; rfl)]
theorem tNS_skip {a b : Nat} (h : tNS F pl N stop a) (hab : a ≤ b) (h0 : ∀ m, a ≤ m → m < b → tslv F pl N m = false) : tNS F pl N stop b := by
  unfold tNS tct at *
  rw [tcn_skip b hab h0]
  exact h
/-- what isn't allowed holds no solution -/
theorem tno_x {w P x m : Nat} {bo : Nat → Int32} (hpl : ∀ j, j < 3 * N → tok (pl j)) (hw : w < 4) (hn : tND F pl N w P bo) (hx : x < 8) (ha : tal F pl bo w x N = false) (h1 : P + x * tbl (w + 1) ≤ m) (h2 : m < P + (x + 1) * tbl (w + 1)) : tslv F pl N m = false := by
  cases e : tslv F pl N m with
  | false => rfl
  | true =>
    exfalso
    unfold tslv at e
    rw [Bool.and_eq_true] at e
    obtain ⟨i, hi, hin, hab⟩ := tal_f N ha
    have hpos := tps_i N e.2 hi
    unfold tab at hab
    have hab := of_decide_eq_false hab
    have hdw := tdg_here hw hn.2.2.1 hx h1 h2
    have hs := tbl_s hw
    have hm1 : P ≤ m := by omega
    have hm2 : m < P + tbl w := by
      have : (x + 1) * tbl (w + 1) ≤ 8 * tbl (w + 1) := Nat.mul_le_mul_right _ (by omega)
      omega
    have key : ∀ j, j < 3 → tls (tkn (tbn m) (pl (3 * i + j))) (tsb pl w x (tkn bo (pl (3 * i + j))) (3 * i + j)) := by
      intro j hj
      by_cases q : pl (3 * i + j) = -1 - nI w
      · rw [tsb_t q, q, tkn_k _ hw]
        left
        show nI x = nI (tdg w m)
        rw [hdw]
      · rw [tsb_f q]
        rcases hpl (3 * i + j) (by omega) with ⟨S, hS, e2⟩ | ⟨v, hv, e2⟩
        · rw [e2, tkn_nI _ hS, tkn_nI _ hS]; exact Or.inl rfl
        · rw [e2, tkn_k _ hv, tkn_k _ hv]
          by_cases hvw : v < w
          · left
            rw [hn.2.2.2.2.1 v hvw (tst_pl (by omega) hv e2)]
            show nI (tdg v P) = nI (tdg v m)
            rw [tdg_same hn.1 hn.2.2.1 hm1 hm2 hvw]
          · right
            exact hn.2.2.2.2.2.2.1 v (by omega) hv
    have := tC3_mono F (key 0 (by decide)) (key 1 (by decide)) (key 2 (by decide))
    rw [Nat.add_zero] at this
    omega
theorem tno_skip {a w P m : Nat} (ha : a ≤ w) (hw : w ≤ 4) (hP : P % tbl a = 0) (hs : ∀ v, a ≤ v → v < w → tst pl N v = false) (h1 : P + tbl w ≤ m) (h2 : m < P + tbl a) : tslv F pl N m = false := by
  obtain ⟨v, h3, h4, h5⟩ := tdg_skip ha hw hP h1 h2
  unfold tslv
  rw [tz_no (hs v h3 h4) h5 4 (by omega)]
  rfl
/-- the next variable that stands -/
theorem tnext (a : Nat) (ha : a ≤ 4) : ∃ w, a ≤ w ∧ w ≤ 4 ∧ (w < 4 → tst pl N w = true) ∧ ∀ v, a ≤ v → v < w → tst pl N v = false := by
  have key : ∀ k, ∀ a, a + k = 4 → ∃ w, a ≤ w ∧ w ≤ 4 ∧ (w < 4 → tst pl N w = true) ∧ ∀ v, a ≤ v → v < w → tst pl N v = false := by
    intro k
    induction k with
    | zero => intro a h; exact ⟨a, Nat.le_refl _, by omega, fun z => by omega, fun v h1 h2 => by omega⟩
    | succ k ih =>
      intro a h
      cases e : tst pl N a with
      | true => exact ⟨a, Nat.le_refl _, by omega, fun _ => e, fun v h1 h2 => by omega⟩
      | false =>
        obtain ⟨w, h1, h2, h3, h4⟩ := ih (a + 1) (by omega)
        refine ⟨w, by omega, h2, h3, fun v h5 h6 => ?_⟩
        by_cases q : v = a
        · rw [q]; exact e
        · exact h4 v (by omega) h6
  exact key (4 - a) a (by omega)
theorem tit_add (K : Nat) (σ : tJS) (a : Nat) : ∀ b, tit F pl N K vr stop σ (a + b) = tit F pl N K vr stop (tit F pl N K vr stop σ a) b
  | 0 => rfl
  | b + 1 => by
    show tjit F pl N K vr stop (tit F pl N K vr stop σ (a + b)) = tjit F pl N K vr stop (tit F pl N K vr stop (tit F pl N K vr stop σ a) b)
    rw [tit_add K σ a b]
/-- the steps that a node with r variables behind it takes at most -/
def tS : Nat → Nat
  | 0 => 1
  | r + 1 => 8 * (1 + tS r) + 1
/-- what a node leaves: done, its block behind it; or stopped at a solution of it -/
def tRE (F : Nat → Bool) (pl : Nat → Int32) (N : Nat) (stop : Int32) (w P : Nat) (ca bo : Nat → Int32) (σ : tJS) : Prop :=
  (∃ (ca2 bo2 vc2 : Nat → Int32) (sc2 : Int32), σ = (decide (1 ≤ tcn (tst pl N) w), tcn (tst pl N) w - 1, ca2, bo2, vc2, sc2) ∧ (∀ j, j < tcn (tst pl N) w → ca2 j = ca j) ∧ (∀ v, v < 4 → bo2 v = bo v) ∧ tAC F pl N (P + tbl w) vc2 sc2 ∧ tNS F pl N stop (P + tbl w)) ∨
  (∃ (m dp : Nat) (ca2 bo2 vc2 : Nat → Int32) (sc2 : Int32), m < P + tbl w ∧ σ = (false, dp, ca2, bo2, vc2, sc2) ∧ tslv F pl N m = true ∧ nI (tct F pl N m) = stop ∧ ¬ stop < 0 ∧ stop < sc2 ∧ ∀ v, v < 4 → tst pl N v = true → bo2 v = nI (tdg v m))
theorem tpp_k {bo vc : Nat → Int32} (h : tpp pl N vr bo vc) {w : Nat} (hw : w < 4) (hs : tst pl N w = true) : vr (tcn (tst pl N) w) = nI w ∧ tvv vr (tcn (tst pl N) w) = w := by
  have h1 := h.1 w hw hs
  exact ⟨h1, by unfold tvv; rw [h1, nI_clamp (by omega)]⟩
theorem tcs_at {bo0 vc0 bo vc : Nat → Int32} {P v x : Nat} (hpp : tpp pl N vr bo0 vc0) (hb : ∀ u, u < 4 → tst pl N u = true → bo u = nI (tdg u P)) (hv : v < 4) (hs : tst pl N v = true) (hx : x < 8) : ∀ k, k ≤ tcn (tst pl N) 4 → tcs vr bo vc k (8 * v + x) = vc (8 * v + x) + nI (tb (decide (tcn (tst pl N) v < k) && decide (tdg v P = x)))
  | 0, _ => by
    show vc (8 * v + x) = _
    rw [decide_eq_false (Nat.not_lt_zero _), Bool.false_and, show tb false = 0 from rfl, nI_0, Int32.add_zero]
  | k + 1, hk => by
    have ih := tcs_at (vc := vc) hpp hb hv hs hx k (by omega)
    obtain ⟨w, hw, hws, hwk⟩ := tcn_inv (tst pl N) 4 k (by omega)
    obtain ⟨e1, e2⟩ := tpp_k hpp hw hws
    rw [hwk] at e1 e2
    have hd := tdg_lt w P
    have hi : tcx vr bo k = 8 * w + tdg w P := by
      show 8 * tvv vr k + (bo (tvv vr k)).toNatClampNeg = _
      rw [e2, hb w hw hws, nI_clamp (by omega)]
    show tinc (tcs vr bo vc k) (tcx vr bo k) (nI 1) (8 * v + x) = _
    rw [hi]
    by_cases q : w = v
    · subst q
      by_cases q2 : tdg w P = x
      · rw [q2, tinc_s, ih, hwk, decide_eq_false (Nat.lt_irrefl k), decide_eq_true (show k < k + 1 by omega), decide_eq_true rfl]
        show vc (8 * w + x) + nI 0 + nI 1 = vc (8 * w + x) + nI 1
        rw [nI_0, Int32.add_zero]
      · rw [tinc_n (by omega), ih, decide_eq_false q2, Bool.and_false, Bool.and_false]
    · rw [tinc_n (by have := tdg_lt w P; omega), ih]
      have hne : tcn (tst pl N) v ≠ k := fun z => by
        rcases Nat.lt_trichotomy v w with r | r | r
        · have := tcn_rank (f := tst pl N) r hs; omega
        · exact q r.symm
        · have := tcn_rank (f := tst pl N) r hws; omega
      rw [show decide (tcn (tst pl N) v < k + 1) = decide (tcn (tst pl N) v < k) from decide_eq_decide.mpr (by omega)]
theorem tct_s (m : Nat) : tct F pl N (m + 1) = tct F pl N m + tb (tslv F pl N m) := rfl
theorem tcw_s (v : Nat) (x : Int32) (m : Nat) : tcw F pl N v x (m + 1) = tcw F pl N v x m + tb (tslv F pl N m && decide (nI (tdg v m) = x)) := rfl
/-- a leaf -/
theorem tleaf {bo0 vc0 ca bo vc : Nat → Int32} {sc : Int32} {P : Nat} (hpp : tpp pl N vr bo0 vc0) (hpl : ∀ j, j < 3 * N → tok (pl j)) (hn : tND F pl N 4 P bo) (hac : tAC F pl N P vc sc) (hns : tNS F pl N stop P) : tRE F pl N stop 4 P ca bo (tjit F pl N (tcn (tst pl N) 4) vr stop (true, tcn (tst pl N) 4, ca, bo, vc, sc)) := by
  rw [tjit_leaf rfl]
  obtain ⟨-, -, -, hP, n1, n2, -, n4⟩ := hn
  have hsl : tslv F pl N P = true := by
    unfold tslv
    rw [tz_t 4 (fun v hv => by
      cases e : tst pl N v with
      | true => exact Or.inr rfl
      | false => exact Or.inl (n2 v hv e).1)]
    rw [tps_t N (fun i hi => by
      have h := n4 i hi (fun j hj v hv _ => hv)
      have c : ∀ j, j < 3 → tkn bo (pl (3 * i + j)) = tkn (tbn P) (pl (3 * i + j)) := fun j hj => tkn_cg (hpl _ (by omega)) (fun v hv e => n1 v hv (tst_pl (by omega) hv e))
      have c0 := c 0 (by decide)
      have c1 := c 1 (by decide)
      have c2 := c 2 (by decide)
      rw [Nat.add_zero] at c0
      rw [← c0, ← c1, ← c2]
      exact h)]
    rfl
  have hct : sc + nI 1 = nI (tct F pl N (P + 1)) := by
    rw [tct_s, hsl, hac.1, nI_add]
    rfl
  have b4 : tbl 4 = 1 := by decide
  have hlt := tct_lt F pl N P (by omega)
  have hlt1 := tct_lt F pl N (P + 1) (by omega)
  have hct1 : tct F pl N (P + 1) = tct F pl N P + 1 := by rw [tct_s, hsl]; rfl
  by_cases hc : sc + nI 1 ≤ stop ∨ stop < 0
  · left
    refine ⟨ca, bo, tcs vr bo vc (tcn (tst pl N) 4), sc + nI 1, ?_, fun _ _ => rfl, fun _ _ => rfl, ⟨?_, fun v hv hs x hx => ?_⟩, ?_⟩
    · rw [show decide ((sc + nI 1 ≤ stop ∨ stop < 0) ∧ 1 ≤ tcn (tst pl N) 4) = decide (1 ≤ tcn (tst pl N) 4) from decide_eq_decide.mpr ⟨fun z => z.2, fun z => ⟨hc, z⟩⟩]
    · rw [b4]; exact hct
    · rw [b4, tcs_at hpp n1 hv hs hx _ (Nat.le_refl _), hac.2 v hv hs x hx, tcw_s, hsl, nI_add, decide_eq_true (tcn_rank (f := tst pl N) hv hs), Bool.true_and, Bool.true_and]
      rw [show decide (nI (tdg v P) = nI x) = decide (tdg v P = x) from decide_eq_decide.mpr (nI_eq (by have := tdg_lt v P; omega) (by omega))]
    · rw [b4]
      unfold tNS
      rw [← hct]
      exact hc.elim Or.inr Or.inl
  · right
    have hnn : ¬ stop < 0 := fun z => hc (Or.inr z)
    have h1 : ¬ sc + nI 1 ≤ stop := fun z => hc (Or.inl z)
    have h2 : nI (tct F pl N P) ≤ stop := hns.elim (fun z => absurd z hnn) id
    refine ⟨P, tcn (tst pl N) 4 - 1, ca, bo, tcs vr bo vc (tcn (tst pl N) 4), sc + nI 1, by rw [b4]; omega, ?_, hsl, ?_, hnn, Int32.not_le.mp h1, fun v hv hs => n1 v hv hs⟩
    · rw [decide_eq_false (fun z => hc z.1)]
    · rw [hct, t_le, nI_toInt hlt1, hct1] at h1
      rw [t_le, nI_toInt hlt] at h2
      apply Int32.toInt_inj.1
      rw [nI_toInt hlt]
      omega
theorem tsb_tkn {bo : Nat → Int32} {w x j : Nat} (hw : w < 4) (h : tok (pl j)) : tsb pl w x (tkn bo (pl j)) j = tkn (upd bo w (nI x)) (pl j) := by
  by_cases q : pl j = -1 - nI w
  · rw [tsb_t q, q, tkn_k _ hw, pk_us]
  · rw [tsb_f q]
    exact tkn_cg h (fun v hv e => (pk_un (fun z => q (by rw [e, z]))).symm)
/-- going down: the child is a node -/
theorem tchild {w w2 P x : Nat} {bN b2 : Nat → Int32} (hpl : ∀ j, j < 3 * N → tok (pl j)) (hw : w < 4) (hn : tND F pl N w P bN) (hx : x < 8) (ha : tal F pl bN w x N = true) (h1 : w + 1 ≤ w2) (h2 : w2 ≤ 4) (h3 : w2 < 4 → tst pl N w2 = true) (h4 : ∀ v, w + 1 ≤ v → v < w2 → tst pl N v = false) (hb : ∀ v, v < 4 → b2 v = upd bN w (nI x) v) : tND F pl N w2 (P + x * tbl (w + 1)) b2 := by
  obtain ⟨n1, n2, n3, n4, n5, n6, n7, n8⟩ := hn
  have hs := tbl_s hw
  have htop := tbl_top n1 n3 n4
  have hp := tbl_pos (w + 1)
  have hx8 : (x + 1) * tbl (w + 1) ≤ 8 * tbl (w + 1) := Nat.mul_le_mul_right _ (by omega)
  have hx9 : (x + 1) * tbl (w + 1) = x * tbl (w + 1) + tbl (w + 1) := Nat.succ_mul x _
  have hmod := tbl_mod (x := x) hw n3 (show w < w + 1 by omega) (by omega)
  have hdv : ∀ v, v < w → tdg v (P + x * tbl (w + 1)) = tdg v P := fun v hv => tdg_same n1 n3 (by omega) (by omega) hv
  have hdw : tdg w (P + x * tbl (w + 1)) = x := tdg_here hw n3 hx (Nat.le_refl _) (by omega)
  refine ⟨h2, h3, tbl_mod hw n3 (by omega) h2, by omega, fun v hv hvs => ?_, fun v hv hvs => ?_, fun v hv hv4 => ?_, fun i hi hvar => ?_⟩
  · rw [hb v (by omega)]
    by_cases e : v = w
    · rw [e, pk_us, hdw]
    · rw [pk_un e]
      by_cases q : v < w
      · rw [hdv v q]; exact n5 v q hvs
      · rw [h4 v (by omega) hv] at hvs; cases hvs
  · rw [hb v (by omega)]
    by_cases e : v = w
    · rw [e, n2 hw] at hvs; cases hvs
    · rw [pk_un e]
      by_cases q : v < w
      · rw [hdv v q]; exact n6 v q hvs
      · exact ⟨tdg_zero (by omega) hmod (by omega) (by omega), n7 v (by omega) (by omega)⟩
  · rw [hb v hv4, pk_un (by omega)]
    exact n7 v (by omega) hv4
  · have c : ∀ j, j < 3 → tkn b2 (pl (3 * i + j)) = tkn (upd bN w (nI x)) (pl (3 * i + j)) := fun j hj => tkn_cg (hpl _ (by omega)) (fun v hv _ => hb v hv)
    have c0 := c 0 (by decide)
    rw [Nat.add_zero] at c0
    rw [c0, c 1 (by decide), c 2 (by decide)]
    cases ein : tin pl w i with
    | true =>
      have h := tal_t N ha hi ein
      unfold tab at h
      have h := of_decide_eq_true h
      rw [tsb_tkn hw (hpl _ (by omega)), tsb_tkn hw (hpl _ (by omega)), tsb_tkn hw (hpl _ (by omega))] at h
      exact h
    | false =>
      unfold tin at ein
      rw [Bool.or_eq_false_iff, Bool.or_eq_false_iff] at ein
      obtain ⟨⟨g0, g1⟩, g2⟩ := ein
      have g0 := of_decide_eq_false g0
      have g1 := of_decide_eq_false g1
      have g2 := of_decide_eq_false g2
      have gj : ∀ j, j < 3 → pl (3 * i + j) ≠ -1 - nI w := by
        intro j hj
        rcases (show j = 0 ∨ j = 1 ∨ j = 2 by omega) with rfl | rfl | rfl
        · exact g0
        · exact g1
        · exact g2
      have h := n8 i hi (fun j hj v hv e => by
        have hlt := hvar j hj v hv e
        have hne : v ≠ w := fun z => gj j hj (by rw [e, z])
        by_cases q : v < w
        · exact q
        · have := h4 v (by omega) hlt
          rw [tst_pl (by omega) hv e] at this
          cases this)
      have k : ∀ j, j < 3 → tkn bN (pl (3 * i + j)) = tkn (upd bN w (nI x)) (pl (3 * i + j)) := fun j hj => tkn_cg (hpl _ (by omega)) (fun v hv e => (pk_un (fun z => gj j hj (by rw [e, z]))).symm)
      have k0 := k 0 (by decide)
      rw [Nat.add_zero] at k0
      rw [← k0, ← k 1 (by decide), ← k 2 (by decide)]
      exact h
end TDFS
end
section
section TDFS2
variable {F : Nat → Bool} {pl : Nat → Int32} {N : Nat} {vr : Nat → Int32} {stop : Int32}
theorem tmk_z8 : tmk (fun _ => false) 8 = 0 := by decide
set_option maxHeartbeats 1000000 in
/-- a node's candidates from x0 on -/
theorem tinner {bo0 vc0 : Nat → Int32} (hpp : tpp pl N vr bo0 vc0) (hpl : ∀ j, j < 3 * N → tok (pl j)) {w P : Nat} {bN : Nat → Int32} (hw : w < 4) (hn : tND F pl N w P bN) (r : Nat)
    (IH : ∀ (w2 P2 : Nat) (ca bo vc : Nat → Int32) (sc : Int32), w < w2 → tND F pl N w2 P2 bo → (w2 < 4 → ca (tcn (tst pl N) w2) = tms F pl N bo w2) → tAC F pl N P2 vc sc → tNS F pl N stop P2 → ∃ n, n ≤ tS r ∧ tRE F pl N stop w2 P2 ca bo (tit F pl N (tcn (tst pl N) 4) vr stop (true, tcn (tst pl N) w2, ca, bo, vc, sc) n)) :
    ∀ (y x0 : Nat), x0 + y = 8 → ∀ (ca bo vc : Nat → Int32) (sc : Int32), (∀ v, v < 4 → v ≠ w → bo v = bN v) → ca (tcn (tst pl N) w) = nI (tmk (fun q => tal F pl bN w q N && decide (x0 ≤ q)) 8) → tAC F pl N (P + x0 * tbl (w + 1)) vc sc → tNS F pl N stop (P + x0 * tbl (w + 1)) →
      ∃ n, n ≤ y * (1 + tS r) + 1 ∧ tRE F pl N stop w P ca bN (tit F pl N (tcn (tst pl N) 4) vr stop (true, tcn (tst pl N) w, ca, bo, vc, sc) n) := by
  intro y
  induction y using Nat.strongRecOn with
  | ind y ih =>
    intro x0 hxy ca bo vc sc hbo hca hac hns
    have hws := hn.2.1 hw
    have hK : tcn (tst pl N) w < tcn (tst pl N) 4 := tcn_rank hw hws
    obtain ⟨hvr, hvv⟩ := tpp_k hpp hw hws
    have hs := tbl_s hw
    have hp := tbl_pos (w + 1)
    have hbw : bN w = -1 := hn.2.2.2.2.2.2.1 w (Nat.le_refl _) hw
    -- the numbers of a value that isn't allowed
    have hno : ∀ a b, x0 ≤ a → a ≤ b → b ≤ 8 → (∀ q, a ≤ q → q < b → tal F pl bN w q N = false) → ∀ m, P + a * tbl (w + 1) ≤ m → m < P + b * tbl (w + 1) → tslv F pl N m = false := by
      intro a b _ hab hb8 hf m h1 h2
      have hq1 : (m - P) / tbl (w + 1) * tbl (w + 1) ≤ m - P := Nat.div_mul_le_self _ _
      have hq2 : m - P < ((m - P) / tbl (w + 1) + 1) * tbl (w + 1) := by
        have := Nat.lt_div_mul_add (a := m - P) hp
        rw [Nat.succ_mul]
        omega
      have hq3 : a ≤ (m - P) / tbl (w + 1) := (Nat.le_div_iff_mul_le hp).mpr (by omega)
      have hq4 : (m - P) / tbl (w + 1) < b := (Nat.div_lt_iff_lt_mul hp).mpr (by omega)
      exact tno_x hpl hw hn (x := (m - P) / tbl (w + 1)) (by omega) (hf _ hq3 hq4) (by omega) (by omega)
    by_cases hex : ∃ q, x0 ≤ q ∧ q < 8 ∧ tal F pl bN w q N = true
    · obtain ⟨x, ⟨hx0, hx8, hxa⟩, hmin⟩ := pk_least (fun q => x0 ≤ q ∧ q < 8 ∧ tal F pl bN w q N = true) hex
      have hlow : ∀ q, x0 ≤ q → q < x → tal F pl bN w q N = false := fun q h1 h2 => by
        cases e : tal F pl bN w q N with
        | false => rfl
        | true => exact absurd ⟨h1, by omega, e⟩ (hmin q h2)
      have hxm : ∀ a b : Nat, a ≤ b → a * tbl (w + 1) ≤ b * tbl (w + 1) := fun a b h => Nat.mul_le_mul_right _ h
      have hbit : (tmk (fun q => tal F pl bN w q N && decide (x0 ≤ q)) 8).testBit x = true := by
        rw [tmk_bit, hxa, decide_eq_true hx0, decide_eq_true hx8]; rfl
      have hbit0 : ∀ k, k < x → (tmk (fun q => tal F pl bN w q N && decide (x0 ≤ q)) 8).testBit k = false := fun k hk => by
        rw [tmk_bit]
        by_cases q : x0 ≤ k
        · rw [hlow k q hk]; simp
        · rw [decide_eq_false q]; simp
      have hlo : tlo (ca (tcn (tst pl N) w)).toNatClampNeg = x := by
        rw [hca, nI_clamp (Nat.lt_trans (tmk_8 _) (by decide)), tlo_eq hx8 hbit hbit0]
      have hne : ca (tcn (tst pl N) w) ≠ nI 0 := fun z => by
        rw [hca, nI_eq (Nat.lt_trans (tmk_8 _) (by decide)) (by decide)] at z
        rw [z, Nat.zero_testBit] at hbit
        cases hbit
      obtain ⟨w2, g1, g2, g3, g4⟩ := tnext (pl := pl) (N := N) (w + 1) (by omega)
      have hrk : tcn (tst pl N) w2 = tcn (tst pl N) w + 1 := by
        have h1 : tcn (tst pl N) (w + 1) = tcn (tst pl N) w + tb (tst pl N w) := rfl
        rw [hws, show tb true = 1 from rfl] at h1
        rw [← h1]
        exact tcn_skip w2 g1 g4
      have hac1 : tAC F pl N (P + x * tbl (w + 1)) vc sc := tAC_skip hac (by have := hxm x0 x hx0; omega) (hno x0 x (Nat.le_refl _) hx0 (by omega) hlow)
      have hns1 : tNS F pl N stop (P + x * tbl (w + 1)) := tNS_skip hns (by have := hxm x0 x hx0; omega) (hno x0 x (Nat.le_refl _) hx0 (by omega) hlow)
      -- one step down
      obtain ⟨ca1, bo1, hst, hb1, hc1, hc2⟩ : ∃ ca1 bo1 : Nat → Int32, tjit F pl N (tcn (tst pl N) 4) vr stop (true, tcn (tst pl N) w, ca, bo, vc, sc) = (true, tcn (tst pl N) w2, ca1, bo1, vc, sc) ∧ (∀ v, v < 4 → bo1 v = upd bN w (nI x) v) ∧ (∀ j, j ≤ tcn (tst pl N) w → ca1 j = tcd ca (tcn (tst pl N) w) x j) ∧ (w2 < 4 → ca1 (tcn (tst pl N) w2) = tms F pl N bo1 w2) := by
        by_cases q : w2 < 4
        · have hK2 : tcn (tst pl N) w2 < tcn (tst pl N) 4 := tcn_rank q (g3 q)
          obtain ⟨-, hvv2⟩ := tpp_k hpp q (g3 q)
          refine ⟨upd (tcd ca (tcn (tst pl N) w) x) (tcn (tst pl N) w2) (tms F pl N (upd (upd bo w (nI x)) w2 (-1)) w2), upd (upd bo w (nI x)) w2 (-1), ?_, ?_, ?_, ?_⟩
          · rw [tjit_down (by omega) hne hlo (by omega), ← hrk, hvv, hvv2]
          · intro v hv
            by_cases e : v = w2
            · rw [e, pk_us, pk_un (by omega)]; exact (hn.2.2.2.2.2.2.1 w2 (by omega) q).symm
            · rw [pk_un e]
              by_cases e2 : v = w
              · rw [e2, pk_us, pk_us]
              · rw [pk_un e2, pk_un e2]; exact hbo v hv e2
          · intro j hj
            rw [pk_un (by omega)]
          · intro _
            rw [pk_us]
        · have e4 : w2 = 4 := by omega
          refine ⟨tcd ca (tcn (tst pl N) w) x, upd bo w (nI x), ?_, ?_, ?_, fun z => absurd z q⟩
          · rw [tjit_last (by omega) hne hlo (by rw [e4] at hrk; omega), ← hrk, hvv]
          · intro v hv
            by_cases e2 : v = w
            · rw [e2, pk_us, pk_us]
            · rw [pk_un e2, pk_un e2]; exact hbo v hv e2
          · intro j hj; rfl
      have hnd := tchild hpl hw hn hx8 hxa g1 g2 g3 g4 hb1
      obtain ⟨n1, hn1, hre⟩ := IH w2 (P + x * tbl (w + 1)) ca1 bo1 vc sc (by omega) hnd hc2 hac1 hns1
      have hgo : tit F pl N (tcn (tst pl N) 4) vr stop (true, tcn (tst pl N) w, ca, bo, vc, sc) (1 + n1) = tit F pl N (tcn (tst pl N) 4) vr stop (true, tcn (tst pl N) w2, ca1, bo1, vc, sc) n1 := by
        rw [tit_add]
        show tit F pl N (tcn (tst pl N) 4) vr stop (tjit F pl N (tcn (tst pl N) 4) vr stop (true, tcn (tst pl N) w, ca, bo, vc, sc)) n1 = _
        rw [hst]
      have hy1 : 1 ≤ y := by omega
      have hle2 := tbl_le g1
      have hxs : (x + 1) * tbl (w + 1) = x * tbl (w + 1) + tbl (w + 1) := Nat.succ_mul x _
      have hx88 := hxm (x + 1) 8 (by omega)
      have hys : 1 * (1 + tS r) ≤ y * (1 + tS r) := Nat.mul_le_mul_right _ hy1
      rcases hre with ⟨ca2, bo2, vc2, sc2, e1, e2, e3, e4, e5⟩ | ⟨m, dp, ca2, bo2, vc2, sc2, m1, m2, m3, m4, m5, m6, m7⟩
      · -- done: go on behind x
        have hsk : ∀ m, P + x * tbl (w + 1) + tbl w2 ≤ m → m < P + (x + 1) * tbl (w + 1) → tslv F pl N m = false := fun m h1 h2 =>
          tno_skip g1 g2 (tbl_mod (x := x) hw hn.2.2.1 (show w < w + 1 by omega) (by omega)) g4 h1 (by omega)
        have hac2 := tAC_skip e4 (show P + x * tbl (w + 1) + tbl w2 ≤ P + (x + 1) * tbl (w + 1) by omega) hsk
        have hns2 := tNS_skip e5 (show P + x * tbl (w + 1) + tbl w2 ≤ P + (x + 1) * tbl (w + 1) by omega) hsk
        have hca2 : ca2 (tcn (tst pl N) w) = nI (tmk (fun q => tal F pl bN w q N && decide (x + 1 ≤ q)) 8) := by
          rw [e2 _ (by omega), hc1 _ (Nat.le_refl _)]
          unfold tcd
          rw [pk_us, hca, tcl_eq hx8]
          refine congrArg nI (tmk_congr 8 (fun q hq => ?_))
          by_cases h1 : x + 1 ≤ q
          · rw [decide_eq_true h1, decide_eq_true (show x0 ≤ q by omega), decide_eq_false (show ¬ q = x by omega)]; simp
          · rw [decide_eq_false h1, Bool.and_false]
            by_cases h2 : q = x
            · rw [decide_eq_true h2]; simp
            · by_cases h3 : x0 ≤ q
              · rw [hlow q h3 (by omega)]; rfl
              · rw [decide_eq_false h3]; simp
        have hbo2 : ∀ v, v < 4 → v ≠ w → bo2 v = bN v := fun v hv hne2 => by rw [e3 v hv, hb1 v hv, pk_un hne2]
        obtain ⟨n2, hn2, hre2⟩ := ih (8 - (x + 1)) (by omega) (x + 1) (by omega) ca2 bo2 vc2 sc2 hbo2 hca2 hac2 hns2
        refine ⟨1 + n1 + n2, ?_, ?_⟩
        · have h1 : (8 - (x + 1) + 1) * (1 + tS r) ≤ y * (1 + tS r) := Nat.mul_le_mul_right _ (by omega)
          rw [Nat.succ_mul] at h1
          omega
        · rw [tit_add, hgo, e1, hrk, decide_eq_true (show 1 ≤ tcn (tst pl N) w + 1 by omega), show tcn (tst pl N) w + 1 - 1 = tcn (tst pl N) w by omega]
          have hcaeq : ∀ j, j < tcn (tst pl N) w → ca2 j = ca j := fun j hj => by
            rw [e2 j (by omega), hc1 j (by omega)]
            unfold tcd
            rw [pk_un (by omega)]
          rcases hre2 with ⟨ca3, bo3, vc3, sc3, f1, f2, f3, f4⟩ | z
          · exact Or.inl ⟨ca3, bo3, vc3, sc3, f1, fun j hj => by rw [f2 j hj, hcaeq j hj], f3, f4⟩
          · exact Or.inr z
      · refine ⟨1 + n1, by omega, ?_⟩
        rw [hgo]
        exact Or.inr ⟨m, dp, ca2, bo2, vc2, sc2, by omega, m2, m3, m4, m5, m6, m7⟩
    · have hall : ∀ q, x0 ≤ q → q < 8 → tal F pl bN w q N = false := fun q h1 h2 => by
        cases e : tal F pl bN w q N with
        | false => rfl
        | true => exact absurd ⟨q, h1, h2, e⟩ hex
      have h0 : ca (tcn (tst pl N) w) = nI 0 := by
        rw [hca, tmk_congr (g := fun _ => false) 8 (fun q hq => by
          by_cases h1 : x0 ≤ q
          · rw [hall q h1 hq]; rfl
          · rw [decide_eq_false h1, Bool.and_false]), tmk_z8]
      have hx88 : x0 * tbl (w + 1) ≤ 8 * tbl (w + 1) := Nat.mul_le_mul_right _ (by omega)
      have hsk := hno x0 8 (Nat.le_refl _) (by omega) (Nat.le_refl _) hall
      refine ⟨1, by omega, Or.inl ⟨ca, upd bo w (-1), vc, sc, ?_, fun _ _ => rfl, fun v hv => ?_, ?_, ?_⟩⟩
      · show tjit F pl N (tcn (tst pl N) 4) vr stop (true, tcn (tst pl N) w, ca, bo, vc, sc) = _
        rw [tjit_back (by omega) h0, hvv]
      · by_cases e : v = w
        · rw [e, pk_us, hbw]
        · rw [pk_un e]; exact hbo v hv e
      · rw [hs]; exact tAC_skip hac (by omega) hsk
      · rw [hs]; exact tNS_skip hns (by omega) hsk
theorem tS_pos : ∀ r, 1 ≤ tS r
  | 0 => Nat.le_refl _
  | r + 1 => by show 1 ≤ 8 * (1 + tS r) + 1; omega
/-- the search below a node -/
theorem texplore {bo0 vc0 : Nat → Int32} (hpp : tpp pl N vr bo0 vc0) (hpl : ∀ j, j < 3 * N → tok (pl j)) : ∀ (r w P : Nat) (ca bo vc : Nat → Int32) (sc : Int32), 4 - w ≤ r → tND F pl N w P bo → (w < 4 → ca (tcn (tst pl N) w) = tms F pl N bo w) → tAC F pl N P vc sc → tNS F pl N stop P → ∃ n, n ≤ tS r ∧ tRE F pl N stop w P ca bo (tit F pl N (tcn (tst pl N) 4) vr stop (true, tcn (tst pl N) w, ca, bo, vc, sc) n) := by
  intro r
  induction r with
  | zero =>
    intro w P ca bo vc sc hwr hn hca hac hns
    have hw4 : w = 4 := by have := hn.1; omega
    subst hw4
    exact ⟨1, Nat.le_refl _, tleaf hpp hpl hn hac hns⟩
  | succ r ih =>
    intro w P ca bo vc sc hwr hn hca hac hns
    by_cases hw : w < 4
    · have hca2 : ca (tcn (tst pl N) w) = nI (tmk (fun q => tal F pl bo w q N && decide (0 ≤ q)) 8) := by
        rw [hca hw]
        unfold tms
        exact congrArg nI (tmk_congr 8 (fun q _ => by rw [decide_eq_true (Nat.zero_le q), Bool.and_true]))
      exact tinner hpp hpl hw hn r (fun w2 P2 ca2 bo2 vc2 sc2 h1 h2 h3 h4 h5 => ih w2 P2 ca2 bo2 vc2 sc2 (by omega) h2 h3 h4 h5) 8 0 (by omega) ca bo vc sc (fun _ _ _ => rfl) hca2 (by rw [Nat.zero_mul, Nat.add_zero]; exact hac) (by rw [Nat.zero_mul, Nat.add_zero]; exact hns)
    · have hw4 : w = 4 := by have := hn.1; omega
      subst hw4
      exact ⟨1, tS_pos _, tleaf hpp hpl hn hac hns⟩
theorem tgh_i {i : Nat} : ∀ n, tgh F pl n = true → i < n → tgr pl i = true → 0 < tC3 F (pl (3 * i)) (pl (3 * i + 1)) (pl (3 * i + 2))
  | 0, _, h, _ => absurd h (Nat.not_lt_zero i)
  | n + 1, h, hi, hg => by
    have h : (tgh F pl n && (!tgr pl n || decide (0 < tC3 F (pl (3 * n)) (pl (3 * n + 1)) (pl (3 * n + 2))))) = true := h
    rw [Bool.and_eq_true] at h
    by_cases e : i = n
    · subst e
      have h2 := h.2
      rw [hg] at h2
      exact of_decide_eq_true h2
    · exact tgh_i n h.1 (by omega) hg
theorem tgh_n : ∀ n, tgh F pl n = false → ∃ i, i < n ∧ tgr pl i = true ∧ ¬ 0 < tC3 F (pl (3 * i)) (pl (3 * i + 1)) (pl (3 * i + 2))
  | 0, h => by cases h
  | n + 1, h => by
    have h : (tgh F pl n && (!tgr pl n || decide (0 < tC3 F (pl (3 * n)) (pl (3 * n + 1)) (pl (3 * n + 2))))) = false := h
    cases e : tgh F pl n with
    | false =>
      obtain ⟨i, h1, h2⟩ := tgh_n n e
      exact ⟨i, by omega, h2⟩
    | true =>
      rw [e, Bool.true_and, Bool.or_eq_false_iff] at h
      exact ⟨n, by omega, tnotf2 h.1, of_decide_eq_false h.2⟩
theorem tgr_kn {b : Nat → Int32} {i : Nat} (h : tgr pl i = true) : ∀ j, j < 3 → tkn b (pl (3 * i + j)) = pl (3 * i + j) := by
  unfold tgr at h
  rw [Bool.and_eq_true, Bool.and_eq_true] at h
  obtain ⟨⟨h0, h1⟩, h2⟩ := h
  intro j hj
  rcases (show j = 0 ∨ j = 1 ∨ j = 2 by omega) with rfl | rfl | rfl
  · exact if_pos (of_decide_eq_true h0)
  · exact if_pos (of_decide_eq_true h1)
  · exact if_pos (of_decide_eq_true h2)
/-- the join answers as the numbers say -/
theorem tjr_res {he : Int32} {ob pr su go si : Nat → Int32} {bo ca vc : Nat → Int32} {sc : Int32} (hN : N ≤ 4) (hpl : ∀ j, j < 3 * N → tok (pl j)) (h : tjr F pl N stop vr bo ca vc sc) : tres F pl N stop bo vc sc := by
  obtain ⟨ca0, bo0, vc0, op, dp, hpp, hit⟩ := h
  have hz : ∀ v x, v < 4 → x < 8 → vc0 (8 * v + x) = nI 0 := fun v x hv hx => hpp.2.2 _ (by omega)
  cases hg : tgh F pl N with
  | false =>
    have hno : ∀ m, tslv F pl N m = false := by
      intro m
      cases e : tslv F pl N m with
      | false => rfl
      | true =>
        exfalso
        unfold tslv at e
        rw [Bool.and_eq_true] at e
        obtain ⟨i, hi, hgr, hn⟩ := tgh_n N hg
        have h1 := tps_i N e.2 hi
        have k := tgr_kn (b := tbn m) hgr
        have k0 := k 0 (by decide)
        rw [Nat.add_zero] at k0
        rw [k0, k 1 (by decide), k 2 (by decide)] at h1
        exact hn h1
    have hct : ∀ k, tct F pl N k = 0 := fun k => tcn_skip (a := 0) k (Nat.zero_le _) (fun i _ _ => hno i)
    have hcw : ∀ v y k, tcw F pl N v y k = 0 := fun v y k => tcn_skip (a := 0) k (Nat.zero_le _) (fun i _ _ => by rw [hno i]; rfl)
    have hs := tit_shut (F := F) (pl := pl) (N := N) (K := tcn (tst pl N) 4) (vr := vr) (stop := stop) (σ := tj0 F pl N vr ca0 bo0 vc0) (i := 0) (show (tj0 F pl N vr ca0 bo0 vc0).1 = false from hg) 10000
    rw [Nat.zero_add, hit] at hs
    have hs : (op, dp, ca, bo, vc, sc) = tj0 F pl N vr ca0 bo0 vc0 := hs
    unfold tj0 at hs
    cases hs
    refine ⟨fun _ => ⟨by rw [hct], fun v hv _ x hx => by rw [hcw]; exact hz v x hv hx⟩, fun hn => Or.inr ⟨fun m hm hs => ?_, fun z => hn (by rw [nI_0] at z; exact z)⟩⟩
    rw [hno m] at hs
    cases hs
  | true =>
    obtain ⟨w, -, w4, ws, wn⟩ := tnext (pl := pl) (N := N) 0 (by decide)
    have hrk : tcn (tst pl N) w = 0 := tcn_skip (a := 0) w (Nat.zero_le _) wn
    have hnd : tND F pl N w 0 bo0 := by
      refine ⟨w4, ws, Nat.zero_mod _, by decide, fun v hv hs => ?_, fun v hv _ => ⟨?_, hpp.2.1 v (by omega)⟩, fun v _ hv => hpp.2.1 v hv, fun i hi hvar => ?_⟩
      · rw [wn v (Nat.zero_le _) hv] at hs; cases hs
      · obtain ⟨d0, d1, d2, d3⟩ := tdg_v 0
        rcases t4 (show v < 4 by omega) with rfl | rfl | rfl | rfl <;> omega
      · have hgr : ∀ j, j < 3 → 0 ≤ pl (3 * i + j) := fun j hj => by
          rcases hpl (3 * i + j) (by omega) with ⟨S, hS, e⟩ | ⟨v, hv, e⟩
          · rw [e]; exact nI_pos' (by omega)
          · have h1 := hvar j hj v hv e
            have h2 := wn v (Nat.zero_le _) h1
            rw [tst_pl (by omega) hv e] at h2
            cases h2
        have hgg : tgr pl i = true := by
          have g0 := hgr 0 (by decide)
          rw [Nat.add_zero] at g0
          unfold tgr
          rw [decide_eq_true g0, decide_eq_true (hgr 1 (by decide)), decide_eq_true (hgr 2 (by decide))]
          rfl
        have k := tgr_kn (b := bo0) hgg
        have k0 := k 0 (by decide)
        rw [Nat.add_zero] at k0
        rw [k0, k 1 (by decide), k 2 (by decide)]
        exact tgh_i N hg hi hgg
    have hac : tAC F pl N 0 vc0 (nI 0) := ⟨rfl, fun v hv _ x hx => hz v x hv hx⟩
    have hns : tNS F pl N stop 0 := by
      by_cases q : stop < 0
      · exact Or.inl q
      · exact Or.inr (by show nI 0 ≤ stop; rw [nI_0]; exact Int32.not_lt.mp q)
    obtain ⟨ca1, hj0, hc1⟩ : ∃ ca1 : Nat → Int32, tj0 F pl N vr ca0 bo0 vc0 = (true, tcn (tst pl N) w, ca1, bo0, vc0, nI 0) ∧ (w < 4 → ca1 (tcn (tst pl N) w) = tms F pl N bo0 w) := by
      unfold tj0
      rw [hrk, hg]
      refine ⟨_, rfl, fun q => ?_⟩
      have h1 := tcn_rank (f := tst pl N) q (ws q)
      rw [hrk] at h1
      obtain ⟨-, h2⟩ := tpp_k hpp q (ws q)
      rw [hrk] at h2
      rw [if_pos ⟨rfl, h1⟩, pk_us, h2]
    obtain ⟨n, hn, hre⟩ := texplore (stop := stop) hpp hpl 4 w 0 ca1 bo0 vc0 (nI 0) (by omega) hnd hc1 hac hns
    have hn2 : n ≤ 10000 := Nat.le_trans hn (by decide)
    rw [← hj0] at hre
    have hshut : ∀ (d2 : Nat) (ca2 bo2 vc2 : Nat → Int32) (sc2 : Int32), tit F pl N (tcn (tst pl N) 4) vr stop (tj0 F pl N vr ca0 bo0 vc0) n = (false, d2, ca2, bo2, vc2, sc2) → bo = bo2 ∧ vc = vc2 ∧ sc = sc2 := by
      intro d2 ca2 bo2 vc2 sc2 e
      have hs := tit_shut (F := F) (pl := pl) (N := N) (K := tcn (tst pl N) 4) (vr := vr) (stop := stop) (σ := tj0 F pl N vr ca0 bo0 vc0) (i := n) (by rw [e]) (10000 - n)
      rw [show n + (10000 - n) = 10000 by omega, hit, e] at hs
      cases hs
      exact ⟨rfl, rfl, rfl⟩
    rcases hre with ⟨ca2, bo2, vc2, sc2, e1, e2, e3, e4, e5⟩ | ⟨m, d2, ca2, bo2, vc2, sc2, m1, m2, m3, m4, m5, m6, m7⟩
    · rw [hrk, decide_eq_false (by decide)] at e1
      obtain ⟨rfl, rfl, rfl⟩ := hshut _ _ _ _ _ e1
      have b0 : tbl 0 = 4096 := by decide
      have hle := tbl_le (Nat.zero_le w)
      rw [b0] at hle
      have hsk : ∀ m, 0 + tbl w ≤ m → m < 4096 → tslv F pl N m = false := fun m h1 h2 => tno_skip (a := 0) (P := 0) (Nat.zero_le w) w4 (Nat.zero_mod _) wn h1 (by rw [b0]; omega)
      have hac4 := tAC_skip e4 (b := 4096) (by omega) hsk
      have hns4 := tNS_skip e5 (b := 4096) (by omega) hsk
      refine ⟨fun _ => hac4, fun hn0 => Or.inr ?_⟩
      have hle4 : nI (tct F pl N 4096) ≤ stop := hns4.elim (fun z => absurd z hn0) id
      refine ⟨fun m hm hs z => ?_, fun z => ?_⟩
      · have h1 := tcn_rank (f := tslv F pl N) hm hs
        rw [← z, nI_leI (tct_lt F pl N 4096 (Nat.le_refl _)) (tct_lt F pl N m (by omega))] at hle4
        unfold tct at hle4
        omega
      · rw [hac4.1] at z
        exact absurd z (Int32.not_lt.mpr hle4)
    · obtain ⟨rfl, rfl, rfl⟩ := hshut _ _ _ _ _ m2
      have hle := tbl_le (Nat.zero_le w)
      have b0 : tbl 0 = 4096 := by decide
      rw [b0] at hle
      exact ⟨fun z => absurd z m5, fun _ => Or.inl ⟨m, by omega, m3, m4, m6, m7⟩⟩
end TDFS2
end
section
set_option maxHeartbeats 1000000 in
set_option maxRecDepth 100000 in
/-- solutions -/
theorem m_solutions {l : Launch} {D : va_G} {d z : ClassId} {h : Nat} {a : Nat → Nat} {he : Int32} {ob pr su go si : Nat → Int32} {N : Nat} {pl : Nat → Int32} {nv : Int32} {vr bo ca vc : Nat → Int32} {sc : Int32} {F : Nat → Bool} (hI : tTI F he ob pr su go si) (hN : N ≤ 4) (hpl : ∀ j, j < 3 * N → tok (pl j)) : Met l yX0_solutions (ws_ yX0_solutions cX0_solutions 1 (some .int)) (rm_ 7 158) (pJ D d z (wJ h a d he ob pr su go si (nI N) pl nv vr bo ca vc sc) [.ref h]) (va_Qi (fun (r_ : Int32) (u : Int32 × (Nat → Int32) × (Nat → Int32) × (Nat → Int32) × (Nat → Int32) × Int32) => r_ = nI (tct F pl N 4096)) (fun u t => va_P D vwCl (wJ h a d he ob pr su go si (nI N) pl u.1 u.2.1 u.2.2.1 u.2.2.2.1 u.2.2.2.2.1 u.2.2.2.2.2) t.heap) (oJ h a)) 0 0 (oJ h a) := by
  refine Met.ofW (cc := cX0_solutions) (maxL := 1) (ret := (some .int)) (by decide) rfl ?_
  intro p e s m args below meth c s₁ B hml hv
  obtain ⟨rfl, hP, hK, hD⟩ := hv
  have hx := B.exec
  have hb := B.bytes
  have hr := B.returns
  have hts := atoms_spec (ws := (ws_ yX0_solutions cX0_solutions 1 (some .int))) B.pre
  have hts : ∀ w ∈ lw_all, w.before _ s = true := fun w h => hts w (List.mem_cons_of_mem _ h)
  have hown : s.vm.findClass RX0 = some m.cls := findClass_of_methodNamed B.named
  have hlocks := B.notSynchronized
  have hD := oJ_D hD
  have hS : va_S (oJ h a) s.heap s.heap [] := va_S.rf
  have hl := lv_entry ([.ref h]) (n := 1) (Nat.le_of_ble_eq_true rfl)
  rw [lg_entry_eq]
  generalize (lg_sl ([.ref h]) ++ List.replicate (1 - (lg_sl ([.ref h])).length) Slot.unset).toArray = ls at hl ⊢
  have hl : lv_has ls 1 [(0, .ref h)] := hl
  refine lv_aload_n hx hb dX0_solutions_0 rfl (lv_at hl 0 rfl) ?_
  refine lv_iconst (v := (-1)) hx hb dX0_solutions_1 (by decide) ?_
  refine va_callv (va_runV (As := [.int (-1)]) (rest := []) ⟨hx, hb, hml, hown, hts⟩ (m_join hI hN hpl (-1)) (cwV 1 hts (lw_V q99 q101 qs1 q18 q102) rfl rfl rfl (by decide +kernel) ⟨Nat.le_of_ble_eq_true rfl, Nat.le_of_ble_eq_true rfl⟩) (pJ_preJ hK hP hD rfl) rfl rfl hl.1 rfl (lv_room (Nat.le_of_ble_eq_true rfl)) dX0_solutions_2 ⟨Nat.le_refl _, Nat.le_refl _⟩) hS (fun q _ h9 => h9) (fun q h9 => h9) (fun u_ t_ H locs ht_ hvm_ hu hB _ _ hS => ?_)
  obtain ⟨vr_, bo_, ca_, vc_, sc_⟩ := u_
  rw [ht_] at hB
  have hP : va_P D vwCl (wJ h a d he ob pr su go si (nI N) pl (nI (tcn (tst pl N) 4)) vr_ bo_ ca_ vc_ sc_) H := hB
  have hD : va_D (oJ h a) (wJ h a d he ob pr su go si (nI N) pl (nI (tcn (tst pl N) 4)) vr_ bo_ ca_ vc_ sc_) := va_D_re hD rfl
  have hres := tjr_res (he := he) (ob := ob) (pr := pr) (su := su) (go := go) (si := si) hN hpl hu
  refine lv_aload_n hx hb dX0_solutions_5 rfl (lv_at hl 0 rfl) ?_
  refine va_get (D := D) (ci := 0) (v := .int sc_) (C := RX0) (T := TX0) (N := 14) hx hb hts in_X0 hown hK hP 0 rfl rfl 13 (by decide) (hts _ q41) (fun _ h9 => h9) rfl dX0_solutions_6 ?_
  exact W.iret (v := sc_) hx hb hr (fun t ht hW => ⟨⟨_, (nI (tcn (tst pl N) 4), vr_, bo_, ca_, vc_, sc_), rfl, (hres.1 (by decide)).1, by show va_P D vwCl _ t.heap; rw [ht]; exact hP⟩, hS.F ht⟩) hS.2.2 dX0_solutions_9

set_option maxHeartbeats 1000000 in
set_option maxRecDepth 100000 in
/-- solution -/
theorem m_solution {l : Launch} {D : va_G} {d z : ClassId} {h : Nat} {a : Nat → Nat} {he : Int32} {ob pr su go si : Nat → Int32} {N : Nat} {pl : Nat → Int32} {nv : Int32} {vr bo ca vc : Nat → Int32} {sc : Int32} {F : Nat → Bool} (hI : tTI F he ob pr su go si) (hN : N ≤ 4) (hpl : ∀ j, j < 3 * N → tok (pl j)) (k_ v_ : Int32) : Met l yX0_solution (ws_ yX0_solution cX0_solution 3 (some .int)) (rm_ 7 158) (pJ D d z (wJ h a d he ob pr su go si (nI N) pl nv vr bo ca vc sc) [.ref h, .int k_, .int v_]) (va_Qi (fun (r_ : Int32) (u : Int32 × (Nat → Int32) × (Nat → Int32) × (Nat → Int32) × (Nat → Int32) × Int32) => tsol F pl N k_ v_ r_) (fun u t => va_P D vwCl (wJ h a d he ob pr su go si (nI N) pl u.1 u.2.1 u.2.2.1 u.2.2.2.1 u.2.2.2.2.1 u.2.2.2.2.2) t.heap) (oJ h a)) 0 0 (oJ h a) := by
  refine Met.ofW (cc := cX0_solution) (maxL := 3) (ret := (some .int)) (by decide) rfl ?_
  intro p e s m args below meth c s₁ B hml hv
  obtain ⟨rfl, hP, hK, hD⟩ := hv
  have hx := B.exec
  have hb := B.bytes
  have hr := B.returns
  have hts := atoms_spec (ws := (ws_ yX0_solution cX0_solution 3 (some .int))) B.pre
  have hts : ∀ w ∈ lw_all, w.before _ s = true := fun w h => hts w (List.mem_cons_of_mem _ h)
  have hown : s.vm.findClass RX0 = some m.cls := findClass_of_methodNamed B.named
  have hlocks := B.notSynchronized
  have hD := oJ_D hD
  have hS : va_S (oJ h a) s.heap s.heap [] := va_S.rf
  have hl := lv_entry ([.ref h, .int k_, .int v_]) (n := 3) (Nat.le_of_ble_eq_true rfl)
  rw [lg_entry_eq]
  generalize (lg_sl ([.ref h, .int k_, .int v_]) ++ List.replicate (3 - (lg_sl ([.ref h, .int k_, .int v_])).length) Slot.unset).toArray = ls at hl ⊢
  have hl : lv_has ls 3 [(0, .ref h), (1, .int k_), (2, .int v_)] := hl
  refine lv_aload_n hx hb dX0_solution_0 rfl (lv_at hl 0 rfl) ?_
  refine lv_iload_n hx hb dX0_solution_1 rfl (lv_at hl 2 rfl) ?_
  refine vp_callSi (W.runV (As := [.int v_]) (rest := []) ⟨hx, hb, hml, hown, hts⟩ (m_stands hN v_) (cwV 1 hts (lw_V q107 q109 qs3 q18 q110) rfl rfl rfl (by decide +kernel) ⟨Nat.le_of_ble_eq_true rfl, Nat.le_of_ble_eq_true rfl⟩) (pJ_preJ hK hP hD rfl) rfl rfl hl.1 rfl (lv_room (Nat.le_of_ble_eq_true rfl)) dX0_solution_2 ⟨Nat.le_refl _, Nat.le_refl _⟩) (fun r_2 hr_2 => ?_)
  subst hr_2
  refine tn_if_eq (tgt := 12) hx hb dX0_solution_5 (by decide) (tb_lt _) (fun c_5 => ?_) (fun c_5 => ?_)
  · refine lv_iconst (v := (-1)) hx hb dX0_solution_12 (by decide) ?_
    exact W.iret (v := (-1)) hx hb hr (fun t ht hW => ⟨⟨_, (nv, vr, bo, ca, vc, sc), rfl, Or.inl ⟨tb_0 c_5, rfl⟩, by show va_P D vwCl _ t.heap; rw [ht]; exact hP⟩, hS.F ht⟩) hS.2.2 dX0_solution_13
  · refine lv_iload_n hx hb dX0_solution_8 rfl (lv_at hl 1 rfl) ?_
    refine lv_if_ge (tgt := 14) hx hb dX0_solution_9 (by decide) (fun c_9 => ?_) (fun c_9 => ?_)
    · have hst := tb_1 c_5
      obtain ⟨V, hV4, rfl⟩ := tsd_v hst
      refine lv_aload_n hx hb dX0_solution_14 rfl (lv_at hl 0 rfl) ?_
      refine lv_iload_n hx hb dX0_solution_15 rfl (lv_at hl 1 rfl) ?_
      refine va_callv (va_runV (As := [.int k_]) (rest := []) ⟨hx, hb, hml, hown, hts⟩ (m_join hI hN hpl k_) (cwV 1 hts (lw_V q99 q101 qs1 q18 q102) rfl rfl rfl (by decide +kernel) ⟨Nat.le_of_ble_eq_true rfl, Nat.le_of_ble_eq_true rfl⟩) (pJ_preJ hK hP hD rfl) rfl rfl hl.1 rfl (lv_room (Nat.le_of_ble_eq_true rfl)) dX0_solution_16 ⟨Nat.le_refl _, Nat.le_refl _⟩) hS (fun q _ h9 => h9) (fun q h9 => h9) (fun u_ t_ H locs ht_ hvm_ hu hB _ _ hS => ?_)
      obtain ⟨vr_, bo_, ca_, vc_, sc_⟩ := u_
      rw [ht_] at hB
      have hP : va_P D vwCl (wJ h a d he ob pr su go si (nI N) pl (nI (tcn (tst pl N) 4)) vr_ bo_ ca_ vc_ sc_) H := hB
      have hD : va_D (oJ h a) (wJ h a d he ob pr su go si (nI N) pl (nI (tcn (tst pl N) 4)) vr_ bo_ ca_ vc_ sc_) := va_D_re hD rfl
      have hres := tjr_res (he := he) (ob := ob) (pr := pr) (su := su) (go := go) (si := si) hN hpl hu
      have hres2 := hres.2 (Int32.not_lt.mpr c_9)
      refine lv_aload_n hx hb dX0_solution_19 rfl (lv_at hl 0 rfl) ?_
      refine va_get (D := D) (ci := 0) (v := .int sc_) (C := RX0) (T := TX0) (N := 14) hx hb hts in_X0 hown hK hP 0 rfl rfl 13 (by decide) (hts _ q41) (fun _ h9 => h9) rfl dX0_solution_20 ?_
      refine lv_iload_n hx hb dX0_solution_23 rfl (lv_at hl 1 rfl) ?_
      refine lv_icmp_le (tgt := 38) hx hb dX0_solution_24 (by decide) (fun c_24 => ?_) (fun c_24 => ?_)
      · refine lv_iconst (v := (-1)) hx hb dX0_solution_38 (by decide) ?_
        exact W.iret (v := (-1)) hx hb hr (fun t ht hW => ⟨⟨_, (nI (tcn (tst pl N) 4), vr_, bo_, ca_, vc_, sc_), rfl, Or.inr ⟨hst, hres2.elim (fun ⟨m, h1, h2, h3, h4, _⟩ => absurd h4 (Int32.not_lt.mpr c_24)) (fun z => Or.inr ⟨z.1, rfl⟩)⟩, by show va_P D vwCl _ t.heap; rw [ht]; exact hP⟩, hS.F ht⟩) hS.2.2 dX0_solution_39
      · refine lv_aload_n hx hb dX0_solution_27 rfl (lv_at hl 0 rfl) ?_
        refine va_get (D := D) (ci := 0) (v := .ref (a 10)) (C := RX0) (T := TX0) (N := 14) hx hb hts in_X0 hown hK hP 0 rfl rfl 10 (by decide) (hts _ q38) (fun _ h9 => h9) rfl dX0_solution_28 ?_
        refine lv_iconst (v := (-1)) hx hb dX0_solution_31 (by decide) ?_
        refine lv_iload_n hx hb dX0_solution_32 rfl (lv_at hl 2 rfl) ?_
        refine lv_isub hx hb dX0_solution_33 ?_
        refine tn_as (nI V) (t_back V) ?_
        refine tn_iald hx hb hK hP 8 0 rfl rfl (j := V) (by omega) (by decide) dX0_solution_34 ?_
        refine lv_goto (tgt := 39) hx hb dX0_solution_35 (by decide) ?_
        exact W.iret (v := bo_ V) hx hb hr (fun t ht hW => ⟨⟨_, (nI (tcn (tst pl N) 4), vr_, bo_, ca_, vc_, sc_), rfl, Or.inr ⟨hst, hres2.elim (fun ⟨m, h1, h2, h3, h4, h5⟩ => Or.inl ⟨m, h1, h2, h3, by rw [t_bk hV4]; exact h5 V hV4 hst⟩) (fun z => absurd (Int32.not_le.mp c_24) z.2)⟩, by show va_P D vwCl _ t.heap; rw [ht]; exact hP⟩, hS.F ht⟩) hS.2.2 dX0_solution_39
    · refine lv_iconst (v := (-1)) hx hb dX0_solution_12 (by decide) ?_
      exact W.iret (v := (-1)) hx hb hr (fun t ht hW => ⟨⟨_, (nv, vr, bo, ca, vc, sc), rfl, Or.inr ⟨tb_1 c_5, Or.inr ⟨fun m hm _ => t_neg_ne (tct_lt F pl N m (by omega)) (Int32.not_le.mp c_9), rfl⟩⟩, by show va_P D vwCl _ t.heap; rw [ht]; exact hP⟩, hS.F ht⟩) hS.2.2 dX0_solution_13

set_option maxHeartbeats 1000000 in
set_option maxRecDepth 100000 in
/-- with -/
theorem m_with {l : Launch} {D : va_G} {d z : ClassId} {h : Nat} {a : Nat → Nat} {he : Int32} {ob pr su go si : Nat → Int32} {N : Nat} {pl : Nat → Int32} {nv : Int32} {vr bo ca vc : Nat → Int32} {sc : Int32} {F : Nat → Bool} (hI : tTI F he ob pr su go si) (hN : N ≤ 4) (hpl : ∀ j, j < 3 * N → tok (pl j)) (v_ x_ : Int32) : Met l yX0_with (ws_ yX0_with cX0_with 3 (some .int)) (rm_ 7 158) (pJ D d z (wJ h a d he ob pr su go si (nI N) pl nv vr bo ca vc sc) [.ref h, .int v_, .int x_]) (va_Qi (fun (r_ : Int32) (u : Int32 × (Nat → Int32) × (Nat → Int32) × (Nat → Int32) × (Nat → Int32) × Int32) => r_ = twi F pl N v_ x_) (fun u t => va_P D vwCl (wJ h a d he ob pr su go si (nI N) pl u.1 u.2.1 u.2.2.1 u.2.2.2.1 u.2.2.2.2.1 u.2.2.2.2.2) t.heap) (oJ h a)) 0 0 (oJ h a) := by
  refine Met.ofW (cc := cX0_with) (maxL := 3) (ret := (some .int)) (by decide) rfl ?_
  intro p e s m args below meth c s₁ B hml hv
  obtain ⟨rfl, hP, hK, hD⟩ := hv
  have hx := B.exec
  have hb := B.bytes
  have hr := B.returns
  have hts := atoms_spec (ws := (ws_ yX0_with cX0_with 3 (some .int))) B.pre
  have hts : ∀ w ∈ lw_all, w.before _ s = true := fun w h => hts w (List.mem_cons_of_mem _ h)
  have hown : s.vm.findClass RX0 = some m.cls := findClass_of_methodNamed B.named
  have hlocks := B.notSynchronized
  have hD := oJ_D hD
  have hS : va_S (oJ h a) s.heap s.heap [] := va_S.rf
  have hl := lv_entry ([.ref h, .int v_, .int x_]) (n := 3) (Nat.le_of_ble_eq_true rfl)
  rw [lg_entry_eq]
  generalize (lg_sl ([.ref h, .int v_, .int x_]) ++ List.replicate (3 - (lg_sl ([.ref h, .int v_, .int x_])).length) Slot.unset).toArray = ls at hl ⊢
  have hl : lv_has ls 3 [(0, .ref h), (1, .int v_), (2, .int x_)] := hl
  refine lv_aload_n hx hb dX0_with_0 rfl (lv_at hl 0 rfl) ?_
  refine lv_iload_n hx hb dX0_with_1 rfl (lv_at hl 1 rfl) ?_
  refine vp_callSi (W.runV (As := [.int v_]) (rest := []) ⟨hx, hb, hml, hown, hts⟩ (m_stands hN v_) (cwV 1 hts (lw_V q107 q109 qs3 q18 q110) rfl rfl rfl (by decide +kernel) ⟨Nat.le_of_ble_eq_true rfl, Nat.le_of_ble_eq_true rfl⟩) (pJ_preJ hK hP hD rfl) rfl rfl hl.1 rfl (lv_room (Nat.le_of_ble_eq_true rfl)) dX0_with_2 ⟨Nat.le_refl _, Nat.le_refl _⟩) (fun r_2 hr_2 => ?_)
  subst hr_2
  refine tn_if_ne (tgt := 10) hx hb dX0_with_5 (by decide) (tb_lt _) (fun c_5 => ?_) (fun c_5 => ?_)
  · have hst := tb_1 c_5
    obtain ⟨V, hV4, rfl⟩ := tsd_v hst
    refine lv_aload_n hx hb dX0_with_10 rfl (lv_at hl 0 rfl) ?_
    refine lv_iconst (v := (-1)) hx hb dX0_with_11 (by decide) ?_
    refine va_callv (va_runV (As := [.int (-1)]) (rest := []) ⟨hx, hb, hml, hown, hts⟩ (m_join hI hN hpl (-1)) (cwV 1 hts (lw_V q99 q101 qs1 q18 q102) rfl rfl rfl (by decide +kernel) ⟨Nat.le_of_ble_eq_true rfl, Nat.le_of_ble_eq_true rfl⟩) (pJ_preJ hK hP hD rfl) rfl rfl hl.1 rfl (lv_room (Nat.le_of_ble_eq_true rfl)) dX0_with_12 ⟨Nat.le_refl _, Nat.le_refl _⟩) hS (fun q _ h9 => h9) (fun q h9 => h9) (fun u_ t_ H locs ht_ hvm_ hu hB _ _ hS => ?_)
    obtain ⟨vr_, bo_, ca_, vc_, sc_⟩ := u_
    rw [ht_] at hB
    have hP : va_P D vwCl (wJ h a d he ob pr su go si (nI N) pl (nI (tcn (tst pl N) 4)) vr_ bo_ ca_ vc_ sc_) H := hB
    have hD : va_D (oJ h a) (wJ h a d he ob pr su go si (nI N) pl (nI (tcn (tst pl N) 4)) vr_ bo_ ca_ vc_ sc_) := va_D_re hD rfl
    have hres := tjr_res (he := he) (ob := ob) (pr := pr) (su := su) (go := go) (si := si) hN hpl hu
    have hres2 := (hres.1 (by decide)).2 V hV4 hst
    refine lv_iload_n hx hb dX0_with_15 rfl (lv_at hl 2 rfl) ?_
    refine vp_callSi (W.runS (As := [.int x_]) (rest := []) ⟨hx, hb, hml, hown, hts⟩ (m_isPart l x_) (va_cwS 1 hts (lw_S q76 q77 q18 q78) rfl rfl rfl (by decide +kernel) ⟨Nat.le_of_ble_eq_true rfl, Nat.le_of_ble_eq_true rfl⟩) pS_pre rfl rfl hl.1 rfl (lv_room (Nat.le_of_ble_eq_true rfl)) dX0_with_16 ⟨Nat.le_refl _, Nat.le_refl _⟩) (fun r_16 hr_16 => ?_)
    subst hr_16
    refine tn_if_eq (tgt := 38) hx hb dX0_with_19 (by decide) (tb_lt _) (fun c_19 => ?_) (fun c_19 => ?_)
    · refine lv_iconst (v := nI 0) hx hb dX0_with_38 (by decide) ?_
      exact W.iret (v := nI 0) hx hb hr (fun t ht hW => ⟨⟨_, (nI (tcn (tst pl N) 4), vr_, bo_, ca_, vc_, sc_), rfl, (by unfold twi; rw [hst, if_pos rfl, tcw_np (tb_0 c_19)]), by show va_P D vwCl _ t.heap; rw [ht]; exact hP⟩, hS.F ht⟩) hS.2.2 dX0_with_39
    · obtain ⟨X, hX8, rfl⟩ := tpa_t (tb_1 c_19)
      refine lv_aload_n hx hb dX0_with_22 rfl (lv_at hl 0 rfl) ?_
      refine va_get (D := D) (ci := 0) (v := .ref (a 12)) (C := RX0) (T := TX0) (N := 14) hx hb hts in_X0 hown hK hP 0 rfl rfl 12 (by decide) (hts _ q40) (fun _ h9 => h9) rfl dX0_with_23 ?_
      refine lv_bipush (v := nI 8) hx hb dX0_with_26 (by decide) ?_
      refine lv_iconst (v := (-1)) hx hb dX0_with_28 (by decide) ?_
      refine lv_iload_n hx hb dX0_with_29 rfl (lv_at hl 1 rfl) ?_
      refine lv_isub hx hb dX0_with_30 ?_
      refine tn_as (nI V) (t_back V) ?_
      refine tn_imul hx hb dX0_with_31 ?_
      refine lv_iload_n hx hb dX0_with_32 rfl (lv_at hl 2 rfl) ?_
      refine tn_iadd hx hb dX0_with_33 ?_
      refine tn_iald hx hb hK hP 10 0 rfl rfl (j := (8 * V) + X) (by omega) (by decide) dX0_with_34 ?_
      refine lv_goto (tgt := 39) hx hb dX0_with_35 (by decide) ?_
      exact W.iret (v := vc_ ((8 * V) + X)) hx hb hr (fun t ht hW => ⟨⟨_, (nI (tcn (tst pl N) 4), vr_, bo_, ca_, vc_, sc_), rfl, (by unfold twi; rw [hst, if_pos rfl, t_bk hV4]; exact hres2 X hX8), by show va_P D vwCl _ t.heap; rw [ht]; exact hP⟩, hS.F ht⟩) hS.2.2 dX0_with_39
  · refine lv_iconst (v := (-1)) hx hb dX0_with_8 (by decide) ?_
    exact W.iret (v := (-1)) hx hb hr (fun t ht hW => ⟨⟨_, (nv, vr, bo, ca, vc, sc), rfl, (by unfold twi; rw [tb_0 c_5]; rfl), by show va_P D vwCl _ t.heap; rw [ht]; exact hP⟩, hS.F ht⟩) hS.2.2 dX0_with_9

set_option maxHeartbeats 1000000 in
set_option maxRecDepth 100000 in
/-- values -/
theorem m_values {l : Launch} {D : va_G} {d z : ClassId} {h : Nat} {a : Nat → Nat} {he : Int32} {ob pr su go si : Nat → Int32} {N : Nat} {pl : Nat → Int32} {nv : Int32} {vr bo ca vc : Nat → Int32} {sc : Int32} {F : Nat → Bool} (hI : tTI F he ob pr su go si) (hN : N ≤ 4) (hpl : ∀ j, j < 3 * N → tok (pl j)) (v_ : Int32) : Met l yX0_values (ws_ yX0_values cX0_values 4 (some .int)) (rm_ 7 158) (pJ D d z (wJ h a d he ob pr su go si (nI N) pl nv vr bo ca vc sc) [.ref h, .int v_]) (va_Qi (fun (r_ : Int32) (u : Int32 × (Nat → Int32) × (Nat → Int32) × (Nat → Int32) × (Nat → Int32) × Int32) => r_ = tvl F pl N v_) (fun u t => va_P D vwCl (wJ h a d he ob pr su go si (nI N) pl u.1 u.2.1 u.2.2.1 u.2.2.2.1 u.2.2.2.2.1 u.2.2.2.2.2) t.heap) (oJ h a)) 0 0 (oJ h a) := by
  refine Met.ofW (cc := cX0_values) (maxL := 4) (ret := (some .int)) (by decide) rfl ?_
  intro p e s m args below meth c s₁ B hml hv
  obtain ⟨rfl, hP, hK, hD⟩ := hv
  have hx := B.exec
  have hb := B.bytes
  have hr := B.returns
  have hts := atoms_spec (ws := (ws_ yX0_values cX0_values 4 (some .int))) B.pre
  have hts : ∀ w ∈ lw_all, w.before _ s = true := fun w h => hts w (List.mem_cons_of_mem _ h)
  have hown : s.vm.findClass RX0 = some m.cls := findClass_of_methodNamed B.named
  have hlocks := B.notSynchronized
  have hD := oJ_D hD
  have hS : va_S (oJ h a) s.heap s.heap [] := va_S.rf
  have hl := lv_entry ([.ref h, .int v_]) (n := 4) (Nat.le_of_ble_eq_true rfl)
  rw [lg_entry_eq]
  generalize (lg_sl ([.ref h, .int v_]) ++ List.replicate (4 - (lg_sl ([.ref h, .int v_])).length) Slot.unset).toArray = ls at hl ⊢
  have hl : lv_has ls 4 [(0, .ref h), (1, .int v_)] := hl
  refine lv_aload_n hx hb dX0_values_0 rfl (lv_at hl 0 rfl) ?_
  refine lv_iload_n hx hb dX0_values_1 rfl (lv_at hl 1 rfl) ?_
  refine vp_callSi (W.runV (As := [.int v_]) (rest := []) ⟨hx, hb, hml, hown, hts⟩ (m_stands hN v_) (cwV 1 hts (lw_V q107 q109 qs3 q18 q110) rfl rfl rfl (by decide +kernel) ⟨Nat.le_of_ble_eq_true rfl, Nat.le_of_ble_eq_true rfl⟩) (pJ_preJ hK hP hD rfl) rfl rfl hl.1 rfl (lv_room (Nat.le_of_ble_eq_true rfl)) dX0_values_2 ⟨Nat.le_refl _, Nat.le_refl _⟩) (fun r_2 hr_2 => ?_)
  subst hr_2
  refine tn_if_ne (tgt := 10) hx hb dX0_values_5 (by decide) (tb_lt _) (fun c_5 => ?_) (fun c_5 => ?_)
  · have hst := tb_1 c_5
    obtain ⟨V, hV4, rfl⟩ := tsd_v hst
    refine lv_aload_n hx hb dX0_values_10 rfl (lv_at hl 0 rfl) ?_
    refine lv_iconst (v := (-1)) hx hb dX0_values_11 (by decide) ?_
    refine va_callv (va_runV (As := [.int (-1)]) (rest := []) ⟨hx, hb, hml, hown, hts⟩ (m_join hI hN hpl (-1)) (cwV 1 hts (lw_V q99 q101 qs1 q18 q102) rfl rfl rfl (by decide +kernel) ⟨Nat.le_of_ble_eq_true rfl, Nat.le_of_ble_eq_true rfl⟩) (pJ_preJ hK hP hD rfl) rfl rfl hl.1 rfl (lv_room (Nat.le_of_ble_eq_true rfl)) dX0_values_12 ⟨Nat.le_refl _, Nat.le_refl _⟩) hS (fun q _ h9 => h9) (fun q h9 => h9) (fun u_ t_ H locs ht_ hvm_ hu hB _ _ hS => ?_)
    obtain ⟨vr_, bo_, ca_, vc_, sc_⟩ := u_
    rw [ht_] at hB
    have hP : va_P D vwCl (wJ h a d he ob pr su go si (nI N) pl (nI (tcn (tst pl N) 4)) vr_ bo_ ca_ vc_ sc_) H := hB
    have hD : va_D (oJ h a) (wJ h a d he ob pr su go si (nI N) pl (nI (tcn (tst pl N) 4)) vr_ bo_ ca_ vc_ sc_) := va_D_re hD rfl
    have hres := tjr_res (he := he) (ob := ob) (pr := pr) (su := su) (go := go) (si := si) hN hpl hu
    have hres2 := (hres.1 (by decide)).2 V hV4 hst
    refine lv_iconst (v := nI 0) hx hb dX0_values_15 (by decide) ?_
    refine lv_istore_n (lv' := [(2, .int (nI 0)), (0, .ref h), (1, .int (-1 - nI V))]) hx hb dX0_values_16 rfl hl (by decide) rfl (fun ls hl => ?_)
    refine lv_iconst (v := nI 0) hx hb dX0_values_17 (by decide) ?_
    refine lv_istore_n (lv' := [(3, .int (nI 0)), (2, .int (nI 0)), (0, .ref h), (1, .int (-1 - nI V))]) hx hb dX0_values_18 rfl hl (by decide) rfl (fun ls hl => ?_)
    refine tn_for (fun j ls => lv_has ls 4 [(3, .int (nI j)), (2, .int (nI (tcn (fun x => decide (0 < tcw F pl N V (nI x) 4096)) j))), (0, .ref h), (1, .int (-1 - nI V))]) 8 0 (by decide) (lv_sub hl [0, 1, 2, 3] rfl) (fun j ls hj hJ ih => ?_) (fun ls hJ => ?_)
    · have hl := hJ
      refine lv_iload_n hx hb dX0_values_19 rfl (lv_at hl 0 rfl) ?_
      refine lv_bipush (v := nI 8) hx hb dX0_values_20 (by decide) ?_
      refine tn_icmp_ge (tgt := 55) hx hb dX0_values_22 (by decide) (by omega) (by decide) (fun z => absurd z (by omega)) (fun _ => ?_)
      refine lv_iload_n hx hb dX0_values_25 rfl (lv_at hl 1 rfl) ?_
      refine lv_aload_n hx hb dX0_values_26 rfl (lv_at hl 2 rfl) ?_
      refine va_get (D := D) (ci := 0) (v := .ref (a 12)) (C := RX0) (T := TX0) (N := 14) hx hb hts in_X0 hown hK hP 0 rfl rfl 12 (by decide) (hts _ q40) (fun _ h9 => h9) rfl dX0_values_27 ?_
      refine lv_bipush (v := nI 8) hx hb dX0_values_30 (by decide) ?_
      refine lv_iconst (v := (-1)) hx hb dX0_values_32 (by decide) ?_
      refine lv_iload_n hx hb dX0_values_33 rfl (lv_at hl 3 rfl) ?_
      refine lv_isub hx hb dX0_values_34 ?_
      refine tn_as (nI V) (t_back V) ?_
      refine tn_imul hx hb dX0_values_35 ?_
      refine lv_iload_n hx hb dX0_values_36 rfl (lv_at hl 0 rfl) ?_
      refine tn_iadd hx hb dX0_values_37 ?_
      refine tn_iald hx hb hK hP 10 0 rfl rfl (j := (8 * V) + j) (by omega) (by decide) dX0_values_38 ?_
      refine tn_as (nI (tcw F pl N V (nI j) 4096)) (hres2 j hj) ?_
      refine tn_if_le (tgt := 46) hx hb dX0_values_39 (by decide) (tcw_lt _ _ _ _ _ _ (by omega)) (fun c_39 => ?_) (fun c_39 => ?_)
      · refine lv_iconst (v := nI 0) hx hb dX0_values_46 (by decide) ?_
        refine tn_iadd hx hb dX0_values_47 ?_
        refine tn_as (nI (tcn (fun x => decide (0 < tcw F pl N V (nI x) 4096)) (j + 1))) (by show nI _ = nI (_ + tb (decide _)); rw [decide_eq_false (by omega)]; rfl) ?_
        refine lv_istore_n (lv' := [(2, .int (nI (tcn (fun x => decide (0 < tcw F pl N V (nI x) 4096)) (j + 1)))), (3, .int (nI j)), (0, .ref h), (1, .int (-1 - nI V))]) hx hb dX0_values_48 rfl hl (by decide) rfl (fun ls hl => ?_)
        refine lv_iinc (v := nI (j + 1)) (lv' := [(3, .int (nI (j + 1))), (2, .int (nI (tcn (fun x => decide (0 < tcw F pl N V (nI x) 4096)) (j + 1)))), (0, .ref h), (1, .int (-1 - nI V))]) hx hb dX0_values_49 hl (k := 1) rfl (nI_1 _) (by decide) rfl (fun ls hl => ?_)
        refine lv_goto (tgt := 19) hx hb dX0_values_52 (by decide) ?_
        exact ih _ (lv_sub hl [0, 1, 2, 3] rfl)
      · refine lv_iconst (v := nI 1) hx hb dX0_values_42 (by decide) ?_
        refine lv_goto (tgt := 47) hx hb dX0_values_43 (by decide) ?_
        refine tn_iadd hx hb dX0_values_47 ?_
        refine tn_as (nI (tcn (fun x => decide (0 < tcw F pl N V (nI x) 4096)) (j + 1))) (by show nI _ = nI (_ + tb (decide _)); rw [decide_eq_true c_39]; rfl) ?_
        refine lv_istore_n (lv' := [(2, .int (nI (tcn (fun x => decide (0 < tcw F pl N V (nI x) 4096)) (j + 1)))), (3, .int (nI j)), (0, .ref h), (1, .int (-1 - nI V))]) hx hb dX0_values_48 rfl hl (by decide) rfl (fun ls hl => ?_)
        refine lv_iinc (v := nI (j + 1)) (lv' := [(3, .int (nI (j + 1))), (2, .int (nI (tcn (fun x => decide (0 < tcw F pl N V (nI x) 4096)) (j + 1)))), (0, .ref h), (1, .int (-1 - nI V))]) hx hb dX0_values_49 hl (k := 1) rfl (nI_1 _) (by decide) rfl (fun ls hl => ?_)
        refine lv_goto (tgt := 19) hx hb dX0_values_52 (by decide) ?_
        exact ih _ (lv_sub hl [0, 1, 2, 3] rfl)
    · have hl := hJ
      refine lv_iload_n hx hb dX0_values_19 rfl (lv_at hl 0 rfl) ?_
      refine lv_bipush (v := nI 8) hx hb dX0_values_20 (by decide) ?_
      refine tn_icmp_ge (tgt := 55) hx hb dX0_values_22 (by decide) (by decide) (by decide) (fun _ => ?_) (fun z => absurd z (by decide))
      refine lv_iload_n hx hb dX0_values_55 rfl (lv_at hl 1 rfl) ?_
      exact W.iret (v := nI (tcn (fun x => decide (0 < tcw F pl N V (nI x) 4096)) 8)) hx hb hr (fun t ht hW => ⟨⟨_, (nI (tcn (tst pl N) 4), vr_, bo_, ca_, vc_, sc_), rfl, (by unfold tvl; rw [hst, if_pos rfl, t_bk hV4]), by show va_P D vwCl _ t.heap; rw [ht]; exact hP⟩, hS.F ht⟩) hS.2.2 dX0_values_56
  · refine lv_iconst (v := (-1)) hx hb dX0_values_8 (by decide) ?_
    exact W.iret (v := (-1)) hx hb hr (fun t ht hW => ⟨⟨_, (nv, vr, bo, ca, vc, sc), rfl, (by unfold tvl; rw [tb_0 c_5]; rfl), by show va_P D vwCl _ t.heap; rw [ht]; exact hP⟩, hS.F ht⟩) hS.2.2 dX0_values_9
end
section
theorem tag_eq (y : Int32) (k : Nat) : tag y k = (!tpa y || decide (y = nI k)) := by
  unfold tag
  congr 1
  unfold tpa
  by_cases q : 0 ≤ y ∧ y ≤ 7
  · rw [decide_eq_true q, decide_eq_false (fun z => z.elim (Int32.not_lt.mpr q.1) (Int32.not_lt.mpr q.2))]; rfl
  · rw [decide_eq_false q, decide_eq_true (by
      by_cases z : y < 0
      · exact Or.inl z
      · exact Or.inr (Int32.not_le.mp (fun w => q ⟨Int32.not_lt.mp z, w⟩)))]; rfl
theorem tnot {b : Bool} (h : (!b) = true) : b = false := by cases b <;> first | rfl | cases h
theorem tnotf {b : Bool} (h : (!b) = false) : b = true := by cases b <;> first | rfl | cases h
theorem tC3_all (F : Nat → Bool) : tC3 F (-1) (-1) (-1) = tcn F 512 := by
  unfold tC3
  exact tcn_congr 512 (fun i _ => by rw [tag_m1, tag_m1, tag_m1]; simp)
theorem tao_has {F : Nat → Bool} {s p o : Int32} (h : thas F s p o = true) : tao F s p o = false := by
  unfold thas at h
  unfold tao
  rw [Bool.and_eq_true] at h
  rw [h.2]
  simp
theorem thas_t {F : Nat → Bool} {s p o : Int32} (h : thas F s p o = true) : ∃ S P O : Nat, S < 8 ∧ P < 8 ∧ O < 8 ∧ s = nI S ∧ p = nI P ∧ o = nI O ∧ F (64 * S + 8 * P + O) = true := by
  unfold thas at h
  rw [Bool.and_eq_true, Bool.and_eq_true, Bool.and_eq_true] at h
  obtain ⟨S, hS, rfl⟩ := tpa_t h.1.1.1
  obtain ⟨P, hP, rfl⟩ := tpa_t h.1.1.2
  obtain ⟨O, hO, rfl⟩ := tpa_t h.1.2
  have h2 := h.2
  rw [tix_nI hS hP hO] at h2
  exact ⟨S, P, O, hS, hP, hO, rfl, rfl, rfl, h2⟩
theorem tset_arr {F : Nat → Bool} {fa : Nat → Int32} {k : Nat} {b : Bool} (h : ∀ i, i < 512 → fa i = nI (tb (F i))) : ∀ i, i < 512 → upd fa k (nI (tb b)) i = nI (tb (tset F k b i)) := by
  intro i hi
  by_cases e : i = k
  · rw [e, pk_us, tset_s]
  · rw [pk_un e, tset_n e]; exact h i hi
theorem tC3_plus {F : Nat → Bool} {k : Nat} (hk : k < 512) (hF : F k = false) : tC3 (tset F k true) (-1) (-1) (-1) = tC3 F (-1) (-1) (-1) + 1 := by
  rw [tC3_all, tC3_all]
  have h := tcn_set (f := F) (g := tset F k true) (k0 := k) 512 hk (fun i _ hn => (tset_n hn).symm)
  rw [hF, tset_s, show tb false = 0 from rfl, Nat.add_zero, show tb true = 1 from rfl] at h
  exact h
theorem tz_f {pl : Nat → Int32} {N m j : Nat} : ∀ {n : Nat}, j < n → tz pl N m (j + 1) = false → tz pl N m n = false
  | 0, h, _ => absurd h (Nat.not_lt_zero j)
  | n + 1, h, e => by
    by_cases q : j = n
    · subst q; exact e
    · show (tz pl N m n && _) = false
      rw [tz_f (n := n) (by omega) e]; rfl
theorem tps_f {F : Nat → Bool} {pl : Nat → Int32} {m j : Nat} : ∀ {n : Nat}, j < n → tps F pl m (j + 1) = false → tps F pl m n = false
  | 0, h, _ => absurd h (Nat.not_lt_zero j)
  | n + 1, h, e => by
    by_cases q : j = n
    · subst q; exact e
    · show (tps F pl m n && _) = false
      rw [tps_f (n := n) (by omega) e]; rfl
theorem tdg_sh {m j : Nat} (hm : m < 4096) (hj : j < 4) : (nI m >>> ((nI 9 - nI (3 * j)) &&& 31)) &&& nI 7 = nI (tdg j m) := by
  have h2 : ∀ q : Nat, q < 2 ^ 31 → nI q &&& nI 7 = nI (q % 8) := fun q hq => pk_andN (by omega) 3 (by decide)
  rcases (show j = 0 ∨ j = 1 ∨ j = 2 ∨ j = 3 by omega) with rfl | rfl | rfl | rfl
  · rw [pk_shrN (by omega) _ 9 (by decide), h2 _ (by omega)]; rfl
  · rw [pk_shrN (by omega) _ 6 (by decide), h2 _ (by omega)]; rfl
  · rw [pk_shrN (by omega) _ 3 (by decide), h2 _ (by omega)]; rfl
  · rw [pk_shrN (by omega) _ 0 (by decide), h2 _ (by omega)]; rfl
theorem tkn_dig {pl tr : Nat → Int32} {j m : Nat} (hok : tok (pl j)) (h : ∀ w, w < 4 → tr w = nI (tdg w m)) : ∃ S : Nat, S < 8 ∧ tkn (tbn m) (pl j) = nI S ∧ tkn tr (pl j) = nI S := by
  rcases hok with ⟨S, hS, e⟩ | ⟨k, hk, e⟩
  · rw [e, tkn_nI _ hS, tkn_nI _ hS]; exact ⟨S, hS, rfl, rfl⟩
  · rw [e, tkn_k _ hk, tkn_k _ hk]; exact ⟨tdg k m, tdg_lt k m, rfl, h k hk⟩
set_option maxHeartbeats 1000000 in
set_option maxRecDepth 100000 in
/-- agrees -/
theorem mm_agrees (l : Launch) (x : Int32) (k : Nat) : Met l yX1_agrees (ws_ yX1_agrees cX1_agrees 2 (some .boolean)) (rm_ 2 20) (pS [.int x, .int (nI k)]) (vp_Si (fun r_ => r_ = nI (tb (tag x k)))) 0 0 (fun _ => False) := by
  refine Met.ofW (cc := cX1_agrees) (maxL := 2) (ret := (some .boolean)) (by decide) rfl ?_
  intro p e s m args below meth c s₁ B hml hv
  obtain ⟨rfl, -⟩ := hv
  have hx := B.exec
  have hb := B.bytes
  have hr := B.returns
  have hts := atoms_spec (ws := (ws_ yX1_agrees cX1_agrees 2 (some .boolean))) B.pre
  have hts : ∀ w ∈ lw_all, w.before _ s = true := fun w h => hts w (List.mem_cons_of_mem _ h)
  have hown : s.vm.findClass RX1 = some m.cls := findClass_of_methodNamed B.named
  have hlocks := B.notSynchronized
  have hl := lv_entry ([.int x, .int (nI k)]) (n := 2) (Nat.le_of_ble_eq_true rfl)
  rw [lg_entry_eq]
  generalize (lg_sl ([.int x, .int (nI k)]) ++ List.replicate (2 - (lg_sl ([.int x, .int (nI k)])).length) Slot.unset).toArray = ls at hl ⊢
  have hl : lv_has ls 2 [(0, .int x), (1, .int (nI k))] := hl
  refine lv_iload_n hx hb dX1_agrees_0 rfl (lv_at hl 0 rfl) ?_
  refine vp_callSi (W.runS (As := [.int x]) (rest := []) ⟨hx, hb, hml, hown, hts⟩ (mm_outside l x) (va_cwS 1 hts (lw_S q198 q199 q19 q200) rfl rfl rfl (by decide +kernel) ⟨Nat.le_of_ble_eq_true rfl, Nat.le_of_ble_eq_true rfl⟩) pS_pre rfl rfl hl.1 rfl (lv_room (Nat.le_of_ble_eq_true rfl)) dX1_agrees_1 ⟨Nat.le_refl _, Nat.le_refl _⟩) (fun r_1 hr_1 => ?_)
  subst hr_1
  refine tn_if_ne (tgt := 12) hx hb dX1_agrees_4 (by decide) (tb_lt _) (fun c_4 => ?_) (fun c_4 => ?_)
  · refine lv_iconst (v := nI 1) hx hb dX1_agrees_12 (by decide) ?_
    refine lv_goto (tgt := 17) hx hb dX1_agrees_13 (by decide) ?_
    exact W.zret (v := nI 1) hx hb hr rfl (fun t ht hW => ⟨_, rfl, (by rw [tag_eq, tb_1 c_4]; rfl), ht⟩) (fun _ h9 => nomatch h9) dX1_agrees_17
  · refine lv_iload_n hx hb dX1_agrees_7 rfl (lv_at hl 0 rfl) ?_
    refine lv_iload_n hx hb dX1_agrees_8 rfl (lv_at hl 1 rfl) ?_
    refine lv_icmp_ne (tgt := 16) hx hb dX1_agrees_9 (by decide) (fun c_9 => ?_) (fun c_9 => ?_)
    · refine lv_iconst (v := nI 0) hx hb dX1_agrees_16 (by decide) ?_
      exact W.zret (v := nI 0) hx hb hr rfl (fun t ht hW => ⟨_, rfl, (by rw [tag_eq, tb_0 c_4, decide_eq_false c_9]; rfl), ht⟩) (fun _ h9 => nomatch h9) dX1_agrees_17
    · refine lv_iconst (v := nI 1) hx hb dX1_agrees_12 (by decide) ?_
      refine lv_goto (tgt := 17) hx hb dX1_agrees_13 (by decide) ?_
      exact W.zret (v := nI 1) hx hb hr rfl (fun t ht hW => ⟨_, rfl, (by rw [tag_eq, tb_0 c_4, decide_eq_true c_9]; rfl), ht⟩) (fun _ h9 => nomatch h9) dX1_agrees_17

set_option maxHeartbeats 1000000 in
set_option maxRecDepth 100000 in
/-- held -/
theorem mm_held {l : Launch} {D : va_G} {d z : ClassId} {h : Nat} {a : Nat → Nat} {fa : Nat → Int32} {N : Nat} {pl tr : Nat → Int32} {F : Nat → Bool} (hF : ∀ i, i < 512 → fa i = nI (tb (F i))) : Met l yX1_held (ws_ yX1_held cX1_held 3 (some .int)) (rm_ 1 0) (pJ D d z (wM h a d z fa (nI N) pl tr) [.ref h]) (vp_Si (fun r_ => r_ = nI (tC3 F (-1) (-1) (-1)))) 0 0 (fun _ => False) := by
  refine Met.ofW (cc := cX1_held) (maxL := 3) (ret := (some .int)) (by decide) rfl ?_
  intro p e s m args below meth c s₁ B hml hv
  obtain ⟨rfl, hP, hK, hD⟩ := hv
  have hx := B.exec
  have hb := B.bytes
  have hr := B.returns
  have hts := atoms_spec (ws := (ws_ yX1_held cX1_held 3 (some .int))) B.pre
  have hts : ∀ w ∈ lw_all, w.before _ s = true := fun w h => hts w (List.mem_cons_of_mem _ h)
  have hown : s.vm.findClass RX1 = some m.cls := findClass_of_methodNamed B.named
  have hlocks := B.notSynchronized
  have hl := lv_entry ([.ref h]) (n := 3) (Nat.le_of_ble_eq_true rfl)
  rw [lg_entry_eq]
  generalize (lg_sl ([.ref h]) ++ List.replicate (3 - (lg_sl ([.ref h])).length) Slot.unset).toArray = ls at hl ⊢
  have hl : lv_has ls 3 [(0, .ref h)] := hl
  refine lv_iconst (v := nI 0) hx hb dX1_held_0 (by decide) ?_
  refine lv_istore_n (lv' := [(1, .int (nI 0)), (0, .ref h)]) hx hb dX1_held_1 rfl hl (by decide) rfl (fun ls hl => ?_)
  refine lv_iconst (v := nI 0) hx hb dX1_held_2 (by decide) ?_
  refine lv_istore_n (lv' := [(2, .int (nI 0)), (1, .int (nI 0)), (0, .ref h)]) hx hb dX1_held_3 rfl hl (by decide) rfl (fun ls hl => ?_)
  refine tn_for (fun j ls => lv_has ls 3 [(2, .int (nI j)), (1, .int (nI (tcn F j))), (0, .ref h)]) 512 0 (by decide) (lv_sub hl [0, 1, 2] rfl) (fun j ls hj hJ ih => ?_) (fun ls hJ => ?_)
  · have hl := hJ
    refine lv_iload_n hx hb dX1_held_4 rfl (lv_at hl 0 rfl) ?_
    refine lv_sipush (v := nI 512) hx hb dX1_held_5 (by decide) ?_
    refine tn_icmp_ge (tgt := 29) hx hb dX1_held_8 (by decide) (by omega) (by decide) (fun z => absurd z (by omega)) (fun _ => ?_)
    refine lv_aload_n hx hb dX1_held_11 rfl (lv_at hl 2 rfl) ?_
    refine va_get (D := D) (ci := 1) (v := .ref (a 0)) (C := RX1) (T := TX1) (N := 4) hx hb hts in_X1 hown hK hP 0 rfl rfl 0 (by decide) (hts _ q176) (fun _ h9 => h9) rfl dX1_held_12 ?_
    refine lv_iload_n hx hb dX1_held_15 rfl (lv_at hl 0 rfl) ?_
    refine tn_zald hx hb hK hP 1 1 rfl rfl (j := j) (by omega) (by decide) dX1_held_16 ?_
    refine tn_as (nI (tb (F j))) (hF j hj) ?_
    refine tn_if_eq (tgt := 23) hx hb dX1_held_17 (by decide) (tb_lt _) (fun c_17 => ?_) (fun c_17 => ?_)
    · have e9 : tcn F (j + 1) = tcn F j := by show _ + tb (F j) = _; rw [c_17, Nat.add_zero]
      refine lv_iinc (v := nI (j + 1)) (lv' := [(2, .int (nI (j + 1))), (1, .int (nI (tcn F j))), (0, .ref h)]) hx hb dX1_held_23 hl (k := 0) rfl (nI_1 _) (by decide) rfl (fun ls hl => ?_)
      refine lv_goto (tgt := 4) hx hb dX1_held_26 (by decide) ?_
      rw [← e9] at hl
      exact ih _ (lv_sub hl [0, 1, 2] rfl)
    · have e9 : tcn F (j + 1) = tcn F j + 1 := by show _ + tb (F j) = _; rw [tb_1 c_17]; rfl
      refine lv_iinc (v := nI (tcn F j + 1)) (lv' := [(1, .int (nI (tcn F j + 1))), (2, .int (nI j)), (0, .ref h)]) hx hb dX1_held_20 hl (k := 1) rfl (nI_1 _) (by decide) rfl (fun ls hl => ?_)
      refine lv_iinc (v := nI (j + 1)) (lv' := [(2, .int (nI (j + 1))), (1, .int (nI (tcn F j + 1))), (0, .ref h)]) hx hb dX1_held_23 hl (k := 1) rfl (nI_1 _) (by decide) rfl (fun ls hl => ?_)
      refine lv_goto (tgt := 4) hx hb dX1_held_26 (by decide) ?_
      rw [← e9] at hl
      exact ih _ (lv_sub hl [0, 1, 2] rfl)
  · have hl := hJ
    refine lv_iload_n hx hb dX1_held_4 rfl (lv_at hl 0 rfl) ?_
    refine lv_sipush (v := nI 512) hx hb dX1_held_5 (by decide) ?_
    refine tn_icmp_ge (tgt := 29) hx hb dX1_held_8 (by decide) (by decide) (by decide) (fun _ => ?_) (fun z => absurd z (by decide))
    refine lv_iload_n hx hb dX1_held_29 rfl (lv_at hl 1 rfl) ?_
    exact W.iret (v := nI (tcn F 512)) hx hb hr (fun t ht hW => ⟨_, rfl, (by rw [tC3_all]), ht⟩) (fun _ h9 => nomatch h9) dX1_held_30

set_option maxHeartbeats 1000000 in
set_option maxRecDepth 100000 in
/-- has -/
theorem mm_has {l : Launch} {D : va_G} {d z : ClassId} {h : Nat} {a : Nat → Nat} {fa : Nat → Int32} {N : Nat} {pl tr : Nat → Int32} {F : Nat → Bool} (hF : ∀ i, i < 512 → fa i = nI (tb (F i))) (s_ p_ o_ : Int32) : Met l yX1_has (ws_ yX1_has cX1_has 4 (some .int)) (rm_ 2 20) (pJ D d z (wM h a d z fa (nI N) pl tr) [.ref h, .int s_, .int p_, .int o_]) (vp_Si (fun r_ => r_ = nI (tb (thas F s_ p_ o_)))) 0 0 (fun _ => False) := by
  refine Met.ofW (cc := cX1_has) (maxL := 4) (ret := (some .int)) (by decide) rfl ?_
  intro p e s m args below meth c s₁ B hml hv
  obtain ⟨rfl, hP, hK, hD⟩ := hv
  have hx := B.exec
  have hb := B.bytes
  have hr := B.returns
  have hts := atoms_spec (ws := (ws_ yX1_has cX1_has 4 (some .int))) B.pre
  have hts : ∀ w ∈ lw_all, w.before _ s = true := fun w h => hts w (List.mem_cons_of_mem _ h)
  have hown : s.vm.findClass RX1 = some m.cls := findClass_of_methodNamed B.named
  have hlocks := B.notSynchronized
  have hl := lv_entry ([.ref h, .int s_, .int p_, .int o_]) (n := 4) (Nat.le_of_ble_eq_true rfl)
  rw [lg_entry_eq]
  generalize (lg_sl ([.ref h, .int s_, .int p_, .int o_]) ++ List.replicate (4 - (lg_sl ([.ref h, .int s_, .int p_, .int o_])).length) Slot.unset).toArray = ls at hl ⊢
  have hl : lv_has ls 4 [(0, .ref h), (1, .int s_), (2, .int p_), (3, .int o_)] := hl
  refine lv_iload_n hx hb dX1_has_0 rfl (lv_at hl 1 rfl) ?_
  refine vp_callSi (W.runS (As := [.int s_]) (rest := []) ⟨hx, hb, hml, hown, hts⟩ (mm_outside l s_) (va_cwS 1 hts (lw_S q198 q199 q19 q200) rfl rfl rfl (by decide +kernel) ⟨Nat.le_of_ble_eq_true rfl, Nat.le_of_ble_eq_true rfl⟩) pS_pre rfl rfl hl.1 rfl (lv_room (Nat.le_of_ble_eq_true rfl)) dX1_has_1 ⟨Nat.le_refl _, Nat.le_refl _⟩) (fun r_1 hr_1 => ?_)
  subst hr_1
  refine tn_if_ne (tgt := 44) hx hb dX1_has_4 (by decide) (tb_lt _) (fun c_4 => ?_) (fun c_4 => ?_)
  · have ho : tpa s_ = false := tnot (tb_1 c_4)
    refine lv_iconst (v := nI 0) hx hb dX1_has_44 (by decide) ?_
    exact W.iret (v := nI 0) hx hb hr (fun t ht hW => ⟨_, rfl, (by rw [show thas F s_ p_ o_ = false by unfold thas; rw [ho]; simp]; rfl), ht⟩) (fun _ h9 => nomatch h9) dX1_has_45
  · obtain ⟨S, hS8, rfl⟩ := tpa_t (tnotf (tb_0 c_4))
    refine lv_iload_n hx hb dX1_has_7 rfl (lv_at hl 2 rfl) ?_
    refine vp_callSi (W.runS (As := [.int p_]) (rest := []) ⟨hx, hb, hml, hown, hts⟩ (mm_outside l p_) (va_cwS 1 hts (lw_S q198 q199 q19 q200) rfl rfl rfl (by decide +kernel) ⟨Nat.le_of_ble_eq_true rfl, Nat.le_of_ble_eq_true rfl⟩) pS_pre rfl rfl hl.1 rfl (lv_room (Nat.le_of_ble_eq_true rfl)) dX1_has_8 ⟨Nat.le_refl _, Nat.le_refl _⟩) (fun r_8 hr_8 => ?_)
    subst hr_8
    refine tn_if_ne (tgt := 44) hx hb dX1_has_11 (by decide) (tb_lt _) (fun c_11 => ?_) (fun c_11 => ?_)
    · have ho : tpa p_ = false := tnot (tb_1 c_11)
      refine lv_iconst (v := nI 0) hx hb dX1_has_44 (by decide) ?_
      exact W.iret (v := nI 0) hx hb hr (fun t ht hW => ⟨_, rfl, (by rw [show thas F (nI S) p_ o_ = false by unfold thas; rw [ho]; simp]; rfl), ht⟩) (fun _ h9 => nomatch h9) dX1_has_45
    · obtain ⟨P, hP8, rfl⟩ := tpa_t (tnotf (tb_0 c_11))
      refine lv_iload_n hx hb dX1_has_14 rfl (lv_at hl 3 rfl) ?_
      refine vp_callSi (W.runS (As := [.int o_]) (rest := []) ⟨hx, hb, hml, hown, hts⟩ (mm_outside l o_) (va_cwS 1 hts (lw_S q198 q199 q19 q200) rfl rfl rfl (by decide +kernel) ⟨Nat.le_of_ble_eq_true rfl, Nat.le_of_ble_eq_true rfl⟩) pS_pre rfl rfl hl.1 rfl (lv_room (Nat.le_of_ble_eq_true rfl)) dX1_has_15 ⟨Nat.le_refl _, Nat.le_refl _⟩) (fun r_15 hr_15 => ?_)
      subst hr_15
      refine tn_if_ne (tgt := 44) hx hb dX1_has_18 (by decide) (tb_lt _) (fun c_18 => ?_) (fun c_18 => ?_)
      · have ho : tpa o_ = false := tnot (tb_1 c_18)
        refine lv_iconst (v := nI 0) hx hb dX1_has_44 (by decide) ?_
        exact W.iret (v := nI 0) hx hb hr (fun t ht hW => ⟨_, rfl, (by rw [show thas F (nI S) (nI P) o_ = false by unfold thas; rw [ho]; simp]; rfl), ht⟩) (fun _ h9 => nomatch h9) dX1_has_45
      · obtain ⟨O, hO8, rfl⟩ := tpa_t (tnotf (tb_0 c_18))
        refine lv_aload_n hx hb dX1_has_21 rfl (lv_at hl 0 rfl) ?_
        refine va_get (D := D) (ci := 1) (v := .ref (a 0)) (C := RX1) (T := TX1) (N := 4) hx hb hts in_X1 hown hK hP 0 rfl rfl 0 (by decide) (hts _ q176) (fun _ h9 => h9) rfl dX1_has_22 ?_
        refine lv_bipush (v := nI 64) hx hb dX1_has_25 (by decide) ?_
        refine lv_iload_n hx hb dX1_has_27 rfl (lv_at hl 1 rfl) ?_
        refine tn_imul hx hb dX1_has_28 ?_
        refine lv_bipush (v := nI 8) hx hb dX1_has_29 (by decide) ?_
        refine lv_iload_n hx hb dX1_has_31 rfl (lv_at hl 2 rfl) ?_
        refine tn_imul hx hb dX1_has_32 ?_
        refine tn_iadd hx hb dX1_has_33 ?_
        refine lv_iload_n hx hb dX1_has_34 rfl (lv_at hl 3 rfl) ?_
        refine tn_iadd hx hb dX1_has_35 ?_
        refine tn_zald hx hb hK hP 1 1 rfl rfl (j := ((64 * S) + (8 * P)) + O) (by omega) (by decide) dX1_has_36 ?_
        refine tn_as (nI (tb (F (64 * S + 8 * P + O)))) (hF _ (by omega)) ?_
        refine tn_if_eq (tgt := 44) hx hb dX1_has_37 (by decide) (tb_lt _) (fun c_37 => ?_) (fun c_37 => ?_)
        · refine lv_iconst (v := nI 0) hx hb dX1_has_44 (by decide) ?_
          exact W.iret (v := nI 0) hx hb hr (fun t ht hW => ⟨_, rfl, (by rw [show thas F (nI S) (nI P) (nI O) = F (64 * S + 8 * P + O) by unfold thas; rw [tpa_nI hS8, tpa_nI hP8, tpa_nI hO8, tix_nI hS8 hP8 hO8]; rfl, c_37]), ht⟩) (fun _ h9 => nomatch h9) dX1_has_45
        · refine lv_iconst (v := nI 1) hx hb dX1_has_40 (by decide) ?_
          refine lv_goto (tgt := 45) hx hb dX1_has_41 (by decide) ?_
          exact W.iret (v := nI 1) hx hb hr (fun t ht hW => ⟨_, rfl, (by rw [show thas F (nI S) (nI P) (nI O) = F (64 * S + 8 * P + O) by unfold thas; rw [tpa_nI hS8, tpa_nI hP8, tpa_nI hO8, tix_nI hS8 hP8 hO8]; rfl, tb_1 c_37]; rfl), ht⟩) (fun _ h9 => nomatch h9) dX1_has_45

set_option maxHeartbeats 1000000 in
set_option maxRecDepth 100000 in
/-- count -/
theorem mm_count {l : Launch} {D : va_G} {d z : ClassId} {h : Nat} {a : Nat → Nat} {fa : Nat → Int32} {N : Nat} {pl tr : Nat → Int32} {F : Nat → Bool} (hF : ∀ i, i < 512 → fa i = nI (tb (F i))) (s_ p_ o_ : Int32) : Met l yX1_count (ws_ yX1_count cX1_count 6 (some .int)) (rm_ 3 41) (pJ D d z (wM h a d z fa (nI N) pl tr) [.ref h, .int s_, .int p_, .int o_]) (vp_Si (fun r_ => r_ = nI (tC3 F s_ p_ o_))) 0 0 (fun _ => False) := by
  refine Met.ofW (cc := cX1_count) (maxL := 6) (ret := (some .int)) (by decide) rfl ?_
  intro p e s m args below meth c s₁ B hml hv
  obtain ⟨rfl, hP, hK, hD⟩ := hv
  have hx := B.exec
  have hb := B.bytes
  have hr := B.returns
  have hts := atoms_spec (ws := (ws_ yX1_count cX1_count 6 (some .int))) B.pre
  have hts : ∀ w ∈ lw_all, w.before _ s = true := fun w h => hts w (List.mem_cons_of_mem _ h)
  have hown : s.vm.findClass RX1 = some m.cls := findClass_of_methodNamed B.named
  have hlocks := B.notSynchronized
  have hl := lv_entry ([.ref h, .int s_, .int p_, .int o_]) (n := 6) (Nat.le_of_ble_eq_true rfl)
  rw [lg_entry_eq]
  generalize (lg_sl ([.ref h, .int s_, .int p_, .int o_]) ++ List.replicate (6 - (lg_sl ([.ref h, .int s_, .int p_, .int o_])).length) Slot.unset).toArray = ls at hl ⊢
  have hl : lv_has ls 6 [(0, .ref h), (1, .int s_), (2, .int p_), (3, .int o_)] := hl
  refine lv_iconst (v := nI 0) hx hb dX1_count_0 (by decide) ?_
  refine lv_istore (lv' := [(4, .int (nI 0)), (0, .ref h), (1, .int s_), (2, .int p_), (3, .int o_)]) hx hb dX1_count_1 hl (by decide) rfl (fun ls hl => ?_)
  refine lv_iconst (v := nI 0) hx hb dX1_count_3 (by decide) ?_
  refine lv_istore (lv' := [(5, .int (nI 0)), (4, .int (nI 0)), (0, .ref h), (1, .int s_), (2, .int p_), (3, .int o_)]) hx hb dX1_count_4 hl (by decide) rfl (fun ls hl => ?_)
  refine tn_for (fun j ls => lv_has ls 6 [(5, .int (nI j)), (4, .int (nI (tcn (fun i => F i && tag s_ (i / 64) && tag p_ (i / 8 % 8) && tag o_ (i % 8)) j))), (0, .ref h), (1, .int s_), (2, .int p_), (3, .int o_)]) 512 0 (by decide) (lv_sub hl [0, 1, 2, 3, 4, 5] rfl) (fun j ls hj hJ ih => ?_) (fun ls hJ => ?_)
  · have hl := hJ
    refine lv_iload hx hb dX1_count_6 (lv_at hl 0 rfl) ?_
    refine lv_sipush (v := nI 512) hx hb dX1_count_8 (by decide) ?_
    refine tn_icmp_ge (tgt := 72) hx hb dX1_count_11 (by decide) (by omega) (by decide) (fun z => absurd z (by omega)) (fun _ => ?_)
    refine lv_aload_n hx hb dX1_count_14 rfl (lv_at hl 2 rfl) ?_
    refine va_get (D := D) (ci := 1) (v := .ref (a 0)) (C := RX1) (T := TX1) (N := 4) hx hb hts in_X1 hown hK hP 0 rfl rfl 0 (by decide) (hts _ q176) (fun _ h9 => h9) rfl dX1_count_15 ?_
    refine lv_iload hx hb dX1_count_18 (lv_at hl 0 rfl) ?_
    refine tn_zald hx hb hK hP 1 1 rfl rfl (j := j) (by omega) (by decide) dX1_count_20 ?_
    refine tn_as (nI (tb (F j))) (hF j hj) ?_
    refine tn_if_eq (tgt := 66) hx hb dX1_count_21 (by decide) (tb_lt _) (fun c_21 => ?_) (fun c_21 => ?_)
    · have e9 : tcn (fun i => F i && tag s_ (i / 64) && tag p_ (i / 8 % 8) && tag o_ (i % 8)) (j + 1) = tcn (fun i => F i && tag s_ (i / 64) && tag p_ (i / 8 % 8) && tag o_ (i % 8)) j := by show _ + tb (F j && tag s_ (j / 64) && tag p_ (j / 8 % 8) && tag o_ (j % 8)) = _; rw [tb_0 c_21]; simp [tb]
      refine lv_iinc (v := nI (j + 1)) (lv' := [(5, .int (nI (j + 1))), (4, .int (nI (tcn (fun i => F i && tag s_ (i / 64) && tag p_ (i / 8 % 8) && tag o_ (i % 8)) j))), (0, .ref h), (1, .int s_), (2, .int p_), (3, .int o_)]) hx hb dX1_count_66 hl (k := 0) rfl (nI_1 _) (by decide) rfl (fun ls hl => ?_)
      refine lv_goto (tgt := 6) hx hb dX1_count_69 (by decide) ?_
      rw [← e9] at hl
      exact ih _ (lv_sub hl [0, 1, 2, 3, 4, 5] rfl)
    · refine lv_iload_n hx hb dX1_count_24 rfl (lv_at hl 3 rfl) ?_
      refine lv_iload hx hb dX1_count_25 (lv_at hl 0 rfl) ?_
      refine lv_bipush (v := nI 64) hx hb dX1_count_27 (by decide) ?_
      refine lv_idiv hx hb dX1_count_29 (by decide) ?_
      refine tn_as (nI (j / 64)) (pk_div (by omega) (by decide) (by decide)) ?_
      refine vp_callSi (W.runS (As := [.int s_, .int (nI (j / 64))]) (rest := []) ⟨hx, hb, hml, hown, hts⟩ (mm_agrees l s_ (j / 64)) (va_cwS 2 hts (lw_S q254 q255 q19 q256) rfl rfl rfl (by decide +kernel) ⟨Nat.le_of_ble_eq_true rfl, Nat.le_of_ble_eq_true rfl⟩) pS_pre rfl rfl hl.1 rfl (lv_room (Nat.le_of_ble_eq_true rfl)) dX1_count_30 ⟨Nat.le_refl _, Nat.le_refl _⟩) (fun r_30 hr_30 => ?_)
      subst hr_30
      refine tn_if_eq (tgt := 66) hx hb dX1_count_33 (by decide) (tb_lt _) (fun c_33 => ?_) (fun c_33 => ?_)
      · have e9 : tcn (fun i => F i && tag s_ (i / 64) && tag p_ (i / 8 % 8) && tag o_ (i % 8)) (j + 1) = tcn (fun i => F i && tag s_ (i / 64) && tag p_ (i / 8 % 8) && tag o_ (i % 8)) j := by show _ + tb (F j && tag s_ (j / 64) && tag p_ (j / 8 % 8) && tag o_ (j % 8)) = _; rw [tb_0 c_33]; simp [tb]
        refine lv_iinc (v := nI (j + 1)) (lv' := [(5, .int (nI (j + 1))), (4, .int (nI (tcn (fun i => F i && tag s_ (i / 64) && tag p_ (i / 8 % 8) && tag o_ (i % 8)) j))), (0, .ref h), (1, .int s_), (2, .int p_), (3, .int o_)]) hx hb dX1_count_66 hl (k := 0) rfl (nI_1 _) (by decide) rfl (fun ls hl => ?_)
        refine lv_goto (tgt := 6) hx hb dX1_count_69 (by decide) ?_
        rw [← e9] at hl
        exact ih _ (lv_sub hl [0, 1, 2, 3, 4, 5] rfl)
      · refine lv_iload_n hx hb dX1_count_36 rfl (lv_at hl 4 rfl) ?_
        refine lv_iload hx hb dX1_count_37 (lv_at hl 0 rfl) ?_
        refine lv_bipush (v := nI 8) hx hb dX1_count_39 (by decide) ?_
        refine lv_idiv hx hb dX1_count_41 (by decide) ?_
        refine tn_as (nI (j / 8)) (pk_div (by omega) (by decide) (by decide)) ?_
        refine lv_bipush (v := nI 8) hx hb dX1_count_42 (by decide) ?_
        refine lv_irem hx hb dX1_count_44 (by decide) ?_
        refine tn_as (nI (j / 8 % 8)) (pk_rem (by omega) (by decide) (by decide)) ?_
        refine vp_callSi (W.runS (As := [.int p_, .int (nI (j / 8 % 8))]) (rest := []) ⟨hx, hb, hml, hown, hts⟩ (mm_agrees l p_ (j / 8 % 8)) (va_cwS 2 hts (lw_S q254 q255 q19 q256) rfl rfl rfl (by decide +kernel) ⟨Nat.le_of_ble_eq_true rfl, Nat.le_of_ble_eq_true rfl⟩) pS_pre rfl rfl hl.1 rfl (lv_room (Nat.le_of_ble_eq_true rfl)) dX1_count_45 ⟨Nat.le_refl _, Nat.le_refl _⟩) (fun r_45 hr_45 => ?_)
        subst hr_45
        refine tn_if_eq (tgt := 66) hx hb dX1_count_48 (by decide) (tb_lt _) (fun c_48 => ?_) (fun c_48 => ?_)
        · have e9 : tcn (fun i => F i && tag s_ (i / 64) && tag p_ (i / 8 % 8) && tag o_ (i % 8)) (j + 1) = tcn (fun i => F i && tag s_ (i / 64) && tag p_ (i / 8 % 8) && tag o_ (i % 8)) j := by show _ + tb (F j && tag s_ (j / 64) && tag p_ (j / 8 % 8) && tag o_ (j % 8)) = _; rw [tb_0 c_48]; simp [tb]
          refine lv_iinc (v := nI (j + 1)) (lv' := [(5, .int (nI (j + 1))), (4, .int (nI (tcn (fun i => F i && tag s_ (i / 64) && tag p_ (i / 8 % 8) && tag o_ (i % 8)) j))), (0, .ref h), (1, .int s_), (2, .int p_), (3, .int o_)]) hx hb dX1_count_66 hl (k := 0) rfl (nI_1 _) (by decide) rfl (fun ls hl => ?_)
          refine lv_goto (tgt := 6) hx hb dX1_count_69 (by decide) ?_
          rw [← e9] at hl
          exact ih _ (lv_sub hl [0, 1, 2, 3, 4, 5] rfl)
        · refine lv_iload_n hx hb dX1_count_51 rfl (lv_at hl 5 rfl) ?_
          refine lv_iload hx hb dX1_count_52 (lv_at hl 0 rfl) ?_
          refine lv_bipush (v := nI 8) hx hb dX1_count_54 (by decide) ?_
          refine lv_irem hx hb dX1_count_56 (by decide) ?_
          refine tn_as (nI (j % 8)) (pk_rem (by omega) (by decide) (by decide)) ?_
          refine vp_callSi (W.runS (As := [.int o_, .int (nI (j % 8))]) (rest := []) ⟨hx, hb, hml, hown, hts⟩ (mm_agrees l o_ (j % 8)) (va_cwS 2 hts (lw_S q254 q255 q19 q256) rfl rfl rfl (by decide +kernel) ⟨Nat.le_of_ble_eq_true rfl, Nat.le_of_ble_eq_true rfl⟩) pS_pre rfl rfl hl.1 rfl (lv_room (Nat.le_of_ble_eq_true rfl)) dX1_count_57 ⟨Nat.le_refl _, Nat.le_refl _⟩) (fun r_57 hr_57 => ?_)
          subst hr_57
          refine tn_if_eq (tgt := 66) hx hb dX1_count_60 (by decide) (tb_lt _) (fun c_60 => ?_) (fun c_60 => ?_)
          · have e9 : tcn (fun i => F i && tag s_ (i / 64) && tag p_ (i / 8 % 8) && tag o_ (i % 8)) (j + 1) = tcn (fun i => F i && tag s_ (i / 64) && tag p_ (i / 8 % 8) && tag o_ (i % 8)) j := by show _ + tb (F j && tag s_ (j / 64) && tag p_ (j / 8 % 8) && tag o_ (j % 8)) = _; rw [tb_0 c_60]; simp [tb]
            refine lv_iinc (v := nI (j + 1)) (lv' := [(5, .int (nI (j + 1))), (4, .int (nI (tcn (fun i => F i && tag s_ (i / 64) && tag p_ (i / 8 % 8) && tag o_ (i % 8)) j))), (0, .ref h), (1, .int s_), (2, .int p_), (3, .int o_)]) hx hb dX1_count_66 hl (k := 0) rfl (nI_1 _) (by decide) rfl (fun ls hl => ?_)
            refine lv_goto (tgt := 6) hx hb dX1_count_69 (by decide) ?_
            rw [← e9] at hl
            exact ih _ (lv_sub hl [0, 1, 2, 3, 4, 5] rfl)
          · have e9 : tcn (fun i => F i && tag s_ (i / 64) && tag p_ (i / 8 % 8) && tag o_ (i % 8)) (j + 1) = tcn (fun i => F i && tag s_ (i / 64) && tag p_ (i / 8 % 8) && tag o_ (i % 8)) j + 1 := by show _ + tb (F j && tag s_ (j / 64) && tag p_ (j / 8 % 8) && tag o_ (j % 8)) = _; rw [tb_1 c_21, tb_1 c_33, tb_1 c_48, tb_1 c_60]; rfl
            refine lv_iinc (v := nI (tcn (fun i => F i && tag s_ (i / 64) && tag p_ (i / 8 % 8) && tag o_ (i % 8)) j + 1)) (lv' := [(4, .int (nI (tcn (fun i => F i && tag s_ (i / 64) && tag p_ (i / 8 % 8) && tag o_ (i % 8)) j + 1))), (5, .int (nI j)), (0, .ref h), (1, .int s_), (2, .int p_), (3, .int o_)]) hx hb dX1_count_63 hl (k := 1) rfl (nI_1 _) (by decide) rfl (fun ls hl => ?_)
            refine lv_iinc (v := nI (j + 1)) (lv' := [(5, .int (nI (j + 1))), (4, .int (nI (tcn (fun i => F i && tag s_ (i / 64) && tag p_ (i / 8 % 8) && tag o_ (i % 8)) j + 1))), (0, .ref h), (1, .int s_), (2, .int p_), (3, .int o_)]) hx hb dX1_count_66 hl (k := 1) rfl (nI_1 _) (by decide) rfl (fun ls hl => ?_)
            refine lv_goto (tgt := 6) hx hb dX1_count_69 (by decide) ?_
            rw [← e9] at hl
            exact ih _ (lv_sub hl [0, 1, 2, 3, 4, 5] rfl)
  · have hl := hJ
    refine lv_iload hx hb dX1_count_6 (lv_at hl 0 rfl) ?_
    refine lv_sipush (v := nI 512) hx hb dX1_count_8 (by decide) ?_
    refine tn_icmp_ge (tgt := 72) hx hb dX1_count_11 (by decide) (by decide) (by decide) (fun _ => ?_) (fun z => absurd z (by decide))
    refine lv_iload hx hb dX1_count_72 (lv_at hl 1 rfl) ?_
    exact W.iret (v := nI (tcn (fun i => F i && tag s_ (i / 64) && tag p_ (i / 8 % 8) && tag o_ (i % 8)) 512)) hx hb hr (fun t ht hW => ⟨_, rfl, rfl, ht⟩) (fun _ h9 => nomatch h9) dX1_count_74

set_option maxHeartbeats 1000000 in
set_option maxRecDepth 100000 in
/-- stands -/
theorem mm_stands {l : Launch} {D : va_G} {d z : ClassId} {h : Nat} {a : Nat → Nat} {fa : Nat → Int32} {N : Nat} {pl tr : Nat → Int32} (hN : N ≤ 4) (V : Nat) (hV : V < 4) : Met l yX1_stands (ws_ yX1_stands cX1_stands 3 (some .boolean)) (rm_ 1 0) (pJ D d z (wM h a d z fa (nI N) pl tr) [.ref h, .int (nI V)]) (vp_Si (fun r_ => r_ = nI (tb (tst pl N V)))) 0 0 (fun _ => False) := by
  refine Met.ofW (cc := cX1_stands) (maxL := 3) (ret := (some .boolean)) (by decide) rfl ?_
  intro p e s m args below meth c s₁ B hml hv
  obtain ⟨rfl, hP, hK, hD⟩ := hv
  have hx := B.exec
  have hb := B.bytes
  have hr := B.returns
  have hts := atoms_spec (ws := (ws_ yX1_stands cX1_stands 3 (some .boolean))) B.pre
  have hts : ∀ w ∈ lw_all, w.before _ s = true := fun w h => hts w (List.mem_cons_of_mem _ h)
  have hown : s.vm.findClass RX1 = some m.cls := findClass_of_methodNamed B.named
  have hlocks := B.notSynchronized
  have hl := lv_entry ([.ref h, .int (nI V)]) (n := 3) (Nat.le_of_ble_eq_true rfl)
  rw [lg_entry_eq]
  generalize (lg_sl ([.ref h, .int (nI V)]) ++ List.replicate (3 - (lg_sl ([.ref h, .int (nI V)])).length) Slot.unset).toArray = ls at hl ⊢
  have hl : lv_has ls 3 [(0, .ref h), (1, .int (nI V))] := hl
  refine lv_iconst (v := nI 0) hx hb dX1_stands_0 (by decide) ?_
  refine lv_istore_n (lv' := [(2, .int (nI 0)), (0, .ref h), (1, .int (nI V))]) hx hb dX1_stands_1 rfl hl (by decide) rfl (fun ls hl => ?_)
  refine tn_for (fun j ls => lv_has ls 3 [(2, .int (nI j)), (0, .ref h), (1, .int (nI V))] ∧ (∀ k, k < j → pl k ≠ -1 - nI V)) (3 * N) 0 (by omega) ⟨lv_sub hl [0, 1, 2] rfl, (fun k hk => absurd hk (Nat.not_lt_zero k))⟩ (fun j ls hj hJ ih => ?_) (fun ls hJ => ?_)
  · obtain ⟨hl, hE⟩ := hJ
    refine lv_iload_n hx hb dX1_stands_2 rfl (lv_at hl 0 rfl) ?_
    refine lv_iconst (v := nI 3) hx hb dX1_stands_3 (by decide) ?_
    refine lv_aload_n hx hb dX1_stands_4 rfl (lv_at hl 1 rfl) ?_
    refine va_get (D := D) (ci := 1) (v := .int (nI N)) (C := RX1) (T := TX1) (N := 4) hx hb hts in_X1 hown hK hP 0 rfl rfl 1 (by decide) (hts _ q177) (fun _ h9 => h9) rfl dX1_stands_5 ?_
    refine tn_imul hx hb dX1_stands_8 ?_
    refine tn_icmp_ge (tgt := 32) hx hb dX1_stands_9 (by decide) (by omega) (by omega) (fun z => absurd z (by omega)) (fun _ => ?_)
    refine lv_aload_n hx hb dX1_stands_12 rfl (lv_at hl 1 rfl) ?_
    refine va_get (D := D) (ci := 1) (v := .ref (a 2)) (C := RX1) (T := TX1) (N := 4) hx hb hts in_X1 hown hK hP 0 rfl rfl 2 (by decide) (hts _ q178) (fun _ h9 => h9) rfl dX1_stands_13 ?_
    refine lv_iload_n hx hb dX1_stands_16 rfl (lv_at hl 0 rfl) ?_
    refine tn_iald hx hb hK hP 2 0 rfl rfl (j := j) (by omega) (by decide) dX1_stands_17 ?_
    refine lv_iconst (v := (-1)) hx hb dX1_stands_18 (by decide) ?_
    refine lv_iload_n hx hb dX1_stands_19 rfl (lv_at hl 2 rfl) ?_
    refine lv_isub hx hb dX1_stands_20 ?_
    refine lv_icmp_ne (tgt := 26) hx hb dX1_stands_21 (by decide) (fun c_21 => ?_) (fun c_21 => ?_)
    · refine lv_iinc (v := nI (j + 1)) (lv' := [(2, .int (nI (j + 1))), (0, .ref h), (1, .int (nI V))]) hx hb dX1_stands_26 hl (k := 0) rfl (nI_1 _) (by decide) rfl (fun ls hl => ?_)
      refine lv_goto (tgt := 2) hx hb dX1_stands_29 (by decide) ?_
      exact ih _ ⟨lv_sub hl [0, 1, 2] rfl, (fun k hk => by
              by_cases e : k = j
              · rw [e]; exact c_21
              · exact hE k (by omega))⟩
    · refine lv_iconst (v := nI 1) hx hb dX1_stands_24 (by decide) ?_
      exact W.zret (v := nI 1) hx hb hr rfl (fun t ht hW => ⟨_, rfl, (by rw [show tst pl N V = true by unfold tst tsd; rw [tva_k V hV, thit_t c_21 (3 * N) hj]; rfl]; rfl), ht⟩) (fun _ h9 => nomatch h9) dX1_stands_25
  · obtain ⟨hl, hE⟩ := hJ
    refine lv_iload_n hx hb dX1_stands_2 rfl (lv_at hl 0 rfl) ?_
    refine lv_iconst (v := nI 3) hx hb dX1_stands_3 (by decide) ?_
    refine lv_aload_n hx hb dX1_stands_4 rfl (lv_at hl 1 rfl) ?_
    refine va_get (D := D) (ci := 1) (v := .int (nI N)) (C := RX1) (T := TX1) (N := 4) hx hb hts in_X1 hown hK hP 0 rfl rfl 1 (by decide) (hts _ q177) (fun _ h9 => h9) rfl dX1_stands_5 ?_
    refine tn_imul hx hb dX1_stands_8 ?_
    refine tn_icmp_ge (tgt := 32) hx hb dX1_stands_9 (by decide) (by omega) (by omega) (fun _ => ?_) (fun z => absurd z (by omega))
    refine lv_iconst (v := nI 0) hx hb dX1_stands_32 (by decide) ?_
    exact W.zret (v := nI 0) hx hb hr rfl (fun t ht hW => ⟨_, rfl, (by rw [show tst pl N V = false by unfold tst tsd; rw [thit_f (3 * N) hE, Bool.and_false]]; rfl), ht⟩) (fun _ h9 => nomatch h9) dX1_stands_33

set_option maxHeartbeats 1000000 in
set_option maxRecDepth 100000 in
/-- filled -/
theorem mm_filled {l : Launch} {D : va_G} {d z : ClassId} {h : Nat} {a : Nat → Nat} {fa : Nat → Int32} {N : Nat} {pl tr : Nat → Int32} (J : Nat) (hJ12 : J < 12) (hok : tok (pl J)) : Met l yX1_filled (ws_ yX1_filled cX1_filled 2 (some .int)) (rm_ 1 0) (pJ D d z (wM h a d z fa (nI N) pl tr) [.ref h, .int (nI J)]) (vp_Si (fun r_ => r_ = tkn tr (pl J))) 0 0 (fun _ => False) := by
  refine Met.ofW (cc := cX1_filled) (maxL := 2) (ret := (some .int)) (by decide) rfl ?_
  intro p e s m args below meth c s₁ B hml hv
  obtain ⟨rfl, hP, hK, hD⟩ := hv
  have hx := B.exec
  have hb := B.bytes
  have hr := B.returns
  have hts := atoms_spec (ws := (ws_ yX1_filled cX1_filled 2 (some .int))) B.pre
  have hts : ∀ w ∈ lw_all, w.before _ s = true := fun w h => hts w (List.mem_cons_of_mem _ h)
  have hown : s.vm.findClass RX1 = some m.cls := findClass_of_methodNamed B.named
  have hlocks := B.notSynchronized
  have hl := lv_entry ([.ref h, .int (nI J)]) (n := 2) (Nat.le_of_ble_eq_true rfl)
  rw [lg_entry_eq]
  generalize (lg_sl ([.ref h, .int (nI J)]) ++ List.replicate (2 - (lg_sl ([.ref h, .int (nI J)])).length) Slot.unset).toArray = ls at hl ⊢
  have hl : lv_has ls 2 [(0, .ref h), (1, .int (nI J))] := hl
  rcases hok with ⟨S, hS, eS⟩ | ⟨k, hk, ek⟩
  · refine lv_aload_n hx hb dX1_filled_0 rfl (lv_at hl 0 rfl) ?_
    refine va_get (D := D) (ci := 1) (v := .ref (a 2)) (C := RX1) (T := TX1) (N := 4) hx hb hts in_X1 hown hK hP 0 rfl rfl 2 (by decide) (hts _ q178) (fun _ h9 => h9) rfl dX1_filled_1 ?_
    refine lv_iload_n hx hb dX1_filled_4 rfl (lv_at hl 1 rfl) ?_
    refine tn_iald hx hb hK hP 2 0 rfl rfl (j := J) (by omega) (by decide) dX1_filled_5 ?_
    refine tn_as (nI S) eS ?_
    refine tn_if_lt (tgt := 18) hx hb dX1_filled_6 (by decide) (by omega) ?_
    refine lv_aload_n hx hb dX1_filled_9 rfl (lv_at hl 0 rfl) ?_
    refine va_get (D := D) (ci := 1) (v := .ref (a 2)) (C := RX1) (T := TX1) (N := 4) hx hb hts in_X1 hown hK hP 0 rfl rfl 2 (by decide) (hts _ q178) (fun _ h9 => h9) rfl dX1_filled_10 ?_
    refine lv_iload_n hx hb dX1_filled_13 rfl (lv_at hl 1 rfl) ?_
    refine tn_iald hx hb hK hP 2 0 rfl rfl (j := J) (by omega) (by decide) dX1_filled_14 ?_
    refine lv_goto (tgt := 31) hx hb dX1_filled_15 (by decide) ?_
    exact W.iret (v := pl J) hx hb hr (fun t ht hW => ⟨_, rfl, (by rw [eS, tkn_nI tr hS]), ht⟩) (fun _ h9 => nomatch h9) dX1_filled_31
  · refine lv_aload_n hx hb dX1_filled_0 rfl (lv_at hl 0 rfl) ?_
    refine va_get (D := D) (ci := 1) (v := .ref (a 2)) (C := RX1) (T := TX1) (N := 4) hx hb hts in_X1 hown hK hP 0 rfl rfl 2 (by decide) (hts _ q178) (fun _ h9 => h9) rfl dX1_filled_1 ?_
    refine lv_iload_n hx hb dX1_filled_4 rfl (lv_at hl 1 rfl) ?_
    refine tn_iald hx hb hK hP 2 0 rfl rfl (j := J) (by omega) (by decide) dX1_filled_5 ?_
    refine tn_as (-1 - nI k) ek ?_
    refine lv_if_lt (tgt := 18) hx hb dX1_filled_6 (by decide) (fun _ => ?_) (fun z => absurd z (fun q => q (t_neg k hk)))
    refine lv_aload_n hx hb dX1_filled_18 rfl (lv_at hl 0 rfl) ?_
    refine va_get (D := D) (ci := 1) (v := .ref (a 3)) (C := RX1) (T := TX1) (N := 4) hx hb hts in_X1 hown hK hP 0 rfl rfl 3 (by decide) (hts _ q179) (fun _ h9 => h9) rfl dX1_filled_19 ?_
    refine lv_iconst (v := (-1)) hx hb dX1_filled_22 (by decide) ?_
    refine lv_aload_n hx hb dX1_filled_23 rfl (lv_at hl 0 rfl) ?_
    refine va_get (D := D) (ci := 1) (v := .ref (a 2)) (C := RX1) (T := TX1) (N := 4) hx hb hts in_X1 hown hK hP 0 rfl rfl 2 (by decide) (hts _ q178) (fun _ h9 => h9) rfl dX1_filled_24 ?_
    refine lv_iload_n hx hb dX1_filled_27 rfl (lv_at hl 1 rfl) ?_
    refine tn_iald hx hb hK hP 2 0 rfl rfl (j := J) (by omega) (by decide) dX1_filled_28 ?_
    refine tn_as (-1 - nI k) ek ?_
    refine lv_isub hx hb dX1_filled_29 ?_
    refine tn_as (nI k) (t_back k) ?_
    refine tn_iald hx hb hK hP 3 0 rfl rfl (j := k) (by omega) (by decide) dX1_filled_30 ?_
    exact W.iret (v := tr k) hx hb hr (fun t ht hW => ⟨_, rfl, (by rw [ek, tkn_k tr hk]), ht⟩) (fun _ h9 => nomatch h9) dX1_filled_31

set_option maxHeartbeats 1000000 in
set_option maxRecDepth 100000 in
/-- missing -/
theorem mm_missing {l : Launch} {D : va_G} {d z : ClassId} {h : Nat} {a : Nat → Nat} {fa : Nat → Int32} {N : Nat} {pl tr : Nat → Int32} (hN : N ≤ 4) (v_ : Int32) : Met l yX1_missing (ws_ yX1_missing cX1_missing 2 (some .boolean)) (rm_ 2 22) (pJ D d z (wM h a d z fa (nI N) pl tr) [.ref h, .int v_]) (vp_Si (fun r_ => r_ = nI (tb (!tsd pl N v_)))) 0 0 (fun _ => False) := by
  refine Met.ofW (cc := cX1_missing) (maxL := 2) (ret := (some .boolean)) (by decide) rfl ?_
  intro p e s m args below meth c s₁ B hml hv
  obtain ⟨rfl, hP, hK, hD⟩ := hv
  have hx := B.exec
  have hb := B.bytes
  have hr := B.returns
  have hts := atoms_spec (ws := (ws_ yX1_missing cX1_missing 2 (some .boolean))) B.pre
  have hts : ∀ w ∈ lw_all, w.before _ s = true := fun w h => hts w (List.mem_cons_of_mem _ h)
  have hown : s.vm.findClass RX1 = some m.cls := findClass_of_methodNamed B.named
  have hlocks := B.notSynchronized
  have hl := lv_entry ([.ref h, .int v_]) (n := 2) (Nat.le_of_ble_eq_true rfl)
  rw [lg_entry_eq]
  generalize (lg_sl ([.ref h, .int v_]) ++ List.replicate (2 - (lg_sl ([.ref h, .int v_])).length) Slot.unset).toArray = ls at hl ⊢
  have hl : lv_has ls 2 [(0, .ref h), (1, .int v_)] := hl
  refine lv_iload_n hx hb dX1_missing_0 rfl (lv_at hl 1 rfl) ?_
  refine lv_bipush (v := (-4)) hx hb dX1_missing_1 (by decide) ?_
  refine lv_icmp_lt (tgt := 21) hx hb dX1_missing_3 (by decide) (fun c_3 => ?_) (fun c_3 => ?_)
  · refine lv_iconst (v := nI 1) hx hb dX1_missing_21 (by decide) ?_
    refine lv_goto (tgt := 26) hx hb dX1_missing_22 (by decide) ?_
    exact W.zret (v := nI 1) hx hb hr rfl (fun t ht hW => ⟨_, rfl, (by rw [show tsd pl N v_ = false by unfold tsd; rw [show tva v_ = false by unfold tva; rw [decide_eq_false_iff_not]; exact fun q => Int32.not_lt.mpr q.1 c_3]; rfl]; rfl), ht⟩) (fun _ h9 => nomatch h9) dX1_missing_26
  · refine lv_iload_n hx hb dX1_missing_6 rfl (lv_at hl 1 rfl) ?_
    refine lv_iconst (v := (-1)) hx hb dX1_missing_7 (by decide) ?_
    refine lv_icmp_gt (tgt := 21) hx hb dX1_missing_8 (by decide) (fun c_8 => ?_) (fun c_8 => ?_)
    · refine lv_iconst (v := nI 1) hx hb dX1_missing_21 (by decide) ?_
      refine lv_goto (tgt := 26) hx hb dX1_missing_22 (by decide) ?_
      exact W.zret (v := nI 1) hx hb hr rfl (fun t ht hW => ⟨_, rfl, (by rw [show tsd pl N v_ = false by unfold tsd; rw [show tva v_ = false by unfold tva; rw [decide_eq_false_iff_not]; exact fun q => Int32.not_lt.mpr q.2 c_8]; rfl]; rfl), ht⟩) (fun _ h9 => nomatch h9) dX1_missing_26
    · obtain ⟨V, hV4, rfl⟩ := tva_t (show tva v_ = true by unfold tva; rw [decide_eq_true_eq]; exact ⟨Int32.not_lt.mp c_3, Int32.not_lt.mp c_8⟩)
      refine lv_aload_n hx hb dX1_missing_11 rfl (lv_at hl 0 rfl) ?_
      refine lv_iconst (v := (-1)) hx hb dX1_missing_12 (by decide) ?_
      refine lv_iload_n hx hb dX1_missing_13 rfl (lv_at hl 1 rfl) ?_
      refine lv_isub hx hb dX1_missing_14 ?_
      refine tn_as (nI V) (t_back V) ?_
      refine vp_callSi (W.runV (As := [.int (nI V)]) (rest := []) ⟨hx, hb, hml, hown, hts⟩ (mm_stands hN V hV4) (cwV 1 hts (lw_V q225 q227 qs14 q19 q228) rfl rfl rfl (by decide +kernel) ⟨Nat.le_of_ble_eq_true rfl, Nat.le_of_ble_eq_true rfl⟩) (pJ_preM hK hP hD rfl) rfl rfl hl.1 rfl (lv_room (Nat.le_of_ble_eq_true rfl)) dX1_missing_15 ⟨Nat.le_refl _, Nat.le_refl _⟩) (fun r_15 hr_15 => ?_)
      subst hr_15
      refine tn_if_ne (tgt := 25) hx hb dX1_missing_18 (by decide) (tb_lt _) (fun c_18 => ?_) (fun c_18 => ?_)
      · refine lv_iconst (v := nI 0) hx hb dX1_missing_25 (by decide) ?_
        exact W.zret (v := nI 0) hx hb hr rfl (fun t ht hW => ⟨_, rfl, (by rw [show tsd pl N (-1 - nI V) = true from tb_1 c_18]; rfl), ht⟩) (fun _ h9 => nomatch h9) dX1_missing_26
      · refine lv_iconst (v := nI 1) hx hb dX1_missing_21 (by decide) ?_
        refine lv_goto (tgt := 26) hx hb dX1_missing_22 (by decide) ?_
        exact W.zret (v := nI 1) hx hb hr rfl (fun t ht hW => ⟨_, rfl, (by rw [show tsd pl N (-1 - nI V) = false from tb_0 c_18]; rfl), ht⟩) (fun _ h9 => nomatch h9) dX1_missing_26

set_option maxHeartbeats 1000000 in
set_option maxRecDepth 100000 in
/-- add -/
theorem mm_add {l : Launch} {D : va_G} {d z : ClassId} {h : Nat} {a : Nat → Nat} {fa : Nat → Int32} {N : Nat} {pl tr : Nat → Int32} {F : Nat → Bool} (hF : ∀ i, i < 512 → fa i = nI (tb (F i))) (h48 : tC3 F (-1) (-1) (-1) ≤ 48) (s_ p_ o_ : Int32) : Met l yX1_add (ws_ yX1_add cX1_add 4 (some .int)) (rm_ 3 43) (pJ D d z (wM h a d z fa (nI N) pl tr) [.ref h, .int s_, .int p_, .int o_]) (va_Qi (fun (r_ : Int32) (u : Nat → Int32) => r_ = tar F s_ p_ o_ ∧ ∀ i, i < 512 → u i = nI (tb (taF F s_ p_ o_ i))) (fun u t => va_P D vwCl (wM h a d z u (nI N) pl tr) t.heap) (oM h a)) 0 0 (oM h a) := by
  refine Met.ofW (cc := cX1_add) (maxL := 4) (ret := (some .int)) (by decide) rfl ?_
  intro p e s m args below meth c s₁ B hml hv
  obtain ⟨rfl, hP, hK, hD⟩ := hv
  have hx := B.exec
  have hb := B.bytes
  have hr := B.returns
  have hts := atoms_spec (ws := (ws_ yX1_add cX1_add 4 (some .int))) B.pre
  have hts : ∀ w ∈ lw_all, w.before _ s = true := fun w h => hts w (List.mem_cons_of_mem _ h)
  have hown : s.vm.findClass RX1 = some m.cls := findClass_of_methodNamed B.named
  have hlocks := B.notSynchronized
  have hD := oM_D hD
  have hS : va_S (oM h a) s.heap s.heap [] := va_S.rf
  have hl := lv_entry ([.ref h, .int s_, .int p_, .int o_]) (n := 4) (Nat.le_of_ble_eq_true rfl)
  rw [lg_entry_eq]
  generalize (lg_sl ([.ref h, .int s_, .int p_, .int o_]) ++ List.replicate (4 - (lg_sl ([.ref h, .int s_, .int p_, .int o_])).length) Slot.unset).toArray = ls at hl ⊢
  have hl : lv_has ls 4 [(0, .ref h), (1, .int s_), (2, .int p_), (3, .int o_)] := hl
  refine lv_aload_n hx hb dX1_add_0 rfl (lv_at hl 0 rfl) ?_
  refine lv_iload_n hx hb dX1_add_1 rfl (lv_at hl 1 rfl) ?_
  refine lv_iload_n hx hb dX1_add_2 rfl (lv_at hl 2 rfl) ?_
  refine lv_iload_n hx hb dX1_add_3 rfl (lv_at hl 3 rfl) ?_
  refine vp_callSi (W.runV (As := [.int s_, .int p_, .int o_]) (rest := []) ⟨hx, hb, hml, hown, hts⟩ (mm_has hF s_ p_ o_) (cwV 3 hts (lw_V q194 q195 q196 q19 q197) rfl rfl rfl (by decide +kernel) ⟨Nat.le_of_ble_eq_true rfl, Nat.le_of_ble_eq_true rfl⟩) (pJ_preM hK hP hD rfl) rfl rfl hl.1 rfl (lv_room (Nat.le_of_ble_eq_true rfl)) dX1_add_4 ⟨Nat.le_refl _, Nat.le_refl _⟩) (fun r_4 hr_4 => ?_)
  subst hr_4
  refine lv_iconst (v := nI 1) hx hb dX1_add_7 (by decide) ?_
  refine tn_icmp_eq (tgt := 41) hx hb dX1_add_8 (by decide) (tb_lt _) (by decide) (fun c_8 => ?_) (fun c_8 => ?_)
  · refine lv_iconst (v := (-1)) hx hb dX1_add_41 (by decide) ?_
    have hz : tao F s_ p_ o_ = false := by exact tao_has (tb_1 (by omega))
    exact W.iret (v := (-1)) hx hb hr (fun t ht hW => ⟨⟨_, fa, rfl, ⟨by unfold tar; rw [hz]; rfl, by unfold taF; rw [hz]; exact hF⟩, by show va_P D vwCl _ t.heap; rw [ht]; exact hP⟩, hS.F ht⟩) hS.2.2 dX1_add_42
  · have hnh : thas F s_ p_ o_ = false := by cases e : thas F s_ p_ o_ with
      | false => rfl
      | true => rw [e] at c_8; exact absurd rfl c_8
    refine lv_iload_n hx hb dX1_add_11 rfl (lv_at hl 1 rfl) ?_
    refine vp_callSi (W.runS (As := [.int s_]) (rest := []) ⟨hx, hb, hml, hown, hts⟩ (mm_outside l s_) (va_cwS 1 hts (lw_S q198 q199 q19 q200) rfl rfl rfl (by decide +kernel) ⟨Nat.le_of_ble_eq_true rfl, Nat.le_of_ble_eq_true rfl⟩) pS_pre rfl rfl hl.1 rfl (lv_room (Nat.le_of_ble_eq_true rfl)) dX1_add_12 ⟨Nat.le_refl _, Nat.le_refl _⟩) (fun r_12 hr_12 => ?_)
    subst hr_12
    refine tn_if_ne (tgt := 41) hx hb dX1_add_15 (by decide) (tb_lt _) (fun c_15 => ?_) (fun c_15 => ?_)
    · have ho : tpa s_ = false := tnot (tb_1 c_15)
      refine lv_iconst (v := (-1)) hx hb dX1_add_41 (by decide) ?_
      have hz : tao F s_ p_ o_ = false := by unfold tao; rw [ho]; simp
      exact W.iret (v := (-1)) hx hb hr (fun t ht hW => ⟨⟨_, fa, rfl, ⟨by unfold tar; rw [hz]; rfl, by unfold taF; rw [hz]; exact hF⟩, by show va_P D vwCl _ t.heap; rw [ht]; exact hP⟩, hS.F ht⟩) hS.2.2 dX1_add_42
    · obtain ⟨S, hS8, rfl⟩ := tpa_t (tnotf (tb_0 c_15))
      refine lv_iload_n hx hb dX1_add_18 rfl (lv_at hl 2 rfl) ?_
      refine vp_callSi (W.runS (As := [.int p_]) (rest := []) ⟨hx, hb, hml, hown, hts⟩ (mm_outside l p_) (va_cwS 1 hts (lw_S q198 q199 q19 q200) rfl rfl rfl (by decide +kernel) ⟨Nat.le_of_ble_eq_true rfl, Nat.le_of_ble_eq_true rfl⟩) pS_pre rfl rfl hl.1 rfl (lv_room (Nat.le_of_ble_eq_true rfl)) dX1_add_19 ⟨Nat.le_refl _, Nat.le_refl _⟩) (fun r_19 hr_19 => ?_)
      subst hr_19
      refine tn_if_ne (tgt := 41) hx hb dX1_add_22 (by decide) (tb_lt _) (fun c_22 => ?_) (fun c_22 => ?_)
      · have ho : tpa p_ = false := tnot (tb_1 c_22)
        refine lv_iconst (v := (-1)) hx hb dX1_add_41 (by decide) ?_
        have hz : tao F (nI S) p_ o_ = false := by unfold tao; rw [ho]; simp
        exact W.iret (v := (-1)) hx hb hr (fun t ht hW => ⟨⟨_, fa, rfl, ⟨by unfold tar; rw [hz]; rfl, by unfold taF; rw [hz]; exact hF⟩, by show va_P D vwCl _ t.heap; rw [ht]; exact hP⟩, hS.F ht⟩) hS.2.2 dX1_add_42
      · obtain ⟨P, hP8, rfl⟩ := tpa_t (tnotf (tb_0 c_22))
        refine lv_iload_n hx hb dX1_add_25 rfl (lv_at hl 3 rfl) ?_
        refine vp_callSi (W.runS (As := [.int o_]) (rest := []) ⟨hx, hb, hml, hown, hts⟩ (mm_outside l o_) (va_cwS 1 hts (lw_S q198 q199 q19 q200) rfl rfl rfl (by decide +kernel) ⟨Nat.le_of_ble_eq_true rfl, Nat.le_of_ble_eq_true rfl⟩) pS_pre rfl rfl hl.1 rfl (lv_room (Nat.le_of_ble_eq_true rfl)) dX1_add_26 ⟨Nat.le_refl _, Nat.le_refl _⟩) (fun r_26 hr_26 => ?_)
        subst hr_26
        refine tn_if_ne (tgt := 41) hx hb dX1_add_29 (by decide) (tb_lt _) (fun c_29 => ?_) (fun c_29 => ?_)
        · have ho : tpa o_ = false := tnot (tb_1 c_29)
          refine lv_iconst (v := (-1)) hx hb dX1_add_41 (by decide) ?_
          have hz : tao F (nI S) (nI P) o_ = false := by unfold tao; rw [ho]; simp
          exact W.iret (v := (-1)) hx hb hr (fun t ht hW => ⟨⟨_, fa, rfl, ⟨by unfold tar; rw [hz]; rfl, by unfold taF; rw [hz]; exact hF⟩, by show va_P D vwCl _ t.heap; rw [ht]; exact hP⟩, hS.F ht⟩) hS.2.2 dX1_add_42
        · obtain ⟨O, hO8, rfl⟩ := tpa_t (tnotf (tb_0 c_29))
          have hnF : F (64 * S + 8 * P + O) = false := by
            unfold thas at hnh
            rw [tpa_nI hS8, tpa_nI hP8, tpa_nI hO8, tix_nI hS8 hP8 hO8] at hnh
            exact hnh
          refine lv_aload_n hx hb dX1_add_32 rfl (lv_at hl 0 rfl) ?_
          refine vp_callSi (W.runV (As := []) (rest := []) ⟨hx, hb, hml, hown, hts⟩ (mm_held hF) (cwV 0 hts (lw_V q201 q203 qs12 q19 q204) rfl rfl rfl (by decide +kernel) ⟨Nat.le_of_ble_eq_true rfl, Nat.le_of_ble_eq_true rfl⟩) (pJ_preM hK hP hD rfl) rfl rfl hl.1 rfl (lv_room (Nat.le_of_ble_eq_true rfl)) dX1_add_33 ⟨Nat.le_refl _, Nat.le_refl _⟩) (fun r_33 hr_33 => ?_)
          subst hr_33
          refine lv_bipush (v := nI 48) hx hb dX1_add_36 (by decide) ?_
          refine tn_icmp_ne (tgt := 43) hx hb dX1_add_38 (by decide) (tC3_lt _ _ _ _) (by decide) (fun c_38 => ?_) (fun c_38 => ?_)
          · have hz : tao F (nI S) (nI P) (nI O) = true := by unfold tao; rw [tpa_nI hS8, tpa_nI hP8, tpa_nI hO8, tix_nI hS8 hP8 hO8, hnF, decide_eq_true (by omega)]; rfl
            refine lv_aload_n hx hb dX1_add_43 rfl (lv_at hl 0 rfl) ?_
            refine va_get (D := D) (ci := 1) (v := .ref (a 0)) (C := RX1) (T := TX1) (N := 4) hx hb hts in_X1 hown hK hP 0 rfl rfl 0 (by decide) (hts _ q176) (fun _ h9 => h9) rfl dX1_add_44 ?_
            refine lv_bipush (v := nI 64) hx hb dX1_add_47 (by decide) ?_
            refine lv_iload_n hx hb dX1_add_49 rfl (lv_at hl 1 rfl) ?_
            refine tn_imul hx hb dX1_add_50 ?_
            refine lv_bipush (v := nI 8) hx hb dX1_add_51 (by decide) ?_
            refine lv_iload_n hx hb dX1_add_53 rfl (lv_at hl 2 rfl) ?_
            refine tn_imul hx hb dX1_add_54 ?_
            refine tn_iadd hx hb dX1_add_55 ?_
            refine lv_iload_n hx hb dX1_add_56 rfl (lv_at hl 3 rfl) ?_
            refine tn_iadd hx hb dX1_add_57 ?_
            refine lv_iconst (v := nI 1) hx hb dX1_add_58 (by decide) ?_
            refine tn_zast hx hb hK hP hD hS 1 1 rfl rfl (j := ((64 * S) + (8 * P)) + O) (x := nI 1) (by omega) (by decide) rfl dX1_add_59 (fun H locs hP hD hS => ?_)
            have hP : va_P D vwCl (wM h a d z (upd fa (((64 * S) + (8 * P)) + O) (nI 1)) (nI N) pl tr) H := hP
            have hD : va_D (oM h a) (wM h a d z (upd fa (((64 * S) + (8 * P)) + O) (nI 1)) (nI N) pl tr) := hD
            have hF2 : ∀ i, i < 512 → upd fa (64 * S + 8 * P + O) (nI 1) i = nI (tb (tset F (64 * S + 8 * P + O) true i)) := tset_arr (b := true) hF
            refine lv_aload_n hx hb dX1_add_60 rfl (lv_at hl 0 rfl) ?_
            refine vp_callSi (W.runV (As := []) (rest := []) ⟨hx, hb, hml, hown, hts⟩ (mm_held hF2) (cwV 0 hts (lw_V q201 q203 qs12 q19 q204) rfl rfl rfl (by decide +kernel) ⟨Nat.le_of_ble_eq_true rfl, Nat.le_of_ble_eq_true rfl⟩) (pJ_preM hK hP hD rfl) rfl rfl hl.1 rfl (lv_room (Nat.le_of_ble_eq_true rfl)) dX1_add_61 ⟨Nat.le_refl _, Nat.le_refl _⟩) (fun r_61 hr_61 => ?_)
            subst hr_61
            exact W.iret (v := nI (tC3 (tset F (64 * S + 8 * P + O) true) (-1) (-1) (-1))) hx hb hr (fun t ht hW => ⟨⟨_, (upd fa (64 * S + 8 * P + O) (nI 1)), rfl, ⟨by unfold tar; rw [hz, if_pos rfl, tC3_plus (by omega) hnF], by unfold taF; rw [hz, if_pos rfl, tix_nI hS8 hP8 hO8]; exact hF2⟩, by show va_P D vwCl _ t.heap; rw [ht]; exact hP⟩, hS.F ht⟩) hS.2.2 dX1_add_64
          · refine lv_iconst (v := (-1)) hx hb dX1_add_41 (by decide) ?_
            have hz : tao F (nI S) (nI P) (nI O) = false := by unfold tao; rw [decide_eq_false (by omega)]; simp
            exact W.iret (v := (-1)) hx hb hr (fun t ht hW => ⟨⟨_, fa, rfl, ⟨by unfold tar; rw [hz]; rfl, by unfold taF; rw [hz]; exact hF⟩, by show va_P D vwCl _ t.heap; rw [ht]; exact hP⟩, hS.F ht⟩) hS.2.2 dX1_add_42

set_option maxHeartbeats 1000000 in
set_option maxRecDepth 100000 in
/-- remove -/
theorem mm_remove {l : Launch} {D : va_G} {d z : ClassId} {h : Nat} {a : Nat → Nat} {fa : Nat → Int32} {N : Nat} {pl tr : Nat → Int32} {F : Nat → Bool} (hF : ∀ i, i < 512 → fa i = nI (tb (F i))) (s_ p_ o_ : Int32) : Met l yX1_remove (ws_ yX1_remove cX1_remove 4 (some .int)) (rm_ 3 43) (pJ D d z (wM h a d z fa (nI N) pl tr) [.ref h, .int s_, .int p_, .int o_]) (va_Qi (fun (r_ : Int32) (u : Nat → Int32) => r_ = trr F s_ p_ o_ ∧ ∀ i, i < 512 → u i = nI (tb (trF F s_ p_ o_ i))) (fun u t => va_P D vwCl (wM h a d z u (nI N) pl tr) t.heap) (oM h a)) 0 0 (oM h a) := by
  refine Met.ofW (cc := cX1_remove) (maxL := 4) (ret := (some .int)) (by decide) rfl ?_
  intro p e s m args below meth c s₁ B hml hv
  obtain ⟨rfl, hP, hK, hD⟩ := hv
  have hx := B.exec
  have hb := B.bytes
  have hr := B.returns
  have hts := atoms_spec (ws := (ws_ yX1_remove cX1_remove 4 (some .int))) B.pre
  have hts : ∀ w ∈ lw_all, w.before _ s = true := fun w h => hts w (List.mem_cons_of_mem _ h)
  have hown : s.vm.findClass RX1 = some m.cls := findClass_of_methodNamed B.named
  have hlocks := B.notSynchronized
  have hD := oM_D hD
  have hS : va_S (oM h a) s.heap s.heap [] := va_S.rf
  have hl := lv_entry ([.ref h, .int s_, .int p_, .int o_]) (n := 4) (Nat.le_of_ble_eq_true rfl)
  rw [lg_entry_eq]
  generalize (lg_sl ([.ref h, .int s_, .int p_, .int o_]) ++ List.replicate (4 - (lg_sl ([.ref h, .int s_, .int p_, .int o_])).length) Slot.unset).toArray = ls at hl ⊢
  have hl : lv_has ls 4 [(0, .ref h), (1, .int s_), (2, .int p_), (3, .int o_)] := hl
  refine lv_aload_n hx hb dX1_remove_0 rfl (lv_at hl 0 rfl) ?_
  refine lv_iload_n hx hb dX1_remove_1 rfl (lv_at hl 1 rfl) ?_
  refine lv_iload_n hx hb dX1_remove_2 rfl (lv_at hl 2 rfl) ?_
  refine lv_iload_n hx hb dX1_remove_3 rfl (lv_at hl 3 rfl) ?_
  refine vp_callSi (W.runV (As := [.int s_, .int p_, .int o_]) (rest := []) ⟨hx, hb, hml, hown, hts⟩ (mm_has hF s_ p_ o_) (cwV 3 hts (lw_V q194 q195 q196 q19 q197) rfl rfl rfl (by decide +kernel) ⟨Nat.le_of_ble_eq_true rfl, Nat.le_of_ble_eq_true rfl⟩) (pJ_preM hK hP hD rfl) rfl rfl hl.1 rfl (lv_room (Nat.le_of_ble_eq_true rfl)) dX1_remove_4 ⟨Nat.le_refl _, Nat.le_refl _⟩) (fun r_4 hr_4 => ?_)
  subst hr_4
  refine tn_if_ne (tgt := 12) hx hb dX1_remove_7 (by decide) (tb_lt _) (fun c_7 => ?_) (fun c_7 => ?_)
  · have hz := tb_1 c_7
    obtain ⟨S, P, O, hS8, hP8, hO8, rfl, rfl, rfl, hFi⟩ := thas_t hz
    refine lv_aload_n hx hb dX1_remove_12 rfl (lv_at hl 0 rfl) ?_
    refine va_get (D := D) (ci := 1) (v := .ref (a 0)) (C := RX1) (T := TX1) (N := 4) hx hb hts in_X1 hown hK hP 0 rfl rfl 0 (by decide) (hts _ q176) (fun _ h9 => h9) rfl dX1_remove_13 ?_
    refine lv_bipush (v := nI 64) hx hb dX1_remove_16 (by decide) ?_
    refine lv_iload_n hx hb dX1_remove_18 rfl (lv_at hl 1 rfl) ?_
    refine tn_imul hx hb dX1_remove_19 ?_
    refine lv_bipush (v := nI 8) hx hb dX1_remove_20 (by decide) ?_
    refine lv_iload_n hx hb dX1_remove_22 rfl (lv_at hl 2 rfl) ?_
    refine tn_imul hx hb dX1_remove_23 ?_
    refine tn_iadd hx hb dX1_remove_24 ?_
    refine lv_iload_n hx hb dX1_remove_25 rfl (lv_at hl 3 rfl) ?_
    refine tn_iadd hx hb dX1_remove_26 ?_
    refine lv_iconst (v := nI 0) hx hb dX1_remove_27 (by decide) ?_
    refine tn_zast hx hb hK hP hD hS 1 1 rfl rfl (j := ((64 * S) + (8 * P)) + O) (x := nI 0) (by omega) (by decide) rfl dX1_remove_28 (fun H locs hP hD hS => ?_)
    have hP : va_P D vwCl (wM h a d z (upd fa (((64 * S) + (8 * P)) + O) (nI 0)) (nI N) pl tr) H := hP
    have hD : va_D (oM h a) (wM h a d z (upd fa (((64 * S) + (8 * P)) + O) (nI 0)) (nI N) pl tr) := hD
    have hF2 : ∀ i, i < 512 → upd fa (64 * S + 8 * P + O) (nI 0) i = nI (tb (tset F (64 * S + 8 * P + O) false i)) := tset_arr (b := false) hF
    refine lv_aload_n hx hb dX1_remove_29 rfl (lv_at hl 0 rfl) ?_
    refine vp_callSi (W.runV (As := []) (rest := []) ⟨hx, hb, hml, hown, hts⟩ (mm_held hF2) (cwV 0 hts (lw_V q201 q203 qs12 q19 q204) rfl rfl rfl (by decide +kernel) ⟨Nat.le_of_ble_eq_true rfl, Nat.le_of_ble_eq_true rfl⟩) (pJ_preM hK hP hD rfl) rfl rfl hl.1 rfl (lv_room (Nat.le_of_ble_eq_true rfl)) dX1_remove_30 ⟨Nat.le_refl _, Nat.le_refl _⟩) (fun r_30 hr_30 => ?_)
    subst hr_30
    exact W.iret (v := nI (tC3 (tset F (64 * S + 8 * P + O) false) (-1) (-1) (-1))) hx hb hr (fun t ht hW => ⟨⟨_, (upd fa (64 * S + 8 * P + O) (nI 0)), rfl, ⟨by unfold trr; rw [hz, if_pos rfl, tix_nI hS8 hP8 hO8], by unfold trF; rw [hz, if_pos rfl, tix_nI hS8 hP8 hO8]; exact hF2⟩, by show va_P D vwCl _ t.heap; rw [ht]; exact hP⟩, hS.F ht⟩) hS.2.2 dX1_remove_33
  · refine lv_iconst (v := (-1)) hx hb dX1_remove_10 (by decide) ?_
    have hz : thas F s_ p_ o_ = false := by exact tb_0 c_7
    exact W.iret (v := (-1)) hx hb hr (fun t ht hW => ⟨⟨_, fa, rfl, ⟨by unfold trr; rw [hz]; rfl, by unfold trF; rw [hz]; exact hF⟩, by show va_P D vwCl _ t.heap; rw [ht]; exact hP⟩, hS.F ht⟩) hS.2.2 dX1_remove_11

set_option maxHeartbeats 1000000 in
set_option maxRecDepth 100000 in
/-- solves -/
theorem mm_solves {l : Launch} {D : va_G} {d z : ClassId} {h : Nat} {a : Nat → Nat} {fa : Nat → Int32} {N : Nat} {pl tr : Nat → Int32} {F : Nat → Bool} (hF : ∀ i, i < 512 → fa i = nI (tb (F i))) (hN : N ≤ 4) (hpl : ∀ j, j < 3 * N → tok (pl j)) (m_ : Nat) (hm : m_ < 4096) : Met l yX1_solves (ws_ yX1_solves cX1_solves 6 (some .boolean)) (rm_ 2 22) (pJ D d z (wM h a d z fa (nI N) pl tr) [.ref h, .int (nI m_)]) (va_Qi (fun (r_ : Int32) (u : Nat → Int32) => r_ = nI (tb (tslv F pl N m_)) ∧ (tslv F pl N m_ = true → ∀ w, w < 4 → u w = nI (tdg w m_))) (fun u t => va_P D vwCl (wM h a d z fa (nI N) pl u) t.heap) (oM h a)) 0 0 (oM h a) := by
  refine Met.ofW (cc := cX1_solves) (maxL := 6) (ret := (some .boolean)) (by decide) rfl ?_
  intro p e s m args below meth c s₁ B hml hv
  obtain ⟨rfl, hP, hK, hD⟩ := hv
  have hx := B.exec
  have hb := B.bytes
  have hr := B.returns
  have hts := atoms_spec (ws := (ws_ yX1_solves cX1_solves 6 (some .boolean))) B.pre
  have hts : ∀ w ∈ lw_all, w.before _ s = true := fun w h => hts w (List.mem_cons_of_mem _ h)
  have hown : s.vm.findClass RX1 = some m.cls := findClass_of_methodNamed B.named
  have hlocks := B.notSynchronized
  have hD := oM_D hD
  have hS : va_S (oM h a) s.heap s.heap [] := va_S.rf
  have hl := lv_entry ([.ref h, .int (nI m_)]) (n := 6) (Nat.le_of_ble_eq_true rfl)
  rw [lg_entry_eq]
  generalize (lg_sl ([.ref h, .int (nI m_)]) ++ List.replicate (6 - (lg_sl ([.ref h, .int (nI m_)])).length) Slot.unset).toArray = ls at hl ⊢
  have hl : lv_has ls 6 [(0, .ref h), (1, .int (nI m_))] := hl
  refine lv_iconst (v := nI 0) hx hb dX1_solves_0 (by decide) ?_
  refine lv_istore_n (lv' := [(2, .int (nI 0)), (0, .ref h), (1, .int (nI m_))]) hx hb dX1_solves_1 rfl hl (by decide) rfl (fun ls hl => ?_)
  have hD_2 := hD
  refine tn_forH (fun j H locs ls => ∃ (tr_ : Nat → Int32), lv_has ls 6 [(2, .int (nI j)), (0, .ref h), (1, .int (nI m_))] ∧ va_P D vwCl (wM h a d z fa (nI N) pl tr_) H ∧ va_S (oM h a) s.heap H locs ∧ (∀ w, w < j → tr_ w = nI (tdg w m_)) ∧ (tz pl N m_ j = true)) 4 0 (by decide) ⟨tr, lv_sub hl [0, 1, 2] rfl, hP, hS, (fun w hw => absurd hw (Nat.not_lt_zero w)), rfl⟩ (fun j H locs ls hj hJ ih => ?_) (fun H locs ls hJ => ?_)
  · obtain ⟨tr_, hl, hP, hS, h1, h2⟩ := hJ
    have hD : va_D (oM h a) (wM h a d z fa (nI N) pl tr_) := va_D_re hD_2 rfl
    refine lv_iload_n hx hb dX1_solves_2 rfl (lv_at hl 0 rfl) ?_
    refine lv_iconst (v := nI 4) hx hb dX1_solves_3 (by decide) ?_
    refine tn_icmp_ge (tgt := 49) hx hb dX1_solves_4 (by decide) (by omega) (by decide) (fun z => absurd z (by omega)) (fun _ => ?_)
    refine lv_aload_n hx hb dX1_solves_7 rfl (lv_at hl 1 rfl) ?_
    refine va_get (D := D) (ci := 1) (v := .ref (a 3)) (C := RX1) (T := TX1) (N := 4) hx hb hts in_X1 hown hK hP 0 rfl rfl 3 (by decide) (hts _ q179) (fun _ h9 => h9) rfl dX1_solves_8 ?_
    refine lv_iload_n hx hb dX1_solves_11 rfl (lv_at hl 0 rfl) ?_
    refine lv_iload_n hx hb dX1_solves_12 rfl (lv_at hl 2 rfl) ?_
    refine lv_bipush (v := nI 9) hx hb dX1_solves_13 (by decide) ?_
    refine lv_iconst (v := nI 3) hx hb dX1_solves_15 (by decide) ?_
    refine lv_iload_n hx hb dX1_solves_16 rfl (lv_at hl 0 rfl) ?_
    refine tn_imul hx hb dX1_solves_17 ?_
    refine lv_isub hx hb dX1_solves_18 ?_
    refine lv_ishr hx hb dX1_solves_19 ?_
    refine lv_bipush (v := nI 7) hx hb dX1_solves_20 (by decide) ?_
    refine lv_iand hx hb dX1_solves_22 ?_
    refine tn_as (nI (tdg j m_)) (tdg_sh hm hj) ?_
    refine tn_iast hx hb hK hP hD hS 3 0 rfl rfl (j := j) (x := nI (tdg j m_)) (by omega) (by decide) dX1_solves_23 (fun H locs hP hD hS => ?_)
    have hP : va_P D vwCl (wM h a d z fa (nI N) pl (upd tr_ j (nI (tdg j m_)))) H := hP
    have hD : va_D (oM h a) (wM h a d z fa (nI N) pl (upd tr_ j (nI (tdg j m_)))) := hD
    refine lv_aload_n hx hb dX1_solves_24 rfl (lv_at hl 1 rfl) ?_
    refine va_get (D := D) (ci := 1) (v := .ref (a 3)) (C := RX1) (T := TX1) (N := 4) hx hb hts in_X1 hown hK hP 0 rfl rfl 3 (by decide) (hts _ q179) (fun _ h9 => h9) rfl dX1_solves_25 ?_
    refine lv_iload_n hx hb dX1_solves_28 rfl (lv_at hl 0 rfl) ?_
    refine tn_iald hx hb hK hP 3 0 rfl rfl (j := j) (by omega) (by decide) dX1_solves_29 ?_
    refine tn_as (nI (tdg j m_)) pk_us ?_
    refine tn_if_le (tgt := 43) hx hb dX1_solves_30 (by decide) (Nat.lt_trans (tdg_lt _ _) (by decide)) (fun c_30 => ?_) (fun c_30 => ?_)
    · refine lv_iinc (v := nI (j + 1)) (lv' := [(2, .int (nI (j + 1))), (0, .ref h), (1, .int (nI m_))]) hx hb dX1_solves_43 hl (k := 0) rfl (nI_1 _) (by decide) rfl (fun ls hl => ?_)
      refine lv_goto (tgt := 2) hx hb dX1_solves_46 (by decide) ?_
      exact ih _ _ _ ⟨_, lv_sub hl [0, 1, 2] rfl, hP, hS, (fun w hw => by
              by_cases e : w = j
              · rw [e, pk_us]
              · rw [pk_un e]; exact h1 w (by omega)), (by show (tz pl N m_ j && (decide (tdg j m_ = 0) || tst pl N j)) = true; rw [h2, decide_eq_true c_30]; rfl)⟩
    · refine lv_aload_n hx hb dX1_solves_33 rfl (lv_at hl 1 rfl) ?_
      refine lv_iload_n hx hb dX1_solves_34 rfl (lv_at hl 0 rfl) ?_
      refine vp_callSi (W.runV (As := [.int (nI j)]) (rest := []) ⟨hx, hb, hml, hown, hts⟩ (mm_stands hN j hj) (cwV 1 hts (lw_V q225 q227 qs14 q19 q228) rfl rfl rfl (by decide +kernel) ⟨Nat.le_of_ble_eq_true rfl, Nat.le_of_ble_eq_true rfl⟩) (pJ_preM hK hP hD rfl) rfl rfl hl.1 rfl (lv_room (Nat.le_of_ble_eq_true rfl)) dX1_solves_35 ⟨Nat.le_refl _, Nat.le_refl _⟩) (fun r_35 hr_35 => ?_)
      subst hr_35
      refine tn_if_ne (tgt := 43) hx hb dX1_solves_38 (by decide) (tb_lt _) (fun c_38 => ?_) (fun c_38 => ?_)
      · refine lv_iinc (v := nI (j + 1)) (lv' := [(2, .int (nI (j + 1))), (0, .ref h), (1, .int (nI m_))]) hx hb dX1_solves_43 hl (k := 0) rfl (nI_1 _) (by decide) rfl (fun ls hl => ?_)
        refine lv_goto (tgt := 2) hx hb dX1_solves_46 (by decide) ?_
        exact ih _ _ _ ⟨_, lv_sub hl [0, 1, 2] rfl, hP, hS, (fun w hw => by
                  by_cases e : w = j
                  · rw [e, pk_us]
                  · rw [pk_un e]; exact h1 w (by omega)), (by show (tz pl N m_ j && (decide (tdg j m_ = 0) || tst pl N j)) = true; rw [h2, tb_1 c_38]; simp)⟩
      · have hz : tslv F pl N m_ = false := by unfold tslv; rw [tz_f (j := j) (by omega) (show tz pl N m_ (j + 1) = false by show (tz pl N m_ j && (decide (tdg j m_ = 0) || tst pl N j)) = false; rw [decide_eq_false (by omega), tb_0 c_38]; simp)]; rfl
        refine lv_iconst (v := nI 0) hx hb dX1_solves_41 (by decide) ?_
        exact W.zret (v := nI 0) hx hb hr rfl (fun t ht hW => ⟨⟨_, (upd tr_ j (nI (tdg j m_))), rfl, ⟨by rw [hz]; rfl, fun z => absurd z (by rw [hz]; decide)⟩, by show va_P D vwCl _ t.heap; rw [ht]; exact hP⟩, hS.F ht⟩) hS.2.2 dX1_solves_42
  · obtain ⟨tr_, hl, hP, hS, h1, h2⟩ := hJ
    have hD : va_D (oM h a) (wM h a d z fa (nI N) pl tr_) := va_D_re hD_2 rfl
    refine lv_iload_n hx hb dX1_solves_2 rfl (lv_at hl 0 rfl) ?_
    refine lv_iconst (v := nI 4) hx hb dX1_solves_3 (by decide) ?_
    refine tn_icmp_ge (tgt := 49) hx hb dX1_solves_4 (by decide) (by decide) (by decide) (fun _ => ?_) (fun z => absurd z (by decide))
    refine lv_iconst (v := nI 0) hx hb dX1_solves_49 (by decide) ?_
    refine lv_istore_n (lv' := [(2, .int (nI 0)), (0, .ref h), (1, .int (nI m_))]) hx hb dX1_solves_50 rfl hl (by decide) rfl (fun ls hl => ?_)
    refine tn_for (fun k ls => lv_has ls 6 [(2, .int (nI k)), (0, .ref h), (1, .int (nI m_))] ∧ tps F pl m_ k = true) N 0 (by omega) ⟨lv_sub hl [0, 1, 2] rfl, rfl⟩ (fun k ls hk hJ ih => ?_) (fun ls hJ => ?_)
    · obtain ⟨hl, hE⟩ := hJ
      refine lv_iload_n hx hb dX1_solves_51 rfl (lv_at hl 0 rfl) ?_
      refine lv_aload_n hx hb dX1_solves_52 rfl (lv_at hl 1 rfl) ?_
      refine va_get (D := D) (ci := 1) (v := .int (nI N)) (C := RX1) (T := TX1) (N := 4) hx hb hts in_X1 hown hK hP 0 rfl rfl 1 (by decide) (hts _ q177) (fun _ h9 => h9) rfl dX1_solves_53 ?_
      refine tn_icmp_ge (tgt := 118) hx hb dX1_solves_56 (by decide) (by omega) (by omega) (fun z => absurd z (by omega)) (fun _ => ?_)
      refine lv_aload_n hx hb dX1_solves_59 rfl (lv_at hl 1 rfl) ?_
      refine lv_iconst (v := nI 3) hx hb dX1_solves_60 (by decide) ?_
      refine lv_iload_n hx hb dX1_solves_61 rfl (lv_at hl 0 rfl) ?_
      refine tn_imul hx hb dX1_solves_62 ?_
      refine vp_callSi (W.runV (As := [.int (nI (3 * k))]) (rest := []) ⟨hx, hb, hml, hown, hts⟩ (mm_filled (3 * k) (by omega) (hpl _ (by omega))) (cwV 1 hts (lw_V q229 q231 qs15 q19 q232) rfl rfl rfl (by decide +kernel) ⟨Nat.le_of_ble_eq_true rfl, Nat.le_of_ble_eq_true rfl⟩) (pJ_preM hK hP hD rfl) rfl rfl hl.1 rfl (lv_room (Nat.le_of_ble_eq_true rfl)) dX1_solves_63 ⟨Nat.le_refl _, Nat.le_refl _⟩) (fun r_63 hr_63 => ?_)
      subst hr_63
      obtain ⟨S, hS8, eS, dS⟩ := tkn_dig (hpl (3 * k) (by omega)) h1
      refine tn_as (nI S) dS ?_
      refine lv_istore_n (lv' := [(3, .int (nI S)), (2, .int (nI k)), (0, .ref h), (1, .int (nI m_))]) hx hb dX1_solves_66 rfl hl (by decide) rfl (fun ls hl => ?_)
      refine lv_aload_n hx hb dX1_solves_67 rfl (lv_at hl 2 rfl) ?_
      refine lv_iconst (v := nI 3) hx hb dX1_solves_68 (by decide) ?_
      refine lv_iload_n hx hb dX1_solves_69 rfl (lv_at hl 1 rfl) ?_
      refine tn_imul hx hb dX1_solves_70 ?_
      refine lv_iconst (v := nI 1) hx hb dX1_solves_71 (by decide) ?_
      refine tn_iadd hx hb dX1_solves_72 ?_
      refine vp_callSi (W.runV (As := [.int (nI ((3 * k) + 1))]) (rest := []) ⟨hx, hb, hml, hown, hts⟩ (mm_filled (3 * k + 1) (by omega) (hpl _ (by omega))) (cwV 1 hts (lw_V q229 q231 qs15 q19 q232) rfl rfl rfl (by decide +kernel) ⟨Nat.le_of_ble_eq_true rfl, Nat.le_of_ble_eq_true rfl⟩) (pJ_preM hK hP hD rfl) rfl rfl hl.1 rfl (lv_room (Nat.le_of_ble_eq_true rfl)) dX1_solves_73 ⟨Nat.le_refl _, Nat.le_refl _⟩) (fun r_73 hr_73 => ?_)
      subst hr_73
      obtain ⟨P, hP8, eP, dP⟩ := tkn_dig (hpl (3 * k + 1) (by omega)) h1
      refine tn_as (nI P) dP ?_
      refine lv_istore (lv' := [(4, .int (nI P)), (3, .int (nI S)), (2, .int (nI k)), (0, .ref h), (1, .int (nI m_))]) hx hb dX1_solves_76 hl (by decide) rfl (fun ls hl => ?_)
      refine lv_aload_n hx hb dX1_solves_78 rfl (lv_at hl 3 rfl) ?_
      refine lv_iconst (v := nI 3) hx hb dX1_solves_79 (by decide) ?_
      refine lv_iload_n hx hb dX1_solves_80 rfl (lv_at hl 2 rfl) ?_
      refine tn_imul hx hb dX1_solves_81 ?_
      refine lv_iconst (v := nI 2) hx hb dX1_solves_82 (by decide) ?_
      refine tn_iadd hx hb dX1_solves_83 ?_
      refine vp_callSi (W.runV (As := [.int (nI ((3 * k) + 2))]) (rest := []) ⟨hx, hb, hml, hown, hts⟩ (mm_filled (3 * k + 2) (by omega) (hpl _ (by omega))) (cwV 1 hts (lw_V q229 q231 qs15 q19 q232) rfl rfl rfl (by decide +kernel) ⟨Nat.le_of_ble_eq_true rfl, Nat.le_of_ble_eq_true rfl⟩) (pJ_preM hK hP hD rfl) rfl rfl hl.1 rfl (lv_room (Nat.le_of_ble_eq_true rfl)) dX1_solves_84 ⟨Nat.le_refl _, Nat.le_refl _⟩) (fun r_84 hr_84 => ?_)
      subst hr_84
      obtain ⟨O, hO8, eO, dO⟩ := tkn_dig (hpl (3 * k + 2) (by omega)) h1
      refine tn_as (nI O) dO ?_
      refine lv_istore (lv' := [(5, .int (nI O)), (4, .int (nI P)), (3, .int (nI S)), (2, .int (nI k)), (0, .ref h), (1, .int (nI m_))]) hx hb dX1_solves_87 hl (by decide) rfl (fun ls hl => ?_)
      refine lv_aload_n hx hb dX1_solves_89 rfl (lv_at hl 4 rfl) ?_
      refine va_get (D := D) (ci := 1) (v := .ref (a 0)) (C := RX1) (T := TX1) (N := 4) hx hb hts in_X1 hown hK hP 0 rfl rfl 0 (by decide) (hts _ q176) (fun _ h9 => h9) rfl dX1_solves_90 ?_
      refine lv_bipush (v := nI 64) hx hb dX1_solves_93 (by decide) ?_
      refine lv_iload_n hx hb dX1_solves_95 rfl (lv_at hl 2 rfl) ?_
      refine tn_imul hx hb dX1_solves_96 ?_
      refine lv_bipush (v := nI 8) hx hb dX1_solves_97 (by decide) ?_
      refine lv_iload hx hb dX1_solves_99 (lv_at hl 1 rfl) ?_
      refine tn_imul hx hb dX1_solves_101 ?_
      refine tn_iadd hx hb dX1_solves_102 ?_
      refine lv_iload hx hb dX1_solves_103 (lv_at hl 0 rfl) ?_
      refine tn_iadd hx hb dX1_solves_105 ?_
      refine tn_zald hx hb hK hP 1 1 rfl rfl (j := ((64 * S) + (8 * P)) + O) (by omega) (by decide) dX1_solves_106 ?_
      refine tn_as (nI (tb (F (64 * S + 8 * P + O)))) (hF _ (by omega)) ?_
      refine tn_if_ne (tgt := 112) hx hb dX1_solves_107 (by decide) (tb_lt _) (fun c_107 => ?_) (fun c_107 => ?_)
      · refine lv_iinc (v := nI (k + 1)) (lv' := [(2, .int (nI (k + 1))), (5, .int (nI O)), (4, .int (nI P)), (3, .int (nI S)), (0, .ref h), (1, .int (nI m_))]) hx hb dX1_solves_112 hl (k := 3) rfl (nI_1 _) (by decide) rfl (fun ls hl => ?_)
        refine lv_goto (tgt := 51) hx hb dX1_solves_115 (by decide) ?_
        exact ih _ ⟨lv_sub hl [0, 4, 5] rfl, (by show (tps F pl m_ k && _) = true; rw [hE, eS, eP, eO, tC3_3 F hS8 hP8 hO8, tb_pos, tb_1 c_107]; rfl)⟩
      · have hz : tslv F pl N m_ = false := by unfold tslv; rw [tps_f hk (show tps F pl m_ (k + 1) = false by show (tps F pl m_ k && _) = false; rw [eS, eP, eO, tC3_3 F hS8 hP8 hO8, tb_pos, tb_0 c_107]; simp), Bool.and_false]
        refine lv_iconst (v := nI 0) hx hb dX1_solves_110 (by decide) ?_
        exact W.zret (v := nI 0) hx hb hr rfl (fun t ht hW => ⟨⟨_, tr_, rfl, ⟨by rw [hz]; rfl, fun z => absurd z (by rw [hz]; decide)⟩, by show va_P D vwCl _ t.heap; rw [ht]; exact hP⟩, hS.F ht⟩) hS.2.2 dX1_solves_111
    · obtain ⟨hl, hE⟩ := hJ
      refine lv_iload_n hx hb dX1_solves_51 rfl (lv_at hl 0 rfl) ?_
      refine lv_aload_n hx hb dX1_solves_52 rfl (lv_at hl 1 rfl) ?_
      refine va_get (D := D) (ci := 1) (v := .int (nI N)) (C := RX1) (T := TX1) (N := 4) hx hb hts in_X1 hown hK hP 0 rfl rfl 1 (by decide) (hts _ q177) (fun _ h9 => h9) rfl dX1_solves_53 ?_
      refine tn_icmp_ge (tgt := 118) hx hb dX1_solves_56 (by decide) (by omega) (by omega) (fun _ => ?_) (fun z => absurd z (by omega))
      refine lv_iconst (v := nI 1) hx hb dX1_solves_118 (by decide) ?_
      exact W.zret (v := nI 1) hx hb hr rfl (fun t ht hW => ⟨⟨_, tr_, rfl, ⟨by unfold tslv; rw [h2, hE]; rfl, fun _ => h1⟩, by show va_P D vwCl _ t.heap; rw [ht]; exact hP⟩, hS.F ht⟩) hS.2.2 dX1_solves_119

set_option maxHeartbeats 1000000 in
set_option maxRecDepth 100000 in
/-- solutions -/
theorem mm_solutions {l : Launch} {D : va_G} {d z : ClassId} {h : Nat} {a : Nat → Nat} {fa : Nat → Int32} {N : Nat} {pl tr : Nat → Int32} {F : Nat → Bool} (hF : ∀ i, i < 512 → fa i = nI (tb (F i))) (hN : N ≤ 4) (hpl : ∀ j, j < 3 * N → tok (pl j)) : Met l yX1_solutions (ws_ yX1_solutions cX1_solutions 3 (some .int)) (rm_ 3 47) (pJ D d z (wM h a d z fa (nI N) pl tr) [.ref h]) (va_Qi (fun (r_ : Int32) (u : Nat → Int32) => r_ = nI (tct F pl N 4096)) (fun u t => va_P D vwCl (wM h a d z fa (nI N) pl u) t.heap) (oM h a)) 0 0 (oM h a) := by
  refine Met.ofW (cc := cX1_solutions) (maxL := 3) (ret := (some .int)) (by decide) rfl ?_
  intro p e s m args below meth c s₁ B hml hv
  obtain ⟨rfl, hP, hK, hD⟩ := hv
  have hx := B.exec
  have hb := B.bytes
  have hr := B.returns
  have hts := atoms_spec (ws := (ws_ yX1_solutions cX1_solutions 3 (some .int))) B.pre
  have hts : ∀ w ∈ lw_all, w.before _ s = true := fun w h => hts w (List.mem_cons_of_mem _ h)
  have hown : s.vm.findClass RX1 = some m.cls := findClass_of_methodNamed B.named
  have hlocks := B.notSynchronized
  have hD := oM_D hD
  have hS : va_S (oM h a) s.heap s.heap [] := va_S.rf
  have hl := lv_entry ([.ref h]) (n := 3) (Nat.le_of_ble_eq_true rfl)
  rw [lg_entry_eq]
  generalize (lg_sl ([.ref h]) ++ List.replicate (3 - (lg_sl ([.ref h])).length) Slot.unset).toArray = ls at hl ⊢
  have hl : lv_has ls 3 [(0, .ref h)] := hl
  refine lv_iconst (v := nI 0) hx hb dX1_solutions_0 (by decide) ?_
  refine lv_istore_n (lv' := [(1, .int (nI 0)), (0, .ref h)]) hx hb dX1_solutions_1 rfl hl (by decide) rfl (fun ls hl => ?_)
  refine lv_iconst (v := nI 0) hx hb dX1_solutions_2 (by decide) ?_
  refine lv_istore_n (lv' := [(2, .int (nI 0)), (1, .int (nI 0)), (0, .ref h)]) hx hb dX1_solutions_3 rfl hl (by decide) rfl (fun ls hl => ?_)
  have hD_4 := hD
  refine tn_forH (fun j H locs ls => ∃ (tr_ : Nat → Int32), lv_has ls 3 [(2, .int (nI j)), (1, .int (nI (tct F pl N j))), (0, .ref h)] ∧ va_P D vwCl (wM h a d z fa (nI N) pl tr_) H ∧ va_S (oM h a) s.heap H locs) 4096 0 (by decide) ⟨tr, lv_sub hl [0, 1, 2] rfl, hP, hS⟩ (fun j H locs ls hj hJ ih => ?_) (fun H locs ls hJ => ?_)
  · obtain ⟨tr_, hl, hP, hS⟩ := hJ
    have hD : va_D (oM h a) (wM h a d z fa (nI N) pl tr_) := va_D_re hD_4 rfl
    refine lv_iload_n hx hb dX1_solutions_4 rfl (lv_at hl 0 rfl) ?_
    refine lv_sipush (v := nI 4096) hx hb dX1_solutions_5 (by decide) ?_
    refine tn_icmp_ge (tgt := 28) hx hb dX1_solutions_8 (by decide) (by omega) (by decide) (fun z => absurd z (by omega)) (fun _ => ?_)
    refine lv_aload_n hx hb dX1_solutions_11 rfl (lv_at hl 2 rfl) ?_
    refine lv_iload_n hx hb dX1_solutions_12 rfl (lv_at hl 0 rfl) ?_
    refine va_calli (va_runV (As := [.int (nI j)]) (rest := []) ⟨hx, hb, hml, hown, hts⟩ (mm_solves hF hN hpl j hj) (cwV 1 hts (lw_V q221 q223 qs13 q19 q224) rfl rfl rfl (by decide +kernel) ⟨Nat.le_of_ble_eq_true rfl, Nat.le_of_ble_eq_true rfl⟩) (pJ_preM hK hP hD rfl) rfl rfl hl.1 rfl (lv_room (Nat.le_of_ble_eq_true rfl)) dX1_solutions_13 ⟨Nat.le_refl _, Nat.le_refl _⟩) hS (fun q _ h9 => h9) (fun q h9 => h9) (fun r_13 tr2 t_ H locs ht_ hvm_ hu hB _ _ hS => ?_)
    rw [ht_] at hB
    have hP : va_P D vwCl (wM h a d z fa (nI N) pl tr2) H := hB
    have hD : va_D (oM h a) (wM h a d z fa (nI N) pl tr2) := va_D_re hD rfl
    obtain ⟨hu1, hu2⟩ := hu
    subst hu1
    refine tn_if_eq (tgt := 22) hx hb dX1_solutions_16 (by decide) (tb_lt _) (fun c_16 => ?_) (fun c_16 => ?_)
    · have e9 : tct F pl N (j + 1) = tct F pl N j := by show tct F pl N j + tb (tslv F pl N j) = _; rw [c_16, Nat.add_zero]
      refine lv_iinc (v := nI (j + 1)) (lv' := [(2, .int (nI (j + 1))), (1, .int (nI (tct F pl N j))), (0, .ref h)]) hx hb dX1_solutions_22 hl (k := 0) rfl (nI_1 _) (by decide) rfl (fun ls hl => ?_)
      refine lv_goto (tgt := 4) hx hb dX1_solutions_25 (by decide) ?_
      rw [← e9] at hl
      exact ih _ _ _ ⟨_, lv_sub hl [0, 1, 2] rfl, hP, hS⟩
    · have e9 : tct F pl N (j + 1) = tct F pl N j + 1 := by show tct F pl N j + tb (tslv F pl N j) = _; rw [tb_1 c_16]; rfl
      refine lv_iinc (v := nI (tct F pl N j + 1)) (lv' := [(1, .int (nI (tct F pl N j + 1))), (2, .int (nI j)), (0, .ref h)]) hx hb dX1_solutions_19 hl (k := 1) rfl (nI_1 _) (by decide) rfl (fun ls hl => ?_)
      refine lv_iinc (v := nI (j + 1)) (lv' := [(2, .int (nI (j + 1))), (1, .int (nI (tct F pl N j + 1))), (0, .ref h)]) hx hb dX1_solutions_22 hl (k := 1) rfl (nI_1 _) (by decide) rfl (fun ls hl => ?_)
      refine lv_goto (tgt := 4) hx hb dX1_solutions_25 (by decide) ?_
      rw [← e9] at hl
      exact ih _ _ _ ⟨_, lv_sub hl [0, 1, 2] rfl, hP, hS⟩
  · obtain ⟨tr_, hl, hP, hS⟩ := hJ
    have hD : va_D (oM h a) (wM h a d z fa (nI N) pl tr_) := va_D_re hD_4 rfl
    refine lv_iload_n hx hb dX1_solutions_4 rfl (lv_at hl 0 rfl) ?_
    refine lv_sipush (v := nI 4096) hx hb dX1_solutions_5 (by decide) ?_
    refine tn_icmp_ge (tgt := 28) hx hb dX1_solutions_8 (by decide) (by decide) (by decide) (fun _ => ?_) (fun z => absurd z (by decide))
    refine lv_iload_n hx hb dX1_solutions_28 rfl (lv_at hl 1 rfl) ?_
    exact W.iret (v := nI (tct F pl N 4096)) hx hb hr (fun t ht hW => ⟨⟨_, tr_, rfl, rfl, by show va_P D vwCl _ t.heap; rw [ht]; exact hP⟩, hS.F ht⟩) hS.2.2 dX1_solutions_29

set_option maxHeartbeats 1000000 in
set_option maxRecDepth 100000 in
/-- solution -/
theorem mm_solution {l : Launch} {D : va_G} {d z : ClassId} {h : Nat} {a : Nat → Nat} {fa : Nat → Int32} {N : Nat} {pl tr : Nat → Int32} {F : Nat → Bool} (hF : ∀ i, i < 512 → fa i = nI (tb (F i))) (hN : N ≤ 4) (hpl : ∀ j, j < 3 * N → tok (pl j)) (k_ v_ : Int32) : Met l yX1_solution (ws_ yX1_solution cX1_solution 5 (some .int)) (rm_ 3 47) (pJ D d z (wM h a d z fa (nI N) pl tr) [.ref h, .int k_, .int v_]) (va_Qi (fun (r_ : Int32) (u : Nat → Int32) => tsol F pl N k_ v_ r_) (fun u t => va_P D vwCl (wM h a d z fa (nI N) pl u) t.heap) (oM h a)) 0 0 (oM h a) := by
  refine Met.ofW (cc := cX1_solution) (maxL := 5) (ret := (some .int)) (by decide) rfl ?_
  intro p e s m args below meth c s₁ B hml hv
  obtain ⟨rfl, hP, hK, hD⟩ := hv
  have hx := B.exec
  have hb := B.bytes
  have hr := B.returns
  have hts := atoms_spec (ws := (ws_ yX1_solution cX1_solution 5 (some .int))) B.pre
  have hts : ∀ w ∈ lw_all, w.before _ s = true := fun w h => hts w (List.mem_cons_of_mem _ h)
  have hown : s.vm.findClass RX1 = some m.cls := findClass_of_methodNamed B.named
  have hlocks := B.notSynchronized
  have hD := oM_D hD
  have hS : va_S (oM h a) s.heap s.heap [] := va_S.rf
  have hl := lv_entry ([.ref h, .int k_, .int v_]) (n := 5) (Nat.le_of_ble_eq_true rfl)
  rw [lg_entry_eq]
  generalize (lg_sl ([.ref h, .int k_, .int v_]) ++ List.replicate (5 - (lg_sl ([.ref h, .int k_, .int v_])).length) Slot.unset).toArray = ls at hl ⊢
  have hl : lv_has ls 5 [(0, .ref h), (1, .int k_), (2, .int v_)] := hl
  refine lv_aload_n hx hb dX1_solution_0 rfl (lv_at hl 0 rfl) ?_
  refine lv_iload_n hx hb dX1_solution_1 rfl (lv_at hl 2 rfl) ?_
  refine vp_callSi (W.runV (As := [.int v_]) (rest := []) ⟨hx, hb, hml, hown, hts⟩ (mm_missing hN v_) (cwV 1 hts (lw_V q237 q239 qs16 q19 q240) rfl rfl rfl (by decide +kernel) ⟨Nat.le_of_ble_eq_true rfl, Nat.le_of_ble_eq_true rfl⟩) (pJ_preM hK hP hD rfl) rfl rfl hl.1 rfl (lv_room (Nat.le_of_ble_eq_true rfl)) dX1_solution_2 ⟨Nat.le_refl _, Nat.le_refl _⟩) (fun r_2 hr_2 => ?_)
  subst hr_2
  refine tn_if_eq (tgt := 10) hx hb dX1_solution_5 (by decide) (tb_lt _) (fun c_5 => ?_) (fun c_5 => ?_)
  · have hst := tnotf (tb_0 c_5)
    obtain ⟨V, hV4, rfl⟩ := tsd_v hst
    refine lv_iconst (v := nI 0) hx hb dX1_solution_10 (by decide) ?_
    refine lv_istore_n (lv' := [(3, .int (nI 0)), (0, .ref h), (1, .int k_), (2, .int (-1 - nI V))]) hx hb dX1_solution_11 rfl hl (by decide) rfl (fun ls hl => ?_)
    refine lv_iconst (v := nI 0) hx hb dX1_solution_12 (by decide) ?_
    refine lv_istore (lv' := [(4, .int (nI 0)), (3, .int (nI 0)), (0, .ref h), (1, .int k_), (2, .int (-1 - nI V))]) hx hb dX1_solution_13 hl (by decide) rfl (fun ls hl => ?_)
    have hD_15 := hD
    refine tn_forH (fun j H locs ls => ∃ (tr_ : Nat → Int32), lv_has ls 5 [(4, .int (nI j)), (3, .int (nI (tct F pl N j))), (0, .ref h), (1, .int k_), (2, .int (-1 - nI V))] ∧ va_P D vwCl (wM h a d z fa (nI N) pl tr_) H ∧ va_S (oM h a) s.heap H locs ∧ (∀ m, m < j → tslv F pl N m = true → nI (tct F pl N m) ≠ k_)) 4096 0 (by decide) ⟨tr, lv_sub hl [0, 1, 2, 3, 4] rfl, hP, hS, (fun m hm => absurd hm (Nat.not_lt_zero m))⟩ (fun j H locs ls hj hJ ih => ?_) (fun H locs ls hJ => ?_)
    · obtain ⟨tr_, hl, hP, hS, h1⟩ := hJ
      have hD : va_D (oM h a) (wM h a d z fa (nI N) pl tr_) := va_D_re hD_15 rfl
      refine lv_iload hx hb dX1_solution_15 (lv_at hl 0 rfl) ?_
      refine lv_sipush (v := nI 4096) hx hb dX1_solution_17 (by decide) ?_
      refine tn_icmp_ge (tgt := 55) hx hb dX1_solution_20 (by decide) (by omega) (by decide) (fun z => absurd z (by omega)) (fun _ => ?_)
      refine lv_aload_n hx hb dX1_solution_23 rfl (lv_at hl 2 rfl) ?_
      refine lv_iload hx hb dX1_solution_24 (lv_at hl 0 rfl) ?_
      refine va_calli (va_runV (As := [.int (nI j)]) (rest := []) ⟨hx, hb, hml, hown, hts⟩ (mm_solves hF hN hpl j hj) (cwV 1 hts (lw_V q221 q223 qs13 q19 q224) rfl rfl rfl (by decide +kernel) ⟨Nat.le_of_ble_eq_true rfl, Nat.le_of_ble_eq_true rfl⟩) (pJ_preM hK hP hD rfl) rfl rfl hl.1 rfl (lv_room (Nat.le_of_ble_eq_true rfl)) dX1_solution_26 ⟨Nat.le_refl _, Nat.le_refl _⟩) hS (fun q _ h9 => h9) (fun q h9 => h9) (fun r_26 tr2 t_ H locs ht_ hvm_ hu hB _ _ hS => ?_)
      rw [ht_] at hB
      have hP : va_P D vwCl (wM h a d z fa (nI N) pl tr2) H := hB
      have hD : va_D (oM h a) (wM h a d z fa (nI N) pl tr2) := va_D_re hD rfl
      obtain ⟨hu1, hu2⟩ := hu
      subst hu1
      refine tn_if_eq (tgt := 49) hx hb dX1_solution_29 (by decide) (tb_lt _) (fun c_29 => ?_) (fun c_29 => ?_)
      · have e9 : tct F pl N (j + 1) = tct F pl N j := by show tct F pl N j + tb (tslv F pl N j) = _; rw [c_29, Nat.add_zero]
        refine lv_iinc (v := nI (j + 1)) (lv' := [(4, .int (nI (j + 1))), (3, .int (nI (tct F pl N j))), (0, .ref h), (1, .int k_), (2, .int (-1 - nI V))]) hx hb dX1_solution_49 hl (k := 0) rfl (nI_1 _) (by decide) rfl (fun ls hl => ?_)
        refine lv_goto (tgt := 15) hx hb dX1_solution_52 (by decide) ?_
        rw [← e9] at hl
        exact ih _ _ _ ⟨_, lv_sub hl [0, 1, 2, 3, 4] rfl, hP, hS, (fun m hm hs => by
                  by_cases e : m = j
                  · subst e; rw [tb_0 c_29] at hs; cases hs
                  · exact h1 m (by omega) hs)⟩
      · refine lv_iload_n hx hb dX1_solution_32 rfl (lv_at hl 1 rfl) ?_
        refine lv_iload_n hx hb dX1_solution_33 rfl (lv_at hl 3 rfl) ?_
        refine lv_icmp_ne (tgt := 46) hx hb dX1_solution_34 (by decide) (fun c_34 => ?_) (fun c_34 => ?_)
        · have e9 : tct F pl N (j + 1) = tct F pl N j + 1 := by show tct F pl N j + tb (tslv F pl N j) = _; rw [tb_1 c_29]; rfl
          refine lv_iinc (v := nI (tct F pl N j + 1)) (lv' := [(3, .int (nI (tct F pl N j + 1))), (4, .int (nI j)), (0, .ref h), (1, .int k_), (2, .int (-1 - nI V))]) hx hb dX1_solution_46 hl (k := 1) rfl (nI_1 _) (by decide) rfl (fun ls hl => ?_)
          refine lv_iinc (v := nI (j + 1)) (lv' := [(4, .int (nI (j + 1))), (3, .int (nI (tct F pl N j + 1))), (0, .ref h), (1, .int k_), (2, .int (-1 - nI V))]) hx hb dX1_solution_49 hl (k := 1) rfl (nI_1 _) (by decide) rfl (fun ls hl => ?_)
          refine lv_goto (tgt := 15) hx hb dX1_solution_52 (by decide) ?_
          rw [← e9] at hl
          exact ih _ _ _ ⟨_, lv_sub hl [0, 1, 2, 3, 4] rfl, hP, hS, (fun m hm hs => by
                      by_cases e : m = j
                      · subst e; exact c_34
                      · exact h1 m (by omega) hs)⟩
        · refine lv_aload_n hx hb dX1_solution_37 rfl (lv_at hl 2 rfl) ?_
          refine va_get (D := D) (ci := 1) (v := .ref (a 3)) (C := RX1) (T := TX1) (N := 4) hx hb hts in_X1 hown hK hP 0 rfl rfl 3 (by decide) (hts _ q179) (fun _ h9 => h9) rfl dX1_solution_38 ?_
          refine lv_iconst (v := (-1)) hx hb dX1_solution_41 (by decide) ?_
          refine lv_iload_n hx hb dX1_solution_42 rfl (lv_at hl 4 rfl) ?_
          refine lv_isub hx hb dX1_solution_43 ?_
          refine tn_as (nI V) (t_back V) ?_
          refine tn_iald hx hb hK hP 3 0 rfl rfl (j := V) (by omega) (by decide) dX1_solution_44 ?_
          exact W.iret (v := tr2 V) hx hb hr (fun t ht hW => ⟨⟨_, tr2, rfl, Or.inr ⟨hst, Or.inl ⟨j, hj, tb_1 c_29, c_34, by rw [t_bk hV4]; exact hu2 (tb_1 c_29) V hV4⟩⟩, by show va_P D vwCl _ t.heap; rw [ht]; exact hP⟩, hS.F ht⟩) hS.2.2 dX1_solution_45
    · obtain ⟨tr_, hl, hP, hS, h1⟩ := hJ
      have hD : va_D (oM h a) (wM h a d z fa (nI N) pl tr_) := va_D_re hD_15 rfl
      refine lv_iload hx hb dX1_solution_15 (lv_at hl 0 rfl) ?_
      refine lv_sipush (v := nI 4096) hx hb dX1_solution_17 (by decide) ?_
      refine tn_icmp_ge (tgt := 55) hx hb dX1_solution_20 (by decide) (by decide) (by decide) (fun _ => ?_) (fun z => absurd z (by decide))
      refine lv_iconst (v := (-1)) hx hb dX1_solution_55 (by decide) ?_
      exact W.iret (v := (-1)) hx hb hr (fun t ht hW => ⟨⟨_, tr_, rfl, Or.inr ⟨hst, Or.inr ⟨h1, rfl⟩⟩, by show va_P D vwCl _ t.heap; rw [ht]; exact hP⟩, hS.F ht⟩) hS.2.2 dX1_solution_56
  · refine lv_iconst (v := (-1)) hx hb dX1_solution_8 (by decide) ?_
    exact W.iret (v := (-1)) hx hb hr (fun t ht hW => ⟨⟨_, tr, rfl, Or.inl ⟨tnot (tb_1 c_5), rfl⟩, by show va_P D vwCl _ t.heap; rw [ht]; exact hP⟩, hS.F ht⟩) hS.2.2 dX1_solution_9

set_option maxHeartbeats 1000000 in
set_option maxRecDepth 100000 in
/-- with -/
theorem mm_with {l : Launch} {D : va_G} {d z : ClassId} {h : Nat} {a : Nat → Nat} {fa : Nat → Int32} {N : Nat} {pl tr : Nat → Int32} {F : Nat → Bool} (hF : ∀ i, i < 512 → fa i = nI (tb (F i))) (hN : N ≤ 4) (hpl : ∀ j, j < 3 * N → tok (pl j)) (v_ x_ : Int32) : Met l yX1_with (ws_ yX1_with cX1_with 5 (some .int)) (rm_ 3 47) (pJ D d z (wM h a d z fa (nI N) pl tr) [.ref h, .int v_, .int x_]) (va_Qi (fun (r_ : Int32) (u : Nat → Int32) => r_ = twi F pl N v_ x_) (fun u t => va_P D vwCl (wM h a d z fa (nI N) pl u) t.heap) (oM h a)) 0 0 (oM h a) := by
  refine Met.ofW (cc := cX1_with) (maxL := 5) (ret := (some .int)) (by decide) rfl ?_
  intro p e s m args below meth c s₁ B hml hv
  obtain ⟨rfl, hP, hK, hD⟩ := hv
  have hx := B.exec
  have hb := B.bytes
  have hr := B.returns
  have hts := atoms_spec (ws := (ws_ yX1_with cX1_with 5 (some .int))) B.pre
  have hts : ∀ w ∈ lw_all, w.before _ s = true := fun w h => hts w (List.mem_cons_of_mem _ h)
  have hown : s.vm.findClass RX1 = some m.cls := findClass_of_methodNamed B.named
  have hlocks := B.notSynchronized
  have hD := oM_D hD
  have hS : va_S (oM h a) s.heap s.heap [] := va_S.rf
  have hl := lv_entry ([.ref h, .int v_, .int x_]) (n := 5) (Nat.le_of_ble_eq_true rfl)
  rw [lg_entry_eq]
  generalize (lg_sl ([.ref h, .int v_, .int x_]) ++ List.replicate (5 - (lg_sl ([.ref h, .int v_, .int x_])).length) Slot.unset).toArray = ls at hl ⊢
  have hl : lv_has ls 5 [(0, .ref h), (1, .int v_), (2, .int x_)] := hl
  refine lv_aload_n hx hb dX1_with_0 rfl (lv_at hl 0 rfl) ?_
  refine lv_iload_n hx hb dX1_with_1 rfl (lv_at hl 1 rfl) ?_
  refine vp_callSi (W.runV (As := [.int v_]) (rest := []) ⟨hx, hb, hml, hown, hts⟩ (mm_missing hN v_) (cwV 1 hts (lw_V q237 q239 qs16 q19 q240) rfl rfl rfl (by decide +kernel) ⟨Nat.le_of_ble_eq_true rfl, Nat.le_of_ble_eq_true rfl⟩) (pJ_preM hK hP hD rfl) rfl rfl hl.1 rfl (lv_room (Nat.le_of_ble_eq_true rfl)) dX1_with_2 ⟨Nat.le_refl _, Nat.le_refl _⟩) (fun r_2 hr_2 => ?_)
  subst hr_2
  refine tn_if_eq (tgt := 10) hx hb dX1_with_5 (by decide) (tb_lt _) (fun c_5 => ?_) (fun c_5 => ?_)
  · have hst := tnotf (tb_0 c_5)
    obtain ⟨V, hV4, rfl⟩ := tsd_v hst
    refine lv_iconst (v := nI 0) hx hb dX1_with_10 (by decide) ?_
    refine lv_istore_n (lv' := [(3, .int (nI 0)), (0, .ref h), (1, .int (-1 - nI V)), (2, .int x_)]) hx hb dX1_with_11 rfl hl (by decide) rfl (fun ls hl => ?_)
    refine lv_iconst (v := nI 0) hx hb dX1_with_12 (by decide) ?_
    refine lv_istore (lv' := [(4, .int (nI 0)), (3, .int (nI 0)), (0, .ref h), (1, .int (-1 - nI V)), (2, .int x_)]) hx hb dX1_with_13 hl (by decide) rfl (fun ls hl => ?_)
    have hD_15 := hD
    refine tn_forH (fun j H locs ls => ∃ (tr_ : Nat → Int32), lv_has ls 5 [(4, .int (nI j)), (3, .int (nI (tcw F pl N V x_ j))), (0, .ref h), (1, .int (-1 - nI V)), (2, .int x_)] ∧ va_P D vwCl (wM h a d z fa (nI N) pl tr_) H ∧ va_S (oM h a) s.heap H locs) 4096 0 (by decide) ⟨tr, lv_sub hl [0, 1, 2, 3, 4] rfl, hP, hS⟩ (fun j H locs ls hj hJ ih => ?_) (fun H locs ls hJ => ?_)
    · obtain ⟨tr_, hl, hP, hS⟩ := hJ
      have hD : va_D (oM h a) (wM h a d z fa (nI N) pl tr_) := va_D_re hD_15 rfl
      refine lv_iload hx hb dX1_with_15 (lv_at hl 0 rfl) ?_
      refine lv_sipush (v := nI 4096) hx hb dX1_with_17 (by decide) ?_
      refine tn_icmp_ge (tgt := 53) hx hb dX1_with_20 (by decide) (by omega) (by decide) (fun z => absurd z (by omega)) (fun _ => ?_)
      refine lv_aload_n hx hb dX1_with_23 rfl (lv_at hl 2 rfl) ?_
      refine lv_iload hx hb dX1_with_24 (lv_at hl 0 rfl) ?_
      refine va_calli (va_runV (As := [.int (nI j)]) (rest := []) ⟨hx, hb, hml, hown, hts⟩ (mm_solves hF hN hpl j hj) (cwV 1 hts (lw_V q221 q223 qs13 q19 q224) rfl rfl rfl (by decide +kernel) ⟨Nat.le_of_ble_eq_true rfl, Nat.le_of_ble_eq_true rfl⟩) (pJ_preM hK hP hD rfl) rfl rfl hl.1 rfl (lv_room (Nat.le_of_ble_eq_true rfl)) dX1_with_26 ⟨Nat.le_refl _, Nat.le_refl _⟩) hS (fun q _ h9 => h9) (fun q h9 => h9) (fun r_26 tr2 t_ H locs ht_ hvm_ hu hB _ _ hS => ?_)
      rw [ht_] at hB
      have hP : va_P D vwCl (wM h a d z fa (nI N) pl tr2) H := hB
      have hD : va_D (oM h a) (wM h a d z fa (nI N) pl tr2) := va_D_re hD rfl
      obtain ⟨hu1, hu2⟩ := hu
      subst hu1
      refine tn_if_eq (tgt := 47) hx hb dX1_with_29 (by decide) (tb_lt _) (fun c_29 => ?_) (fun c_29 => ?_)
      · have e9 : tcw F pl N V x_ (j + 1) = tcw F pl N V x_ j := by show tcw F pl N V x_ j + tb (tslv F pl N j && decide (nI (tdg V j) = x_)) = _; rw [tb_0 c_29]; simp [tb]
        refine lv_iinc (v := nI (j + 1)) (lv' := [(4, .int (nI (j + 1))), (3, .int (nI (tcw F pl N V x_ j))), (0, .ref h), (1, .int (-1 - nI V)), (2, .int x_)]) hx hb dX1_with_47 hl (k := 0) rfl (nI_1 _) (by decide) rfl (fun ls hl => ?_)
        refine lv_goto (tgt := 15) hx hb dX1_with_50 (by decide) ?_
        rw [← e9] at hl
        exact ih _ _ _ ⟨_, lv_sub hl [0, 1, 2, 3, 4] rfl, hP, hS⟩
      · refine lv_aload_n hx hb dX1_with_32 rfl (lv_at hl 2 rfl) ?_
        refine va_get (D := D) (ci := 1) (v := .ref (a 3)) (C := RX1) (T := TX1) (N := 4) hx hb hts in_X1 hown hK hP 0 rfl rfl 3 (by decide) (hts _ q179) (fun _ h9 => h9) rfl dX1_with_33 ?_
        refine lv_iconst (v := (-1)) hx hb dX1_with_36 (by decide) ?_
        refine lv_iload_n hx hb dX1_with_37 rfl (lv_at hl 3 rfl) ?_
        refine lv_isub hx hb dX1_with_38 ?_
        refine tn_as (nI V) (t_back V) ?_
        refine tn_iald hx hb hK hP 3 0 rfl rfl (j := V) (by omega) (by decide) dX1_with_39 ?_
        refine tn_as (nI (tdg V j)) (hu2 (tb_1 c_29) V hV4) ?_
        refine lv_iload_n hx hb dX1_with_40 rfl (lv_at hl 4 rfl) ?_
        refine lv_icmp_ne (tgt := 47) hx hb dX1_with_41 (by decide) (fun c_41 => ?_) (fun c_41 => ?_)
        · have e9 : tcw F pl N V x_ (j + 1) = tcw F pl N V x_ j := by show tcw F pl N V x_ j + tb (tslv F pl N j && decide (nI (tdg V j) = x_)) = _; rw [decide_eq_false c_41]; simp [tb]
          refine lv_iinc (v := nI (j + 1)) (lv' := [(4, .int (nI (j + 1))), (3, .int (nI (tcw F pl N V x_ j))), (0, .ref h), (1, .int (-1 - nI V)), (2, .int x_)]) hx hb dX1_with_47 hl (k := 0) rfl (nI_1 _) (by decide) rfl (fun ls hl => ?_)
          refine lv_goto (tgt := 15) hx hb dX1_with_50 (by decide) ?_
          rw [← e9] at hl
          exact ih _ _ _ ⟨_, lv_sub hl [0, 1, 2, 3, 4] rfl, hP, hS⟩
        · have e9 : tcw F pl N V x_ (j + 1) = tcw F pl N V x_ j + 1 := by show tcw F pl N V x_ j + tb (tslv F pl N j && decide (nI (tdg V j) = x_)) = _; rw [tb_1 c_29, decide_eq_true c_41]; rfl
          refine lv_iinc (v := nI (tcw F pl N V x_ j + 1)) (lv' := [(3, .int (nI (tcw F pl N V x_ j + 1))), (4, .int (nI j)), (0, .ref h), (1, .int (-1 - nI V)), (2, .int x_)]) hx hb dX1_with_44 hl (k := 1) rfl (nI_1 _) (by decide) rfl (fun ls hl => ?_)
          refine lv_iinc (v := nI (j + 1)) (lv' := [(4, .int (nI (j + 1))), (3, .int (nI (tcw F pl N V x_ j + 1))), (0, .ref h), (1, .int (-1 - nI V)), (2, .int x_)]) hx hb dX1_with_47 hl (k := 1) rfl (nI_1 _) (by decide) rfl (fun ls hl => ?_)
          refine lv_goto (tgt := 15) hx hb dX1_with_50 (by decide) ?_
          rw [← e9] at hl
          exact ih _ _ _ ⟨_, lv_sub hl [0, 1, 2, 3, 4] rfl, hP, hS⟩
    · obtain ⟨tr_, hl, hP, hS⟩ := hJ
      have hD : va_D (oM h a) (wM h a d z fa (nI N) pl tr_) := va_D_re hD_15 rfl
      refine lv_iload hx hb dX1_with_15 (lv_at hl 0 rfl) ?_
      refine lv_sipush (v := nI 4096) hx hb dX1_with_17 (by decide) ?_
      refine tn_icmp_ge (tgt := 53) hx hb dX1_with_20 (by decide) (by decide) (by decide) (fun _ => ?_) (fun z => absurd z (by decide))
      refine lv_iload_n hx hb dX1_with_53 rfl (lv_at hl 1 rfl) ?_
      exact W.iret (v := nI (tcw F pl N V x_ 4096)) hx hb hr (fun t ht hW => ⟨⟨_, tr_, rfl, (by unfold twi; rw [hst, if_pos rfl, t_bk hV4]), by show va_P D vwCl _ t.heap; rw [ht]; exact hP⟩, hS.F ht⟩) hS.2.2 dX1_with_54
  · refine lv_iconst (v := (-1)) hx hb dX1_with_8 (by decide) ?_
    exact W.iret (v := (-1)) hx hb hr (fun t ht hW => ⟨⟨_, tr, rfl, (by unfold twi; rw [tnot (tb_1 c_5)]; rfl), by show va_P D vwCl _ t.heap; rw [ht]; exact hP⟩, hS.F ht⟩) hS.2.2 dX1_with_9

set_option maxHeartbeats 1000000 in
set_option maxRecDepth 100000 in
/-- values -/
theorem mm_values {l : Launch} {D : va_G} {d z : ClassId} {h : Nat} {a : Nat → Nat} {fa : Nat → Int32} {N : Nat} {pl tr : Nat → Int32} {F : Nat → Bool} (hF : ∀ i, i < 512 → fa i = nI (tb (F i))) (hN : N ≤ 4) (hpl : ∀ j, j < 3 * N → tok (pl j)) (v_ : Int32) : Met l yX1_values (ws_ yX1_values cX1_values 4 (some .int)) (rm_ 4 71) (pJ D d z (wM h a d z fa (nI N) pl tr) [.ref h, .int v_]) (va_Qi (fun (r_ : Int32) (u : Nat → Int32) => r_ = tvl F pl N v_) (fun u t => va_P D vwCl (wM h a d z fa (nI N) pl u) t.heap) (oM h a)) 0 0 (oM h a) := by
  refine Met.ofW (cc := cX1_values) (maxL := 4) (ret := (some .int)) (by decide) rfl ?_
  intro p e s m args below meth c s₁ B hml hv
  obtain ⟨rfl, hP, hK, hD⟩ := hv
  have hx := B.exec
  have hb := B.bytes
  have hr := B.returns
  have hts := atoms_spec (ws := (ws_ yX1_values cX1_values 4 (some .int))) B.pre
  have hts : ∀ w ∈ lw_all, w.before _ s = true := fun w h => hts w (List.mem_cons_of_mem _ h)
  have hown : s.vm.findClass RX1 = some m.cls := findClass_of_methodNamed B.named
  have hlocks := B.notSynchronized
  have hD := oM_D hD
  have hS : va_S (oM h a) s.heap s.heap [] := va_S.rf
  have hl := lv_entry ([.ref h, .int v_]) (n := 4) (Nat.le_of_ble_eq_true rfl)
  rw [lg_entry_eq]
  generalize (lg_sl ([.ref h, .int v_]) ++ List.replicate (4 - (lg_sl ([.ref h, .int v_])).length) Slot.unset).toArray = ls at hl ⊢
  have hl : lv_has ls 4 [(0, .ref h), (1, .int v_)] := hl
  refine lv_aload_n hx hb dX1_values_0 rfl (lv_at hl 0 rfl) ?_
  refine lv_iload_n hx hb dX1_values_1 rfl (lv_at hl 1 rfl) ?_
  refine vp_callSi (W.runV (As := [.int v_]) (rest := []) ⟨hx, hb, hml, hown, hts⟩ (mm_missing hN v_) (cwV 1 hts (lw_V q237 q239 qs16 q19 q240) rfl rfl rfl (by decide +kernel) ⟨Nat.le_of_ble_eq_true rfl, Nat.le_of_ble_eq_true rfl⟩) (pJ_preM hK hP hD rfl) rfl rfl hl.1 rfl (lv_room (Nat.le_of_ble_eq_true rfl)) dX1_values_2 ⟨Nat.le_refl _, Nat.le_refl _⟩) (fun r_2 hr_2 => ?_)
  subst hr_2
  refine tn_if_eq (tgt := 10) hx hb dX1_values_5 (by decide) (tb_lt _) (fun c_5 => ?_) (fun c_5 => ?_)
  · have hst := tnotf (tb_0 c_5)
    obtain ⟨V, hV4, rfl⟩ := tsd_v hst
    refine lv_iconst (v := nI 0) hx hb dX1_values_10 (by decide) ?_
    refine lv_istore_n (lv' := [(2, .int (nI 0)), (0, .ref h), (1, .int (-1 - nI V))]) hx hb dX1_values_11 rfl hl (by decide) rfl (fun ls hl => ?_)
    refine lv_iconst (v := nI 0) hx hb dX1_values_12 (by decide) ?_
    refine lv_istore_n (lv' := [(3, .int (nI 0)), (2, .int (nI 0)), (0, .ref h), (1, .int (-1 - nI V))]) hx hb dX1_values_13 rfl hl (by decide) rfl (fun ls hl => ?_)
    have hD_14 := hD
    refine tn_forH (fun j H locs ls => ∃ (tr_ : Nat → Int32), lv_has ls 4 [(3, .int (nI j)), (2, .int (nI (tcn (fun x => decide (0 < tcw F pl N V (nI x) 4096)) j))), (0, .ref h), (1, .int (-1 - nI V))] ∧ va_P D vwCl (wM h a d z fa (nI N) pl tr_) H ∧ va_S (oM h a) s.heap H locs) 8 0 (by decide) ⟨tr, lv_sub hl [0, 1, 2, 3] rfl, hP, hS⟩ (fun j H locs ls hj hJ ih => ?_) (fun H locs ls hJ => ?_)
    · obtain ⟨tr_, hl, hP, hS⟩ := hJ
      have hD : va_D (oM h a) (wM h a d z fa (nI N) pl tr_) := va_D_re hD_14 rfl
      refine lv_iload_n hx hb dX1_values_14 rfl (lv_at hl 0 rfl) ?_
      refine lv_bipush (v := nI 8) hx hb dX1_values_15 (by decide) ?_
      refine tn_icmp_ge (tgt := 38) hx hb dX1_values_17 (by decide) (by omega) (by decide) (fun z => absurd z (by omega)) (fun _ => ?_)
      refine lv_aload_n hx hb dX1_values_20 rfl (lv_at hl 2 rfl) ?_
      refine lv_iload_n hx hb dX1_values_21 rfl (lv_at hl 3 rfl) ?_
      refine lv_iload_n hx hb dX1_values_22 rfl (lv_at hl 0 rfl) ?_
      refine va_calli (va_runV (As := [.int (-1 - nI V), .int (nI j)]) (rest := []) ⟨hx, hb, hml, hown, hts⟩ (mm_with hF hN hpl (-1 - nI V) (nI j)) (cwV 2 hts (lw_V q249 q242 q243 q19 q244) rfl rfl rfl (by decide +kernel) ⟨Nat.le_of_ble_eq_true rfl, Nat.le_of_ble_eq_true rfl⟩) (pJ_preM hK hP hD rfl) rfl rfl hl.1 rfl (lv_room (Nat.le_of_ble_eq_true rfl)) dX1_values_23 ⟨Nat.le_refl _, Nat.le_refl _⟩) hS (fun q _ h9 => h9) (fun q h9 => h9) (fun r_23 tr2 t_ H locs ht_ hvm_ hu hB _ _ hS => ?_)
      rw [ht_] at hB
      have hP : va_P D vwCl (wM h a d z fa (nI N) pl tr2) H := hB
      have hD : va_D (oM h a) (wM h a d z fa (nI N) pl tr2) := va_D_re hD rfl
      have hu : r_23 = twi F pl N (-1 - nI V) (nI j) := hu
      unfold twi at hu
      rw [hst, if_pos rfl, t_bk hV4] at hu
      subst hu
      refine tn_if_le (tgt := 32) hx hb dX1_values_26 (by decide) (tcw_lt _ _ _ _ _ _ (by omega)) (fun c_26 => ?_) (fun c_26 => ?_)
      · have e9 : tcn (fun x => decide (0 < tcw F pl N V (nI x) 4096)) (j + 1) = tcn (fun x => decide (0 < tcw F pl N V (nI x) 4096)) j := by show tcn (fun x => decide (0 < tcw F pl N V (nI x) 4096)) j + tb (decide (0 < tcw F pl N V (nI j) 4096)) = _; rw [decide_eq_false (by omega)]; rfl
        refine lv_iinc (v := nI (j + 1)) (lv' := [(3, .int (nI (j + 1))), (2, .int (nI (tcn (fun x => decide (0 < tcw F pl N V (nI x) 4096)) j))), (0, .ref h), (1, .int (-1 - nI V))]) hx hb dX1_values_32 hl (k := 0) rfl (nI_1 _) (by decide) rfl (fun ls hl => ?_)
        refine lv_goto (tgt := 14) hx hb dX1_values_35 (by decide) ?_
        rw [← e9] at hl
        exact ih _ _ _ ⟨_, lv_sub hl [0, 1, 2, 3] rfl, hP, hS⟩
      · have e9 : tcn (fun x => decide (0 < tcw F pl N V (nI x) 4096)) (j + 1) = tcn (fun x => decide (0 < tcw F pl N V (nI x) 4096)) j + 1 := by show tcn (fun x => decide (0 < tcw F pl N V (nI x) 4096)) j + tb (decide (0 < tcw F pl N V (nI j) 4096)) = _; rw [decide_eq_true c_26]; rfl
        refine lv_iinc (v := nI (tcn (fun x => decide (0 < tcw F pl N V (nI x) 4096)) j + 1)) (lv' := [(2, .int (nI (tcn (fun x => decide (0 < tcw F pl N V (nI x) 4096)) j + 1))), (3, .int (nI j)), (0, .ref h), (1, .int (-1 - nI V))]) hx hb dX1_values_29 hl (k := 1) rfl (nI_1 _) (by decide) rfl (fun ls hl => ?_)
        refine lv_iinc (v := nI (j + 1)) (lv' := [(3, .int (nI (j + 1))), (2, .int (nI (tcn (fun x => decide (0 < tcw F pl N V (nI x) 4096)) j + 1))), (0, .ref h), (1, .int (-1 - nI V))]) hx hb dX1_values_32 hl (k := 1) rfl (nI_1 _) (by decide) rfl (fun ls hl => ?_)
        refine lv_goto (tgt := 14) hx hb dX1_values_35 (by decide) ?_
        rw [← e9] at hl
        exact ih _ _ _ ⟨_, lv_sub hl [0, 1, 2, 3] rfl, hP, hS⟩
    · obtain ⟨tr_, hl, hP, hS⟩ := hJ
      have hD : va_D (oM h a) (wM h a d z fa (nI N) pl tr_) := va_D_re hD_14 rfl
      refine lv_iload_n hx hb dX1_values_14 rfl (lv_at hl 0 rfl) ?_
      refine lv_bipush (v := nI 8) hx hb dX1_values_15 (by decide) ?_
      refine tn_icmp_ge (tgt := 38) hx hb dX1_values_17 (by decide) (by decide) (by decide) (fun _ => ?_) (fun z => absurd z (by decide))
      refine lv_iload_n hx hb dX1_values_38 rfl (lv_at hl 1 rfl) ?_
      exact W.iret (v := nI (tcn (fun x => decide (0 < tcw F pl N V (nI x) 4096)) 8)) hx hb hr (fun t ht hW => ⟨⟨_, tr_, rfl, (by unfold tvl; rw [hst, if_pos rfl, t_bk hV4]), by show va_P D vwCl _ t.heap; rw [ht]; exact hP⟩, hS.F ht⟩) hS.2.2 dX1_values_39
  · refine lv_iconst (v := (-1)) hx hb dX1_values_8 (by decide) ?_
    exact W.iret (v := (-1)) hx hb hr (fun t ht hW => ⟨⟨_, tr, rfl, (by unfold tvl; rw [tnot (tb_1 c_5)]; rfl), by show va_P D vwCl _ t.heap; rw [ht]; exact hP⟩, hS.F ht⟩) hS.2.2 dX1_values_9
end
section
set_option maxHeartbeats 1000000 in
set_option maxRecDepth 100000 in
/-- the constructor -/
theorem m_init (l : Launch) (D : va_G) (h sz : Nat) : Met l yX0_init (ws_ yX0_init cX0_init 1 none) ({ frames := 1, cells := 10, slots := 657, locals := 20 } : Room) (va_Pc [.ref h] (fun U => U.heap.size = sz ∧ va_P D vwCl [(h, .inr (0, [.int 0, .null, .null, .null, .null, .null, .int 0, .null, .int 0, .null, .null, .null, .null, .int 0]))] U.heap ∧ va_K D vwCl [] U ∧ va_D (fun _ => True) [(h, .inr (0, [.int 0, .null, .null, .null, .null, .null, .int 0, .null, .int 0, .null, .null, .null, .null, .int 0]))])) (va_Qv (fun _ : (Nat → Nat) × ClassId => True) (fun u t => va_P D vwCl (wJ h u.1 u.2 0 (fun _ => 0) (fun _ => 0) (fun _ => 0) (fun _ => 0) (fun _ => 0) 0 (fun _ => 0) 0 (fun _ => 0) (fun _ => 0) (fun _ => 0) (fun _ => 0) 0) t.heap ∧ va_K D vwCl [(u.2, .int)] t ∧ va_D (va_A [(h, .inr (0, [.int 0, .null, .null, .null, .null, .null, .int 0, .null, .int 0, .null, .null, .null, .null, .int 0]))] sz) (wJ h u.1 u.2 0 (fun _ => 0) (fun _ => 0) (fun _ => 0) (fun _ => 0) (fun _ => 0) 0 (fun _ => 0) 0 (fun _ => 0) (fun _ => 0) (fun _ => 0) (fun _ => 0) 0)) (va_A [(h, .inr (0, [.int 0, .null, .null, .null, .null, .null, .int 0, .null, .int 0, .null, .null, .null, .null, .int 0]))] sz)) 10 657 (va_A [(h, .inr (0, [.int 0, .null, .null, .null, .null, .null, .int 0, .null, .int 0, .null, .null, .null, .null, .int 0]))] sz) := by
  refine Met.ofW (cc := cX0_init) (maxL := 1) (ret := none) (by decide) rfl ?_
  intro p e s m args below meth c s₁ B hml hv
  obtain ⟨rfl, hsz, hP, hK, hD0⟩ := hv
  have hx := B.exec
  have hb := B.bytes
  have hr := B.returns
  have hts := atoms_spec (ws := (ws_ yX0_init cX0_init 1 none)) B.pre
  have hts : ∀ w ∈ lw_all, w.before _ s = true := fun w h => hts w (List.mem_cons_of_mem _ h)
  have hown : s.vm.findClass RX0 = some m.cls := findClass_of_methodNamed B.named
  have hlocks := B.notSynchronized
  have hin : meth.name = "<init>" := (name_of_methodNamed B.named B.method).1
  subst hsz
  have hD := hD0.self (sz := s.heap.size)
  generalize hAe : va_A [(h, .inr (0, [.int 0, .null, .null, .null, .null, .null, .int 0, .null, .int 0, .null, .null, .null, .null, .int 0]))] s.heap.size = A at hD ⊢
  have hA : ∀ q : Nat, s.heap.size ≤ q → A q := fun q h => by rw [← hAe]; exact Or.inr h
  have hS : va_S A s.heap s.heap [] := va_S.rf
  have hl := lv_entry ([.ref h]) (n := 1) (Nat.le_of_ble_eq_true rfl)
  rw [lg_entry_eq]
  generalize (lg_sl ([.ref h]) ++ List.replicate (1 - (lg_sl ([.ref h])).length) Slot.unset).toArray = ls at hl ⊢
  have hl : lv_has ls 1 [(0, .ref h)] := hl
  refine lv_aload_n hx hb dX0_init_0 rfl (lv_at hl 0 rfl) ?_
  refine W.objInit hx hb hown (hts _ q25) (hts _ q26) (hts _ q27) rfl (by rw [hml]; exact hl.1) rfl dX0_init_1 (Nat.le_of_ble_eq_true rfl) (Nat.le_of_ble_eq_true rfl) ?_
  refine W.eq (g2 := F0 m 4 ls []) rfl ?_
  refine lv_aload_n hx hb dX0_init_4 rfl (lv_at hl 0 rfl) ?_
  refine lv_bipush (v := nI 64) hx hb dX0_init_5 (by decide) ?_
  refine va_newa hx hb (atype := .int) (hts _ q71) rfl hK hP hD hS hA (N' := 64) (a0 := (64, .inl (fun _ => 0))) (fun _ => rfl) (by decide) (by decide) (by decide) (Nat.le_of_ble_eq_true rfl) (Nat.le_of_ble_eq_true rfl) dX0_init_7 (fun q0 c0 H hK hP hD hS => ?_)
  refine W.widen (k := 1) (n := 64) (by omega) (by omega) ?_
  have hP : va_P D vwCl [(h, .inr (0, [.int 0, .null, .null, .null, .null, .null, .int 0, .null, .int 0, .null, .null, .null, .null, .int 0])), (q0, .inl (c0, 64, .inl (fun _ => 0)))] H := hP
  have hD : va_D A [(h, .inr (0, [.int 0, .null, .null, .null, .null, .null, .int 0, .null, .int 0, .null, .null, .null, .null, .int 0])), (q0, .inl (c0, 64, .inl (fun _ => 0)))] := hD
  refine va_putF (D := D) (ci := 0) (v := .ref q0) (ty := .array .int) (C := RX0) (T := TX0) (N := 14) hx hb hts in_X0 tyX0 tyX0_ok nmX0 hown hK hP hD hS 0 rfl rfl 1 (by decide) (hts _ q29) (fun _ h9 => h9) rfl hin rfl (by decide +kernel) rfl rfl (Nat.le_of_ble_eq_true rfl) dX0_init_9 (fun H locs hP hD hS => ?_)
  have hP : va_P D vwCl [(h, .inr (0, [.int 0, .ref q0, .null, .null, .null, .null, .int 0, .null, .int 0, .null, .null, .null, .null, .int 0])), (q0, .inl (c0, 64, .inl (fun _ => 0)))] H := hP
  have hD : va_D A [(h, .inr (0, [.int 0, .ref q0, .null, .null, .null, .null, .int 0, .null, .int 0, .null, .null, .null, .null, .int 0])), (q0, .inl (c0, 64, .inl (fun _ => 0)))] := hD
  refine lv_aload_n hx hb dX0_init_12 rfl (lv_at hl 0 rfl) ?_
  refine lv_bipush (v := nI 64) hx hb dX0_init_13 (by decide) ?_
  refine va_newa hx hb (atype := .int) (hts _ q71) rfl hK hP hD hS hA (N' := 64) (a0 := (64, .inl (fun _ => 0))) (fun _ => rfl) (by decide) (by decide) (by decide) (Nat.le_of_ble_eq_true rfl) (Nat.le_of_ble_eq_true rfl) dX0_init_15 (fun q1 c1 H hK hP hD hS => ?_)
  refine W.widen (k := 2) (n := 128) (by omega) (by omega) ?_
  have ec : c0 = c1 := Option.some.inj ((hK.2 0 _ rfl).2.symm.trans (hK.2 1 _ rfl).2)
  subst ec
  have hK : va_K D vwCl [(c0, .int)] s := hK.sub [0] rfl
  have hP : va_P D vwCl [(h, .inr (0, [.int 0, .ref q0, .null, .null, .null, .null, .int 0, .null, .int 0, .null, .null, .null, .null, .int 0])), (q0, .inl (c0, 64, .inl (fun _ => 0))), (q1, .inl (c0, 64, .inl (fun _ => 0)))] H := hP
  have hD : va_D A [(h, .inr (0, [.int 0, .ref q0, .null, .null, .null, .null, .int 0, .null, .int 0, .null, .null, .null, .null, .int 0])), (q0, .inl (c0, 64, .inl (fun _ => 0))), (q1, .inl (c0, 64, .inl (fun _ => 0)))] := hD
  refine va_putF (D := D) (ci := 0) (v := .ref q1) (ty := .array .int) (C := RX0) (T := TX0) (N := 14) hx hb hts in_X0 tyX0 tyX0_ok nmX0 hown hK hP hD hS 0 rfl rfl 2 (by decide) (hts _ q30) (fun _ h9 => h9) rfl hin rfl (by decide +kernel) rfl rfl (Nat.le_of_ble_eq_true rfl) dX0_init_17 (fun H locs hP hD hS => ?_)
  have hP : va_P D vwCl [(h, .inr (0, [.int 0, .ref q0, .ref q1, .null, .null, .null, .int 0, .null, .int 0, .null, .null, .null, .null, .int 0])), (q0, .inl (c0, 64, .inl (fun _ => 0))), (q1, .inl (c0, 64, .inl (fun _ => 0)))] H := hP
  have hD : va_D A [(h, .inr (0, [.int 0, .ref q0, .ref q1, .null, .null, .null, .int 0, .null, .int 0, .null, .null, .null, .null, .int 0])), (q0, .inl (c0, 64, .inl (fun _ => 0))), (q1, .inl (c0, 64, .inl (fun _ => 0)))] := hD
  refine lv_aload_n hx hb dX0_init_20 rfl (lv_at hl 0 rfl) ?_
  refine lv_bipush (v := nI 64) hx hb dX0_init_21 (by decide) ?_
  refine va_newa hx hb (atype := .int) (hts _ q71) rfl hK hP hD hS hA (N' := 64) (a0 := (64, .inl (fun _ => 0))) (fun _ => rfl) (by decide) (by decide) (by decide) (Nat.le_of_ble_eq_true rfl) (Nat.le_of_ble_eq_true rfl) dX0_init_23 (fun q2 c2 H hK hP hD hS => ?_)
  refine W.widen (k := 3) (n := 192) (by omega) (by omega) ?_
  have ec : c0 = c2 := Option.some.inj ((hK.2 0 _ rfl).2.symm.trans (hK.2 1 _ rfl).2)
  subst ec
  have hK : va_K D vwCl [(c0, .int)] s := hK.sub [0] rfl
  have hP : va_P D vwCl [(h, .inr (0, [.int 0, .ref q0, .ref q1, .null, .null, .null, .int 0, .null, .int 0, .null, .null, .null, .null, .int 0])), (q0, .inl (c0, 64, .inl (fun _ => 0))), (q1, .inl (c0, 64, .inl (fun _ => 0))), (q2, .inl (c0, 64, .inl (fun _ => 0)))] H := hP
  have hD : va_D A [(h, .inr (0, [.int 0, .ref q0, .ref q1, .null, .null, .null, .int 0, .null, .int 0, .null, .null, .null, .null, .int 0])), (q0, .inl (c0, 64, .inl (fun _ => 0))), (q1, .inl (c0, 64, .inl (fun _ => 0))), (q2, .inl (c0, 64, .inl (fun _ => 0)))] := hD
  refine va_putF (D := D) (ci := 0) (v := .ref q2) (ty := .array .int) (C := RX0) (T := TX0) (N := 14) hx hb hts in_X0 tyX0 tyX0_ok nmX0 hown hK hP hD hS 0 rfl rfl 3 (by decide) (hts _ q31) (fun _ h9 => h9) rfl hin rfl (by decide +kernel) rfl rfl (Nat.le_of_ble_eq_true rfl) dX0_init_25 (fun H locs hP hD hS => ?_)
  have hP : va_P D vwCl [(h, .inr (0, [.int 0, .ref q0, .ref q1, .ref q2, .null, .null, .int 0, .null, .int 0, .null, .null, .null, .null, .int 0])), (q0, .inl (c0, 64, .inl (fun _ => 0))), (q1, .inl (c0, 64, .inl (fun _ => 0))), (q2, .inl (c0, 64, .inl (fun _ => 0)))] H := hP
  have hD : va_D A [(h, .inr (0, [.int 0, .ref q0, .ref q1, .ref q2, .null, .null, .int 0, .null, .int 0, .null, .null, .null, .null, .int 0])), (q0, .inl (c0, 64, .inl (fun _ => 0))), (q1, .inl (c0, 64, .inl (fun _ => 0))), (q2, .inl (c0, 64, .inl (fun _ => 0)))] := hD
  refine lv_aload_n hx hb dX0_init_28 rfl (lv_at hl 0 rfl) ?_
  refine lv_sipush (v := nI 384) hx hb dX0_init_29 (by decide) ?_
  refine va_newa hx hb (atype := .int) (hts _ q71) rfl hK hP hD hS hA (N' := 384) (a0 := (384, .inl (fun _ => 0))) (fun _ => rfl) (by decide) (by decide) (by decide) (Nat.le_of_ble_eq_true rfl) (Nat.le_of_ble_eq_true rfl) dX0_init_32 (fun q3 c3 H hK hP hD hS => ?_)
  refine W.widen (k := 4) (n := 576) (by omega) (by omega) ?_
  have ec : c0 = c3 := Option.some.inj ((hK.2 0 _ rfl).2.symm.trans (hK.2 1 _ rfl).2)
  subst ec
  have hK : va_K D vwCl [(c0, .int)] s := hK.sub [0] rfl
  have hP : va_P D vwCl [(h, .inr (0, [.int 0, .ref q0, .ref q1, .ref q2, .null, .null, .int 0, .null, .int 0, .null, .null, .null, .null, .int 0])), (q0, .inl (c0, 64, .inl (fun _ => 0))), (q1, .inl (c0, 64, .inl (fun _ => 0))), (q2, .inl (c0, 64, .inl (fun _ => 0))), (q3, .inl (c0, 384, .inl (fun _ => 0)))] H := hP
  have hD : va_D A [(h, .inr (0, [.int 0, .ref q0, .ref q1, .ref q2, .null, .null, .int 0, .null, .int 0, .null, .null, .null, .null, .int 0])), (q0, .inl (c0, 64, .inl (fun _ => 0))), (q1, .inl (c0, 64, .inl (fun _ => 0))), (q2, .inl (c0, 64, .inl (fun _ => 0))), (q3, .inl (c0, 384, .inl (fun _ => 0)))] := hD
  refine va_putF (D := D) (ci := 0) (v := .ref q3) (ty := .array .int) (C := RX0) (T := TX0) (N := 14) hx hb hts in_X0 tyX0 tyX0_ok nmX0 hown hK hP hD hS 0 rfl rfl 4 (by decide) (hts _ q32) (fun _ h9 => h9) rfl hin rfl (by decide +kernel) rfl rfl (Nat.le_of_ble_eq_true rfl) dX0_init_34 (fun H locs hP hD hS => ?_)
  have hP : va_P D vwCl [(h, .inr (0, [.int 0, .ref q0, .ref q1, .ref q2, .ref q3, .null, .int 0, .null, .int 0, .null, .null, .null, .null, .int 0])), (q0, .inl (c0, 64, .inl (fun _ => 0))), (q1, .inl (c0, 64, .inl (fun _ => 0))), (q2, .inl (c0, 64, .inl (fun _ => 0))), (q3, .inl (c0, 384, .inl (fun _ => 0)))] H := hP
  have hD : va_D A [(h, .inr (0, [.int 0, .ref q0, .ref q1, .ref q2, .ref q3, .null, .int 0, .null, .int 0, .null, .null, .null, .null, .int 0])), (q0, .inl (c0, 64, .inl (fun _ => 0))), (q1, .inl (c0, 64, .inl (fun _ => 0))), (q2, .inl (c0, 64, .inl (fun _ => 0))), (q3, .inl (c0, 384, .inl (fun _ => 0)))] := hD
  refine lv_aload_n hx hb dX0_init_37 rfl (lv_at hl 0 rfl) ?_
  refine lv_bipush (v := nI 24) hx hb dX0_init_38 (by decide) ?_
  refine va_newa hx hb (atype := .int) (hts _ q71) rfl hK hP hD hS hA (N' := 24) (a0 := (24, .inl (fun _ => 0))) (fun _ => rfl) (by decide) (by decide) (by decide) (Nat.le_of_ble_eq_true rfl) (Nat.le_of_ble_eq_true rfl) dX0_init_40 (fun q4 c4 H hK hP hD hS => ?_)
  refine W.widen (k := 5) (n := 600) (by omega) (by omega) ?_
  have ec : c0 = c4 := Option.some.inj ((hK.2 0 _ rfl).2.symm.trans (hK.2 1 _ rfl).2)
  subst ec
  have hK : va_K D vwCl [(c0, .int)] s := hK.sub [0] rfl
  have hP : va_P D vwCl [(h, .inr (0, [.int 0, .ref q0, .ref q1, .ref q2, .ref q3, .null, .int 0, .null, .int 0, .null, .null, .null, .null, .int 0])), (q0, .inl (c0, 64, .inl (fun _ => 0))), (q1, .inl (c0, 64, .inl (fun _ => 0))), (q2, .inl (c0, 64, .inl (fun _ => 0))), (q3, .inl (c0, 384, .inl (fun _ => 0))), (q4, .inl (c0, 24, .inl (fun _ => 0)))] H := hP
  have hD : va_D A [(h, .inr (0, [.int 0, .ref q0, .ref q1, .ref q2, .ref q3, .null, .int 0, .null, .int 0, .null, .null, .null, .null, .int 0])), (q0, .inl (c0, 64, .inl (fun _ => 0))), (q1, .inl (c0, 64, .inl (fun _ => 0))), (q2, .inl (c0, 64, .inl (fun _ => 0))), (q3, .inl (c0, 384, .inl (fun _ => 0))), (q4, .inl (c0, 24, .inl (fun _ => 0)))] := hD
  refine va_putF (D := D) (ci := 0) (v := .ref q4) (ty := .array .int) (C := RX0) (T := TX0) (N := 14) hx hb hts in_X0 tyX0 tyX0_ok nmX0 hown hK hP hD hS 0 rfl rfl 5 (by decide) (hts _ q33) (fun _ h9 => h9) rfl hin rfl (by decide +kernel) rfl rfl (Nat.le_of_ble_eq_true rfl) dX0_init_42 (fun H locs hP hD hS => ?_)
  have hP : va_P D vwCl [(h, .inr (0, [.int 0, .ref q0, .ref q1, .ref q2, .ref q3, .ref q4, .int 0, .null, .int 0, .null, .null, .null, .null, .int 0])), (q0, .inl (c0, 64, .inl (fun _ => 0))), (q1, .inl (c0, 64, .inl (fun _ => 0))), (q2, .inl (c0, 64, .inl (fun _ => 0))), (q3, .inl (c0, 384, .inl (fun _ => 0))), (q4, .inl (c0, 24, .inl (fun _ => 0)))] H := hP
  have hD : va_D A [(h, .inr (0, [.int 0, .ref q0, .ref q1, .ref q2, .ref q3, .ref q4, .int 0, .null, .int 0, .null, .null, .null, .null, .int 0])), (q0, .inl (c0, 64, .inl (fun _ => 0))), (q1, .inl (c0, 64, .inl (fun _ => 0))), (q2, .inl (c0, 64, .inl (fun _ => 0))), (q3, .inl (c0, 384, .inl (fun _ => 0))), (q4, .inl (c0, 24, .inl (fun _ => 0)))] := hD
  refine lv_aload_n hx hb dX0_init_45 rfl (lv_at hl 0 rfl) ?_
  refine lv_bipush (v := nI 12) hx hb dX0_init_46 (by decide) ?_
  refine va_newa hx hb (atype := .int) (hts _ q71) rfl hK hP hD hS hA (N' := 12) (a0 := (12, .inl (fun _ => 0))) (fun _ => rfl) (by decide) (by decide) (by decide) (Nat.le_of_ble_eq_true rfl) (Nat.le_of_ble_eq_true rfl) dX0_init_48 (fun q5 c5 H hK hP hD hS => ?_)
  refine W.widen (k := 6) (n := 612) (by omega) (by omega) ?_
  have ec : c0 = c5 := Option.some.inj ((hK.2 0 _ rfl).2.symm.trans (hK.2 1 _ rfl).2)
  subst ec
  have hK : va_K D vwCl [(c0, .int)] s := hK.sub [0] rfl
  have hP : va_P D vwCl [(h, .inr (0, [.int 0, .ref q0, .ref q1, .ref q2, .ref q3, .ref q4, .int 0, .null, .int 0, .null, .null, .null, .null, .int 0])), (q0, .inl (c0, 64, .inl (fun _ => 0))), (q1, .inl (c0, 64, .inl (fun _ => 0))), (q2, .inl (c0, 64, .inl (fun _ => 0))), (q3, .inl (c0, 384, .inl (fun _ => 0))), (q4, .inl (c0, 24, .inl (fun _ => 0))), (q5, .inl (c0, 12, .inl (fun _ => 0)))] H := hP
  have hD : va_D A [(h, .inr (0, [.int 0, .ref q0, .ref q1, .ref q2, .ref q3, .ref q4, .int 0, .null, .int 0, .null, .null, .null, .null, .int 0])), (q0, .inl (c0, 64, .inl (fun _ => 0))), (q1, .inl (c0, 64, .inl (fun _ => 0))), (q2, .inl (c0, 64, .inl (fun _ => 0))), (q3, .inl (c0, 384, .inl (fun _ => 0))), (q4, .inl (c0, 24, .inl (fun _ => 0))), (q5, .inl (c0, 12, .inl (fun _ => 0)))] := hD
  refine va_putF (D := D) (ci := 0) (v := .ref q5) (ty := .array .int) (C := RX0) (T := TX0) (N := 14) hx hb hts in_X0 tyX0 tyX0_ok nmX0 hown hK hP hD hS 0 rfl rfl 7 (by decide) (hts _ q35) (fun _ h9 => h9) rfl hin rfl (by decide +kernel) rfl rfl (Nat.le_of_ble_eq_true rfl) dX0_init_50 (fun H locs hP hD hS => ?_)
  have hP : va_P D vwCl [(h, .inr (0, [.int 0, .ref q0, .ref q1, .ref q2, .ref q3, .ref q4, .int 0, .ref q5, .int 0, .null, .null, .null, .null, .int 0])), (q0, .inl (c0, 64, .inl (fun _ => 0))), (q1, .inl (c0, 64, .inl (fun _ => 0))), (q2, .inl (c0, 64, .inl (fun _ => 0))), (q3, .inl (c0, 384, .inl (fun _ => 0))), (q4, .inl (c0, 24, .inl (fun _ => 0))), (q5, .inl (c0, 12, .inl (fun _ => 0)))] H := hP
  have hD : va_D A [(h, .inr (0, [.int 0, .ref q0, .ref q1, .ref q2, .ref q3, .ref q4, .int 0, .ref q5, .int 0, .null, .null, .null, .null, .int 0])), (q0, .inl (c0, 64, .inl (fun _ => 0))), (q1, .inl (c0, 64, .inl (fun _ => 0))), (q2, .inl (c0, 64, .inl (fun _ => 0))), (q3, .inl (c0, 384, .inl (fun _ => 0))), (q4, .inl (c0, 24, .inl (fun _ => 0))), (q5, .inl (c0, 12, .inl (fun _ => 0)))] := hD
  refine lv_aload_n hx hb dX0_init_53 rfl (lv_at hl 0 rfl) ?_
  refine lv_iconst (v := nI 4) hx hb dX0_init_54 (by decide) ?_
  refine va_newa hx hb (atype := .int) (hts _ q71) rfl hK hP hD hS hA (N' := 4) (a0 := (4, .inl (fun _ => 0))) (fun _ => rfl) (by decide) (by decide) (by decide) (Nat.le_of_ble_eq_true rfl) (Nat.le_of_ble_eq_true rfl) dX0_init_55 (fun q6 c6 H hK hP hD hS => ?_)
  refine W.widen (k := 7) (n := 616) (by omega) (by omega) ?_
  have ec : c0 = c6 := Option.some.inj ((hK.2 0 _ rfl).2.symm.trans (hK.2 1 _ rfl).2)
  subst ec
  have hK : va_K D vwCl [(c0, .int)] s := hK.sub [0] rfl
  have hP : va_P D vwCl [(h, .inr (0, [.int 0, .ref q0, .ref q1, .ref q2, .ref q3, .ref q4, .int 0, .ref q5, .int 0, .null, .null, .null, .null, .int 0])), (q0, .inl (c0, 64, .inl (fun _ => 0))), (q1, .inl (c0, 64, .inl (fun _ => 0))), (q2, .inl (c0, 64, .inl (fun _ => 0))), (q3, .inl (c0, 384, .inl (fun _ => 0))), (q4, .inl (c0, 24, .inl (fun _ => 0))), (q5, .inl (c0, 12, .inl (fun _ => 0))), (q6, .inl (c0, 4, .inl (fun _ => 0)))] H := hP
  have hD : va_D A [(h, .inr (0, [.int 0, .ref q0, .ref q1, .ref q2, .ref q3, .ref q4, .int 0, .ref q5, .int 0, .null, .null, .null, .null, .int 0])), (q0, .inl (c0, 64, .inl (fun _ => 0))), (q1, .inl (c0, 64, .inl (fun _ => 0))), (q2, .inl (c0, 64, .inl (fun _ => 0))), (q3, .inl (c0, 384, .inl (fun _ => 0))), (q4, .inl (c0, 24, .inl (fun _ => 0))), (q5, .inl (c0, 12, .inl (fun _ => 0))), (q6, .inl (c0, 4, .inl (fun _ => 0)))] := hD
  refine va_putF (D := D) (ci := 0) (v := .ref q6) (ty := .array .int) (C := RX0) (T := TX0) (N := 14) hx hb hts in_X0 tyX0 tyX0_ok nmX0 hown hK hP hD hS 0 rfl rfl 9 (by decide) (hts _ q37) (fun _ h9 => h9) rfl hin rfl (by decide +kernel) rfl rfl (Nat.le_of_ble_eq_true rfl) dX0_init_57 (fun H locs hP hD hS => ?_)
  have hP : va_P D vwCl [(h, .inr (0, [.int 0, .ref q0, .ref q1, .ref q2, .ref q3, .ref q4, .int 0, .ref q5, .int 0, .ref q6, .null, .null, .null, .int 0])), (q0, .inl (c0, 64, .inl (fun _ => 0))), (q1, .inl (c0, 64, .inl (fun _ => 0))), (q2, .inl (c0, 64, .inl (fun _ => 0))), (q3, .inl (c0, 384, .inl (fun _ => 0))), (q4, .inl (c0, 24, .inl (fun _ => 0))), (q5, .inl (c0, 12, .inl (fun _ => 0))), (q6, .inl (c0, 4, .inl (fun _ => 0)))] H := hP
  have hD : va_D A [(h, .inr (0, [.int 0, .ref q0, .ref q1, .ref q2, .ref q3, .ref q4, .int 0, .ref q5, .int 0, .ref q6, .null, .null, .null, .int 0])), (q0, .inl (c0, 64, .inl (fun _ => 0))), (q1, .inl (c0, 64, .inl (fun _ => 0))), (q2, .inl (c0, 64, .inl (fun _ => 0))), (q3, .inl (c0, 384, .inl (fun _ => 0))), (q4, .inl (c0, 24, .inl (fun _ => 0))), (q5, .inl (c0, 12, .inl (fun _ => 0))), (q6, .inl (c0, 4, .inl (fun _ => 0)))] := hD
  refine lv_aload_n hx hb dX0_init_60 rfl (lv_at hl 0 rfl) ?_
  refine lv_iconst (v := nI 4) hx hb dX0_init_61 (by decide) ?_
  refine va_newa hx hb (atype := .int) (hts _ q71) rfl hK hP hD hS hA (N' := 4) (a0 := (4, .inl (fun _ => 0))) (fun _ => rfl) (by decide) (by decide) (by decide) (Nat.le_of_ble_eq_true rfl) (Nat.le_of_ble_eq_true rfl) dX0_init_62 (fun q7 c7 H hK hP hD hS => ?_)
  refine W.widen (k := 8) (n := 620) (by omega) (by omega) ?_
  have ec : c0 = c7 := Option.some.inj ((hK.2 0 _ rfl).2.symm.trans (hK.2 1 _ rfl).2)
  subst ec
  have hK : va_K D vwCl [(c0, .int)] s := hK.sub [0] rfl
  have hP : va_P D vwCl [(h, .inr (0, [.int 0, .ref q0, .ref q1, .ref q2, .ref q3, .ref q4, .int 0, .ref q5, .int 0, .ref q6, .null, .null, .null, .int 0])), (q0, .inl (c0, 64, .inl (fun _ => 0))), (q1, .inl (c0, 64, .inl (fun _ => 0))), (q2, .inl (c0, 64, .inl (fun _ => 0))), (q3, .inl (c0, 384, .inl (fun _ => 0))), (q4, .inl (c0, 24, .inl (fun _ => 0))), (q5, .inl (c0, 12, .inl (fun _ => 0))), (q6, .inl (c0, 4, .inl (fun _ => 0))), (q7, .inl (c0, 4, .inl (fun _ => 0)))] H := hP
  have hD : va_D A [(h, .inr (0, [.int 0, .ref q0, .ref q1, .ref q2, .ref q3, .ref q4, .int 0, .ref q5, .int 0, .ref q6, .null, .null, .null, .int 0])), (q0, .inl (c0, 64, .inl (fun _ => 0))), (q1, .inl (c0, 64, .inl (fun _ => 0))), (q2, .inl (c0, 64, .inl (fun _ => 0))), (q3, .inl (c0, 384, .inl (fun _ => 0))), (q4, .inl (c0, 24, .inl (fun _ => 0))), (q5, .inl (c0, 12, .inl (fun _ => 0))), (q6, .inl (c0, 4, .inl (fun _ => 0))), (q7, .inl (c0, 4, .inl (fun _ => 0)))] := hD
  refine va_putF (D := D) (ci := 0) (v := .ref q7) (ty := .array .int) (C := RX0) (T := TX0) (N := 14) hx hb hts in_X0 tyX0 tyX0_ok nmX0 hown hK hP hD hS 0 rfl rfl 10 (by decide) (hts _ q38) (fun _ h9 => h9) rfl hin rfl (by decide +kernel) rfl rfl (Nat.le_of_ble_eq_true rfl) dX0_init_64 (fun H locs hP hD hS => ?_)
  have hP : va_P D vwCl [(h, .inr (0, [.int 0, .ref q0, .ref q1, .ref q2, .ref q3, .ref q4, .int 0, .ref q5, .int 0, .ref q6, .ref q7, .null, .null, .int 0])), (q0, .inl (c0, 64, .inl (fun _ => 0))), (q1, .inl (c0, 64, .inl (fun _ => 0))), (q2, .inl (c0, 64, .inl (fun _ => 0))), (q3, .inl (c0, 384, .inl (fun _ => 0))), (q4, .inl (c0, 24, .inl (fun _ => 0))), (q5, .inl (c0, 12, .inl (fun _ => 0))), (q6, .inl (c0, 4, .inl (fun _ => 0))), (q7, .inl (c0, 4, .inl (fun _ => 0)))] H := hP
  have hD : va_D A [(h, .inr (0, [.int 0, .ref q0, .ref q1, .ref q2, .ref q3, .ref q4, .int 0, .ref q5, .int 0, .ref q6, .ref q7, .null, .null, .int 0])), (q0, .inl (c0, 64, .inl (fun _ => 0))), (q1, .inl (c0, 64, .inl (fun _ => 0))), (q2, .inl (c0, 64, .inl (fun _ => 0))), (q3, .inl (c0, 384, .inl (fun _ => 0))), (q4, .inl (c0, 24, .inl (fun _ => 0))), (q5, .inl (c0, 12, .inl (fun _ => 0))), (q6, .inl (c0, 4, .inl (fun _ => 0))), (q7, .inl (c0, 4, .inl (fun _ => 0)))] := hD
  refine lv_aload_n hx hb dX0_init_67 rfl (lv_at hl 0 rfl) ?_
  refine lv_iconst (v := nI 5) hx hb dX0_init_68 (by decide) ?_
  refine va_newa hx hb (atype := .int) (hts _ q71) rfl hK hP hD hS hA (N' := 5) (a0 := (5, .inl (fun _ => 0))) (fun _ => rfl) (by decide) (by decide) (by decide) (Nat.le_of_ble_eq_true rfl) (Nat.le_of_ble_eq_true rfl) dX0_init_69 (fun q8 c8 H hK hP hD hS => ?_)
  refine W.widen (k := 9) (n := 625) (by omega) (by omega) ?_
  have ec : c0 = c8 := Option.some.inj ((hK.2 0 _ rfl).2.symm.trans (hK.2 1 _ rfl).2)
  subst ec
  have hK : va_K D vwCl [(c0, .int)] s := hK.sub [0] rfl
  have hP : va_P D vwCl [(h, .inr (0, [.int 0, .ref q0, .ref q1, .ref q2, .ref q3, .ref q4, .int 0, .ref q5, .int 0, .ref q6, .ref q7, .null, .null, .int 0])), (q0, .inl (c0, 64, .inl (fun _ => 0))), (q1, .inl (c0, 64, .inl (fun _ => 0))), (q2, .inl (c0, 64, .inl (fun _ => 0))), (q3, .inl (c0, 384, .inl (fun _ => 0))), (q4, .inl (c0, 24, .inl (fun _ => 0))), (q5, .inl (c0, 12, .inl (fun _ => 0))), (q6, .inl (c0, 4, .inl (fun _ => 0))), (q7, .inl (c0, 4, .inl (fun _ => 0))), (q8, .inl (c0, 5, .inl (fun _ => 0)))] H := hP
  have hD : va_D A [(h, .inr (0, [.int 0, .ref q0, .ref q1, .ref q2, .ref q3, .ref q4, .int 0, .ref q5, .int 0, .ref q6, .ref q7, .null, .null, .int 0])), (q0, .inl (c0, 64, .inl (fun _ => 0))), (q1, .inl (c0, 64, .inl (fun _ => 0))), (q2, .inl (c0, 64, .inl (fun _ => 0))), (q3, .inl (c0, 384, .inl (fun _ => 0))), (q4, .inl (c0, 24, .inl (fun _ => 0))), (q5, .inl (c0, 12, .inl (fun _ => 0))), (q6, .inl (c0, 4, .inl (fun _ => 0))), (q7, .inl (c0, 4, .inl (fun _ => 0))), (q8, .inl (c0, 5, .inl (fun _ => 0)))] := hD
  refine va_putF (D := D) (ci := 0) (v := .ref q8) (ty := .array .int) (C := RX0) (T := TX0) (N := 14) hx hb hts in_X0 tyX0 tyX0_ok nmX0 hown hK hP hD hS 0 rfl rfl 11 (by decide) (hts _ q39) (fun _ h9 => h9) rfl hin rfl (by decide +kernel) rfl rfl (Nat.le_of_ble_eq_true rfl) dX0_init_71 (fun H locs hP hD hS => ?_)
  have hP : va_P D vwCl [(h, .inr (0, [.int 0, .ref q0, .ref q1, .ref q2, .ref q3, .ref q4, .int 0, .ref q5, .int 0, .ref q6, .ref q7, .ref q8, .null, .int 0])), (q0, .inl (c0, 64, .inl (fun _ => 0))), (q1, .inl (c0, 64, .inl (fun _ => 0))), (q2, .inl (c0, 64, .inl (fun _ => 0))), (q3, .inl (c0, 384, .inl (fun _ => 0))), (q4, .inl (c0, 24, .inl (fun _ => 0))), (q5, .inl (c0, 12, .inl (fun _ => 0))), (q6, .inl (c0, 4, .inl (fun _ => 0))), (q7, .inl (c0, 4, .inl (fun _ => 0))), (q8, .inl (c0, 5, .inl (fun _ => 0)))] H := hP
  have hD : va_D A [(h, .inr (0, [.int 0, .ref q0, .ref q1, .ref q2, .ref q3, .ref q4, .int 0, .ref q5, .int 0, .ref q6, .ref q7, .ref q8, .null, .int 0])), (q0, .inl (c0, 64, .inl (fun _ => 0))), (q1, .inl (c0, 64, .inl (fun _ => 0))), (q2, .inl (c0, 64, .inl (fun _ => 0))), (q3, .inl (c0, 384, .inl (fun _ => 0))), (q4, .inl (c0, 24, .inl (fun _ => 0))), (q5, .inl (c0, 12, .inl (fun _ => 0))), (q6, .inl (c0, 4, .inl (fun _ => 0))), (q7, .inl (c0, 4, .inl (fun _ => 0))), (q8, .inl (c0, 5, .inl (fun _ => 0)))] := hD
  refine lv_aload_n hx hb dX0_init_74 rfl (lv_at hl 0 rfl) ?_
  refine lv_bipush (v := nI 32) hx hb dX0_init_75 (by decide) ?_
  refine va_newa hx hb (atype := .int) (hts _ q71) rfl hK hP hD hS hA (N' := 32) (a0 := (32, .inl (fun _ => 0))) (fun _ => rfl) (by decide) (by decide) (by decide) (Nat.le_of_ble_eq_true rfl) (Nat.le_of_ble_eq_true rfl) dX0_init_77 (fun q9 c9 H hK hP hD hS => ?_)
  refine W.widen (k := 10) (n := 657) (by omega) (by omega) ?_
  have ec : c0 = c9 := Option.some.inj ((hK.2 0 _ rfl).2.symm.trans (hK.2 1 _ rfl).2)
  subst ec
  have hK : va_K D vwCl [(c0, .int)] s := hK.sub [0] rfl
  have hP : va_P D vwCl [(h, .inr (0, [.int 0, .ref q0, .ref q1, .ref q2, .ref q3, .ref q4, .int 0, .ref q5, .int 0, .ref q6, .ref q7, .ref q8, .null, .int 0])), (q0, .inl (c0, 64, .inl (fun _ => 0))), (q1, .inl (c0, 64, .inl (fun _ => 0))), (q2, .inl (c0, 64, .inl (fun _ => 0))), (q3, .inl (c0, 384, .inl (fun _ => 0))), (q4, .inl (c0, 24, .inl (fun _ => 0))), (q5, .inl (c0, 12, .inl (fun _ => 0))), (q6, .inl (c0, 4, .inl (fun _ => 0))), (q7, .inl (c0, 4, .inl (fun _ => 0))), (q8, .inl (c0, 5, .inl (fun _ => 0))), (q9, .inl (c0, 32, .inl (fun _ => 0)))] H := hP
  have hD : va_D A [(h, .inr (0, [.int 0, .ref q0, .ref q1, .ref q2, .ref q3, .ref q4, .int 0, .ref q5, .int 0, .ref q6, .ref q7, .ref q8, .null, .int 0])), (q0, .inl (c0, 64, .inl (fun _ => 0))), (q1, .inl (c0, 64, .inl (fun _ => 0))), (q2, .inl (c0, 64, .inl (fun _ => 0))), (q3, .inl (c0, 384, .inl (fun _ => 0))), (q4, .inl (c0, 24, .inl (fun _ => 0))), (q5, .inl (c0, 12, .inl (fun _ => 0))), (q6, .inl (c0, 4, .inl (fun _ => 0))), (q7, .inl (c0, 4, .inl (fun _ => 0))), (q8, .inl (c0, 5, .inl (fun _ => 0))), (q9, .inl (c0, 32, .inl (fun _ => 0)))] := hD
  refine va_putF (D := D) (ci := 0) (v := .ref q9) (ty := .array .int) (C := RX0) (T := TX0) (N := 14) hx hb hts in_X0 tyX0 tyX0_ok nmX0 hown hK hP hD hS 0 rfl rfl 12 (by decide) (hts _ q40) (fun _ h9 => h9) rfl hin rfl (by decide +kernel) rfl rfl (Nat.le_of_ble_eq_true rfl) dX0_init_79 (fun H locs hP hD hS => ?_)
  have hP : va_P D vwCl [(h, .inr (0, [.int 0, .ref q0, .ref q1, .ref q2, .ref q3, .ref q4, .int 0, .ref q5, .int 0, .ref q6, .ref q7, .ref q8, .ref q9, .int 0])), (q0, .inl (c0, 64, .inl (fun _ => 0))), (q1, .inl (c0, 64, .inl (fun _ => 0))), (q2, .inl (c0, 64, .inl (fun _ => 0))), (q3, .inl (c0, 384, .inl (fun _ => 0))), (q4, .inl (c0, 24, .inl (fun _ => 0))), (q5, .inl (c0, 12, .inl (fun _ => 0))), (q6, .inl (c0, 4, .inl (fun _ => 0))), (q7, .inl (c0, 4, .inl (fun _ => 0))), (q8, .inl (c0, 5, .inl (fun _ => 0))), (q9, .inl (c0, 32, .inl (fun _ => 0)))] H := hP
  have hD : va_D A [(h, .inr (0, [.int 0, .ref q0, .ref q1, .ref q2, .ref q3, .ref q4, .int 0, .ref q5, .int 0, .ref q6, .ref q7, .ref q8, .ref q9, .int 0])), (q0, .inl (c0, 64, .inl (fun _ => 0))), (q1, .inl (c0, 64, .inl (fun _ => 0))), (q2, .inl (c0, 64, .inl (fun _ => 0))), (q3, .inl (c0, 384, .inl (fun _ => 0))), (q4, .inl (c0, 24, .inl (fun _ => 0))), (q5, .inl (c0, 12, .inl (fun _ => 0))), (q6, .inl (c0, 4, .inl (fun _ => 0))), (q7, .inl (c0, 4, .inl (fun _ => 0))), (q8, .inl (c0, 5, .inl (fun _ => 0))), (q9, .inl (c0, 32, .inl (fun _ => 0)))] := hD
  exact W.vret hx hb hr (fun t ht hW => ⟨⟨((fun k => match k with | 1 => q0 | 2 => q1 | 3 => q2 | 4 => q3 | 5 => q4 | 7 => q5 | 9 => q6 | 10 => q7 | 11 => q8 | _ => q9), c0), rfl, trivial, by show va_P D vwCl _ t.heap; rw [ht]; exact hP, va_K.moved hW.alike hK, hD⟩, hS.F ht⟩) hS.2.2 dX0_init_82

set_option maxHeartbeats 1000000 in
set_option maxRecDepth 100000 in
/-- the constructor -/
theorem mm_init (l : Launch) (D : va_G) (h sz : Nat) : Met l yX1_init (ws_ yX1_init cX1_init 1 none) ({ frames := 1, cells := 3, slots := 528, locals := 20 } : Room) (va_Pc [.ref h] (fun U => U.heap.size = sz ∧ va_P D vwCl [(h, .inr (1, [.null, .int 0, .null, .null]))] U.heap ∧ va_K D vwCl [] U ∧ va_D (fun _ => True) [(h, .inr (1, [.null, .int 0, .null, .null]))])) (va_Qv (fun _ : (Nat → Nat) × ClassId × ClassId => True) (fun u t => va_P D vwCl (wM h u.1 u.2.1 u.2.2 (fun _ => 0) 0 (fun _ => 0) (fun _ => 0)) t.heap ∧ va_K D vwCl [(u.2.1, .int), (u.2.2, .boolean)] t ∧ va_D (va_A [(h, .inr (1, [.null, .int 0, .null, .null]))] sz) (wM h u.1 u.2.1 u.2.2 (fun _ => 0) 0 (fun _ => 0) (fun _ => 0))) (va_A [(h, .inr (1, [.null, .int 0, .null, .null]))] sz)) 3 528 (va_A [(h, .inr (1, [.null, .int 0, .null, .null]))] sz) := by
  refine Met.ofW (cc := cX1_init) (maxL := 1) (ret := none) (by decide) rfl ?_
  intro p e s m args below meth c s₁ B hml hv
  obtain ⟨rfl, hsz, hP, hK, hD0⟩ := hv
  have hx := B.exec
  have hb := B.bytes
  have hr := B.returns
  have hts := atoms_spec (ws := (ws_ yX1_init cX1_init 1 none)) B.pre
  have hts : ∀ w ∈ lw_all, w.before _ s = true := fun w h => hts w (List.mem_cons_of_mem _ h)
  have hown : s.vm.findClass RX1 = some m.cls := findClass_of_methodNamed B.named
  have hlocks := B.notSynchronized
  have hin : meth.name = "<init>" := (name_of_methodNamed B.named B.method).1
  subst hsz
  have hD := hD0.self (sz := s.heap.size)
  generalize hAe : va_A [(h, .inr (1, [.null, .int 0, .null, .null]))] s.heap.size = A at hD ⊢
  have hA : ∀ q : Nat, s.heap.size ≤ q → A q := fun q h => by rw [← hAe]; exact Or.inr h
  have hS : va_S A s.heap s.heap [] := va_S.rf
  have hl := lv_entry ([.ref h]) (n := 1) (Nat.le_of_ble_eq_true rfl)
  rw [lg_entry_eq]
  generalize (lg_sl ([.ref h]) ++ List.replicate (1 - (lg_sl ([.ref h])).length) Slot.unset).toArray = ls at hl ⊢
  have hl : lv_has ls 1 [(0, .ref h)] := hl
  refine lv_aload_n hx hb dX1_init_0 rfl (lv_at hl 0 rfl) ?_
  refine W.objInit hx hb hown (hts _ q175) (hts _ q26) (hts _ q27) rfl (by rw [hml]; exact hl.1) rfl dX1_init_1 (Nat.le_of_ble_eq_true rfl) (Nat.le_of_ble_eq_true rfl) ?_
  refine W.eq (g2 := F0 m 4 ls []) rfl ?_
  refine lv_aload_n hx hb dX1_init_4 rfl (lv_at hl 0 rfl) ?_
  refine lv_sipush (v := nI 512) hx hb dX1_init_5 (by decide) ?_
  refine va_newa hx hb (atype := .boolean) (hts _ q189) rfl hK hP hD hS hA (N' := 512) (a0 := (512, .inl (fun _ => 0))) (fun _ => rfl) (by decide) (by decide) (by decide) (Nat.le_of_ble_eq_true rfl) (Nat.le_of_ble_eq_true rfl) dX1_init_8 (fun q0 c0 H hK hP hD hS => ?_)
  refine W.widen (k := 1) (n := 512) (by omega) (by omega) ?_
  have hP : va_P D vwCl [(h, .inr (1, [.null, .int 0, .null, .null])), (q0, .inl (c0, 512, .inl (fun _ => 0)))] H := hP
  have hD : va_D A [(h, .inr (1, [.null, .int 0, .null, .null])), (q0, .inl (c0, 512, .inl (fun _ => 0)))] := hD
  refine va_putF (D := D) (ci := 1) (v := .ref q0) (ty := .array .boolean) (C := RX1) (T := TX1) (N := 4) hx hb hts in_X1 tyX1 tyX1_ok nmX1 hown hK hP hD hS 0 rfl rfl 0 (by decide) (hts _ q176) (fun _ h9 => h9) rfl hin rfl (by decide +kernel) rfl rfl (Nat.le_of_ble_eq_true rfl) dX1_init_10 (fun H locs hP hD hS => ?_)
  have hP : va_P D vwCl [(h, .inr (1, [.ref q0, .int 0, .null, .null])), (q0, .inl (c0, 512, .inl (fun _ => 0)))] H := hP
  have hD : va_D A [(h, .inr (1, [.ref q0, .int 0, .null, .null])), (q0, .inl (c0, 512, .inl (fun _ => 0)))] := hD
  refine lv_aload_n hx hb dX1_init_13 rfl (lv_at hl 0 rfl) ?_
  refine lv_bipush (v := nI 12) hx hb dX1_init_14 (by decide) ?_
  refine va_newa hx hb (atype := .int) (hts _ q71) rfl hK hP hD hS hA (N' := 12) (a0 := (12, .inl (fun _ => 0))) (fun _ => rfl) (by decide) (by decide) (by decide) (Nat.le_of_ble_eq_true rfl) (Nat.le_of_ble_eq_true rfl) dX1_init_16 (fun q1 c1 H hK hP hD hS => ?_)
  refine W.widen (k := 2) (n := 524) (by omega) (by omega) ?_
  have hP : va_P D vwCl [(h, .inr (1, [.ref q0, .int 0, .null, .null])), (q0, .inl (c0, 512, .inl (fun _ => 0))), (q1, .inl (c1, 12, .inl (fun _ => 0)))] H := hP
  have hD : va_D A [(h, .inr (1, [.ref q0, .int 0, .null, .null])), (q0, .inl (c0, 512, .inl (fun _ => 0))), (q1, .inl (c1, 12, .inl (fun _ => 0)))] := hD
  refine va_putF (D := D) (ci := 1) (v := .ref q1) (ty := .array .int) (C := RX1) (T := TX1) (N := 4) hx hb hts in_X1 tyX1 tyX1_ok nmX1 hown hK hP hD hS 0 rfl rfl 2 (by decide) (hts _ q178) (fun _ h9 => h9) rfl hin rfl (by decide +kernel) rfl rfl (Nat.le_of_ble_eq_true rfl) dX1_init_18 (fun H locs hP hD hS => ?_)
  have hP : va_P D vwCl [(h, .inr (1, [.ref q0, .int 0, .ref q1, .null])), (q0, .inl (c0, 512, .inl (fun _ => 0))), (q1, .inl (c1, 12, .inl (fun _ => 0)))] H := hP
  have hD : va_D A [(h, .inr (1, [.ref q0, .int 0, .ref q1, .null])), (q0, .inl (c0, 512, .inl (fun _ => 0))), (q1, .inl (c1, 12, .inl (fun _ => 0)))] := hD
  refine lv_aload_n hx hb dX1_init_21 rfl (lv_at hl 0 rfl) ?_
  refine lv_iconst (v := nI 4) hx hb dX1_init_22 (by decide) ?_
  refine va_newa hx hb (atype := .int) (hts _ q71) rfl hK hP hD hS hA (N' := 4) (a0 := (4, .inl (fun _ => 0))) (fun _ => rfl) (by decide) (by decide) (by decide) (Nat.le_of_ble_eq_true rfl) (Nat.le_of_ble_eq_true rfl) dX1_init_23 (fun q2 c2 H hK hP hD hS => ?_)
  refine W.widen (k := 3) (n := 528) (by omega) (by omega) ?_
  have ec : c1 = c2 := Option.some.inj ((hK.2 1 _ rfl).2.symm.trans (hK.2 2 _ rfl).2)
  subst ec
  have hK : va_K D vwCl [(c0, .boolean), (c1, .int)] s := hK.sub [0, 1] rfl
  have hP : va_P D vwCl [(h, .inr (1, [.ref q0, .int 0, .ref q1, .null])), (q0, .inl (c0, 512, .inl (fun _ => 0))), (q1, .inl (c1, 12, .inl (fun _ => 0))), (q2, .inl (c1, 4, .inl (fun _ => 0)))] H := hP
  have hD : va_D A [(h, .inr (1, [.ref q0, .int 0, .ref q1, .null])), (q0, .inl (c0, 512, .inl (fun _ => 0))), (q1, .inl (c1, 12, .inl (fun _ => 0))), (q2, .inl (c1, 4, .inl (fun _ => 0)))] := hD
  refine va_putF (D := D) (ci := 1) (v := .ref q2) (ty := .array .int) (C := RX1) (T := TX1) (N := 4) hx hb hts in_X1 tyX1 tyX1_ok nmX1 hown hK hP hD hS 0 rfl rfl 3 (by decide) (hts _ q179) (fun _ h9 => h9) rfl hin rfl (by decide +kernel) rfl rfl (Nat.le_of_ble_eq_true rfl) dX1_init_25 (fun H locs hP hD hS => ?_)
  have hP : va_P D vwCl [(h, .inr (1, [.ref q0, .int 0, .ref q1, .ref q2])), (q0, .inl (c0, 512, .inl (fun _ => 0))), (q1, .inl (c1, 12, .inl (fun _ => 0))), (q2, .inl (c1, 4, .inl (fun _ => 0)))] H := hP
  have hD : va_D A [(h, .inr (1, [.ref q0, .int 0, .ref q1, .ref q2])), (q0, .inl (c0, 512, .inl (fun _ => 0))), (q1, .inl (c1, 12, .inl (fun _ => 0))), (q2, .inl (c1, 4, .inl (fun _ => 0)))] := hD
  have hK2 : va_K D vwCl [(c1, .int), (c0, .boolean)] s := hK.sub [1, 0] rfl
  exact W.vret hx hb hr (fun t ht hW => ⟨⟨((fun k => match k with | 0 => q0 | 2 => q1 | _ => q2), c1, c0), rfl, trivial, by show va_P D vwCl _ t.heap; rw [ht]; exact hP, va_K.moved hW.alike hK2, hD⟩, hS.F ht⟩) hS.2.2 dX1_init_28
end
section
/-! THE CLAIM OUT OF ONE WALK OF THE LAW'S BODY. Your part is whole_start (and what it stands on); all else here is the same for every law, but numbers. -/
def R_law : String := "TripleJoinLaw"
def lw_P (b : Addr) (xs : List Int32) (args : Array Value) (s : State) : Prop := args = #[.ref b] ∧ s.IntsAt b xs ∧ xs.length ≤ 256 ∧ (Jvm.Cond.and given_1 narrow_1).before args s = true
def lw_Q (_ : Array Value) (s : State) (o : Outcome) (t : State) : Prop := o = .returned (some (.int 1)) ∧ Framed s o t [] 600000 7290000
def lw_Z (below : List Frame) (a : Array Value) (s : State) : State → Prop := fun t => ∃ o, t.status = .running ∧ Ended t below o ∧ lw_Q a s o t
/-- the law's own end, with 1 on the stack, nothing written that was there before, its room as the claim has it -/
theorem lw_ret {p : Program} {l : Launch} {e : Env} {s : State} {m : MethodId} {below : List Frame} {meth : Method} {c : Code} {b : Nat} (hx : p.tables.exec = Jvm.exec) (hb : c.code = code) (hr : meth.sig.returnType = ret) (hlocks : meth.locks = false) {pc : Nat} {H : Heap} {ls : Array Slot} (hdg : decode code pc = .ok (.ireturn, 1)) : W p l e room_1 s m #[Value.ref b] below meth c H [] 600000 7290000 (lw_Z below #[Value.ref b] s) (F0 m pc ls [.int 1]) := by
  intro T hT X
  obtain ⟨fs, hret, hrun, hended, hW, hframe⟩ := X.leave (v := some (.int 1)) (hlocks := hlocks) (fun h => by rw [hr] at h; cases h)
  have hmeth' : T.vm.method? m = some meth := X.method'
  refine ⟨T.setFrames fs, ?_, .returned (some (.int 1)), hrun, hended, rfl, ⟨_, rfl⟩, hW, hframe⟩
  jvm_step X.here [X.here.top, hx, hb, hdg, hmeth', hr, ret, narrow_b1]
  (try refine ⟨rfl, ?_⟩); (try refine ⟨rfl, ?_⟩)
  first | (intro acts; rw [hret _ acts rfl rfl rfl]) | rw [hret _ _ rfl rfl rfl]
  exact Steps.refl _
/-- what holds at the law's entry: the machine, the code, the tables' words (any of lw_tbl by 'hts w (by decide +kernel)'), the script of L ints xs at the cell b, what the Statement gives of the start (any of its parts by flat_of_before) -/
def lw_At (p : Program) (s : State) (m : MethodId) (meth : Method) (c : Code) (b L : Nat) (xs : Nat → Int32) : Prop :=
  p.tables.exec = Jvm.exec ∧ c.code = code ∧ meth.sig.returnType = ret ∧ c.maxLocals = 4 ∧ s.vm.findClass R_law = some m.cls ∧ (∀ w ∈ lw_tbl, w.before #[Value.ref b] s = true) ∧ va_X b L xs s s.heap ∧ b < s.heap.size ∧ meth.locks = false ∧ (Jvm.Cond.and given_1 narrow_1).before #[Value.ref b] s = true
theorem keepW {D : va_G} {w : va_W} {O1 O2 : Nat → Prop} {H H1 : Heap} (hP : va_P D vwCl w H) (hD : va_D O1 w) (hdis : ∀ q, O1 q → ¬ O2 q) (hk : ∀ q : Nat, q < H.size → ¬ O2 q → H1[q]? = H[q]?) : va_P D vwCl w H1 :=
  hP.kept (fun k q hq => hk q.1 (hP k q hq).lt (hdis _ (hD.2 k q hq)))
theorem tn_sld {p : Program} {l : Launch} {e : Env} {R : Room} {s : State} {m : MethodId} {args : Array Value} {below : List Frame} {meth : Method} {c : Code} {H : Heap} {locs : List Loc} {cells slots : Nat} {Q : State → Prop} {cc : ByteArray} {pc : Nat} {ls : Array Slot} {rest : List Value} {A : Nat → Prop} {H0 : Heap} (hexec : p.tables.exec = Jvm.exec) (hb : c.code = cc) {b L : Nat} {xs : Nat → Int32} (hX : va_X b L xs s H0) (hbl : b < H0.size) (hbA : ¬ A b) (hS : va_S A H0 H locs) {j : Nat} (hj : j < L) (hL : L < 2 ^ 31) (hdg : decode cc pc = .ok (.iaload, 1))
    (kk : W p l e R s m args below meth c H locs cells slots Q (F0 m (pc + 1) ls (.int (xs j) :: rest))) : W p l e R s m args below meth c H locs cells slots Q (F0 m pc ls (.int (nI j) :: .ref b :: rest)) :=
  va_sld hexec hb hX hbl hbA hS (vp_in_nI hj hL) hdg (by rw [nI_clamp (Nat.lt_trans hj hL)]; exact kk)
theorem tlaw_in {L t : Nat} (hL : L ≤ 256) (h : t < L / 4) : ¬ (nI L - nI 4 < nI (4 * t)) := by
  rw [t_lt, pk_sub_toInt (by omega) (by decide), nI_toInt (by omega)]
  omega
theorem tlaw_out {L : Nat} (hL : L ≤ 256) : nI L - nI 4 < nI (4 * (L / 4)) := by
  rw [t_lt, pk_sub_toInt (by omega) (by decide), nI_toInt (by omega)]
  omega
theorem tadd_48 {F : Nat → Bool} {s p o : Int32} (h : tC3 F (-1) (-1) (-1) ≤ 48) : tC3 (taF F s p o) (-1) (-1) (-1) ≤ 48 := by
  unfold taF
  cases hz : tao F s p o with
  | false => rw [if_neg (by decide)]; exact h
  | true =>
    rw [if_pos rfl]
    unfold tao at hz
    simp only [Bool.and_eq_true] at hz
    obtain ⟨⟨⟨⟨h1, h2⟩, h3⟩, h4⟩, h5⟩ := hz
    obtain ⟨S, hS, rfl⟩ := tpa_t h1
    obtain ⟨P, hP, rfl⟩ := tpa_t h2
    obtain ⟨O, hO, rfl⟩ := tpa_t h3
    rw [tix_nI hS hP hO] at h4 ⊢
    rw [tC3_plus (by omega) (tnot h4)]
    have := of_decide_eq_true h5
    omega
theorem trem_48 {F : Nat → Bool} {s p o : Int32} (h : tC3 F (-1) (-1) (-1) ≤ 48) : tC3 (trF F s p o) (-1) (-1) (-1) ≤ 48 := by
  unfold trF
  cases hz : thas F s p o with
  | false => rw [if_neg (by decide)]; exact h
  | true =>
    rw [if_pos rfl]
    obtain ⟨S, P, O, hS, hP, hO, rfl, rfl, rfl, hF⟩ := thas_t hz
    rw [tix_nI hS hP hO, tC3_all]
    rw [tC3_all] at h
    have h2 := tcn_set (f := F) (g := tset F (64 * S + 8 * P + O) false) (k0 := 64 * S + 8 * P + O) 512 (by omega) (fun i _ hn => (tset_n hn).symm)
    rw [hF, tset_s, show tb false = 0 from rfl, show tb true = 1 from rfl] at h2
    omega
theorem tpat_ok {N N2 : Nat} {pl pl2 : Nat → Int32} {s p o : Int32} (hN : N ≤ 4) (hpl : ∀ j, j < 3 * N → tok (pl j)) (h : (N2, pl2) = tpu N pl s p o) : N2 ≤ 4 ∧ ∀ j, j < 3 * N2 → tok (pl2 j) := by
  unfold tpu at h
  cases hz : tpo N s p o with
  | false => rw [hz, if_neg (by decide)] at h; cases h; exact ⟨hN, hpl⟩
  | true =>
    rw [hz, if_pos rfl] at h
    cases h
    unfold tpo at hz
    simp only [Bool.and_eq_true] at hz
    obtain ⟨⟨⟨h1, h2⟩, h3⟩, h4⟩ := hz
    have h4 := of_decide_eq_true h4
    refine ⟨by omega, fun j hj => ?_⟩
    by_cases e2 : j = 3 * N + 2
    · rw [e2, pk_us]; exact trg_tok h3
    · rw [pk_un e2]
      by_cases e1 : j = 3 * N + 1
      · rw [e1, pk_us]; exact trg_tok h2
      · rw [pk_un e1]
        by_cases e0 : j = 3 * N
        · rw [e0, pk_us]; exact trg_tok h1
        · rw [pk_un e0]; exact hpl j (by omega)
theorem tcn_none : ∀ k, tcn (fun _ => false) k = 0
  | 0 => rfl
  | k + 1 => by
    show tcn (fun _ => false) k + tb false = 0
    rw [tcn_none k]; rfl
theorem tC3_none (s p o : Int32) : tC3 (fun _ => false) s p o = 0 := by
  unfold tC3
  rw [tcn_congr (g := fun _ => false) 512 (fun i _ => by simp), tcn_none]
theorem tmk_none : tmk (fun _ => false) 8 = 0 := by decide
theorem tstart : tTI (fun _ => false) 0 (fun _ => 0) (fun _ => 0) (fun _ => 0) (fun _ => 0) (fun _ => 0) ∧ (∀ i, i < 512 → (fun _ => 0 : Nat → Int32) i = nI (tb ((fun _ => false) i))) ∧ 0 ≤ 4 ∧ (∀ j, j < 3 * 0 → tok ((fun _ => 0 : Nat → Int32) j)) ∧ tC3 (fun _ => false) (-1) (-1) (-1) ≤ 48 := by
  refine ⟨⟨?_, fun u v _ _ => ⟨?_, ?_, ?_⟩, fun u v _ _ => ⟨?_, ?_, ?_, ?_, ?_, ?_⟩, fun u _ => ⟨?_, ?_, ?_⟩⟩, fun i _ => rfl, Nat.zero_le _, fun j hj => absurd hj (by omega), by rw [tC3_none]; decide⟩
  · rw [tC3_none]; rfl
  · rw [tmk_none]; rfl
  · rw [tmk_none]; rfl
  · rw [tmk_none]; rfl
  all_goals (rw [tC3_none]; rfl)
theorem tdisj {B : Nat → Prop} {hj hm : Nat} {aj am : Nat → Nat} {d d2 z : ClassId} {he : Int32} {ob pr su go si : Nat → Int32} {n n2 : Int32} {pl pl2 : Nat → Int32} {nv : Int32} {vr bo ca vc : Nat → Int32} {sc : Int32} {fa tr : Nat → Int32} (hD : va_D B (wJ hj aj d he ob pr su go si n pl nv vr bo ca vc sc ++ wM hm am d2 z fa n2 pl2 tr)) : ∀ q, oJ hj aj q → ¬ oM hm am q := by
  have key : ∀ i j : Nat, i < 11 → 11 ≤ j → ∀ x y : Nat × va_E, (wJ hj aj d he ob pr su go si n pl nv vr bo ca vc sc ++ wM hm am d2 z fa n2 pl2 tr)[i]? = some x → (wJ hj aj d he ob pr su go si n pl nv vr bo ca vc sc ++ wM hm am d2 z fa n2 pl2 tr)[j]? = some y → x.1 ≠ y.1 := fun i j h1 h2 x y hx hy e => by have := hD.1 i j x y hx hy e; omega
  have hq : ∀ q, oJ hj aj q → ∃ (i : Nat) (x : Nat × va_E), i < 11 ∧ (wJ hj aj d he ob pr su go si n pl nv vr bo ca vc sc ++ wM hm am d2 z fa n2 pl2 tr)[i]? = some x ∧ x.1 = q := by
    intro q hq
    rcases hq with rfl | rfl | rfl | rfl | rfl | rfl | rfl | rfl | rfl | rfl | rfl
    · exact ⟨0, _, by decide, rfl, rfl⟩
    · exact ⟨1, _, by decide, rfl, rfl⟩
    · exact ⟨2, _, by decide, rfl, rfl⟩
    · exact ⟨3, _, by decide, rfl, rfl⟩
    · exact ⟨4, _, by decide, rfl, rfl⟩
    · exact ⟨5, _, by decide, rfl, rfl⟩
    · exact ⟨6, _, by decide, rfl, rfl⟩
    · exact ⟨7, _, by decide, rfl, rfl⟩
    · exact ⟨8, _, by decide, rfl, rfl⟩
    · exact ⟨9, _, by decide, rfl, rfl⟩
    · exact ⟨10, _, by decide, rfl, rfl⟩
  intro q h1 h2
  obtain ⟨i, x, hi, hx, ex⟩ := hq q h1
  rcases h2 with rfl | rfl | rfl | rfl
  · exact key i 11 hi (by decide) x _ hx rfl ex
  · exact key i 12 hi (by decide) x _ hx rfl ex
  · exact key i 13 hi (by decide) x _ hx rfl ex
  · exact key i 14 hi (by decide) x _ hx rfl ex
set_option maxHeartbeats 4000000 in
set_option maxRecDepth 100000 in
/-- the law's loop at its head -/
theorem law_loop {p : Program} {e : Env} {s : State} {m : MethodId} {below : List Frame} {meth : Method} {c : Code} {l : Launch} {b L : Nat} {xs : Nat → Int32} {D : va_G} {d z : ClassId} {hj hm : Nat} {aj am : Nat → Nat} {H : Heap} {locs : List Loc} {ls : Array Slot} {F : Nat → Bool} {N : Nat} {pl : Nat → Int32} {he : Int32} {ob : Nat → Int32} {pr : Nat → Int32} {su : Nat → Int32} {go : Nat → Int32} {si : Nat → Int32} {nv : Int32} {vr : Nat → Int32} {bo : Nat → Int32} {ca : Nat → Int32} {vc : Nat → Int32} {sc : Int32} {fa : Nat → Int32} {tr : Nat → Int32} (hL : L ≤ 256) (C0 : lw_At p s m meth c b L xs) (hK : va_K D vwCl [(d, .int), (z, .boolean)] s) (hDJ : va_D (fun q : Nat => s.heap.size ≤ q) (wJ hj aj d he ob pr su go si (nI N) pl nv vr bo ca vc sc)) (hDM : va_D (fun q : Nat => s.heap.size ≤ q) (wM hm am d z fa (nI N) pl tr)) (hdis : ∀ q, oJ hj aj q → ¬ oM hm am q) (hPJ : va_P D vwCl (wJ hj aj d he ob pr su go si (nI N) pl nv vr bo ca vc sc) H) (hPM : va_P D vwCl (wM hm am d z fa (nI N) pl tr) H) (hS : va_S (fun q : Nat => s.heap.size ≤ q) s.heap H locs) (hst : tTI F he ob pr su go si ∧ (∀ i, i < 512 → fa i = nI (tb (F i))) ∧ N ≤ 4 ∧ (∀ j, j < 3 * N → tok (pl j)) ∧ tC3 F (-1) (-1) (-1) ≤ 48) (hl : lv_has ls 4 [(3, .int (nI 0)), (0, .ref b), (1, .ref hj), (2, .ref hm)]) : W p l e room_1 s m #[Value.ref b] below meth c H locs 600000 7290000 (lw_Z below #[Value.ref b] s) (F0 m 18 ls []) := by
  obtain ⟨hx, hb, hr, hml, hown, hts0, hX, hbl, hlocks, hgv⟩ := id C0
  have hts : ∀ w ∈ lw_all, w.before #[Value.ref b] s = true := fun w h => hts0 w (lw_all_tbl h)
  have hbA : ¬ (fun q : Nat => s.heap.size ≤ q) b := Nat.not_le.mpr hbl
  have hAJ := oJ_in hDJ
  have hAM := oM_in hDM
  refine tn_forH (fun t H locs ls => ∃ (F : Nat → Bool) (N : Nat) (pl : Nat → Int32) (he : Int32) (ob : Nat → Int32) (pr : Nat → Int32) (su : Nat → Int32) (go : Nat → Int32) (si : Nat → Int32) (nv : Int32) (vr : Nat → Int32) (bo : Nat → Int32) (ca : Nat → Int32) (vc : Nat → Int32) (sc : Int32) (fa : Nat → Int32) (tr : Nat → Int32), lv_has ls 4 [(3, .int (nI (4 * t))), (0, .ref b), (1, .ref hj), (2, .ref hm)] ∧ va_P D vwCl (wJ hj aj d he ob pr su go si (nI N) pl nv vr bo ca vc sc) H ∧ va_P D vwCl (wM hm am d z fa (nI N) pl tr) H ∧ va_S (fun q : Nat => s.heap.size ≤ q) s.heap H locs ∧ tTI F he ob pr su go si ∧ (∀ i, i < 512 → fa i = nI (tb (F i))) ∧ N ≤ 4 ∧ (∀ j, j < 3 * N → tok (pl j)) ∧ tC3 F (-1) (-1) (-1) ≤ 48) (L / 4) 0 (by omega) ⟨F, N, pl, he, ob, pr, su, go, si, nv, vr, bo, ca, vc, sc, fa, tr, hl, hPJ, hPM, hS, hst⟩ (fun t H locs ls ht4 hJ ih => ?_) (fun H locs ls hJ => ?_)
  · obtain ⟨F, N, pl, he, ob, pr, su, go, si, nv, vr, bo, ca, vc, sc, fa, tr, hl, hPJ, hPM, hS, hI, hF, hN, hpl, h48⟩ := hJ
    have hDJ : va_D (fun q : Nat => s.heap.size ≤ q) (wJ hj aj d he ob pr su go si (nI N) pl nv vr bo ca vc sc) := va_D_re hDJ rfl
    have hDM : va_D (fun q : Nat => s.heap.size ≤ q) (wM hm am d z fa (nI N) pl tr) := va_D_re hDM rfl
    refine lv_iload_n hx hb dL_law_18 rfl (lv_at hl 0 rfl) ?_
    refine lv_aload_n hx hb dL_law_19 rfl (lv_at hl 1 rfl) ?_
    refine va_slen hx hb hX hbl hbA hS dL_law_20 ?_
    refine tn_as (nI L) rfl ?_
    refine lv_iconst (v := nI 4) hx hb dL_law_21 (by decide) ?_
    refine lv_isub hx hb dL_law_22 ?_
    refine lv_icmp_gt (tgt := 422) hx hb dL_law_23 (by decide) (fun z_ => absurd z_ (tlaw_in hL ht4)) (fun _ => ?_)
    refine lv_aload_n hx hb dL_law_26 rfl (lv_at hl 1 rfl) ?_
    refine lv_iload_n hx hb dL_law_27 rfl (lv_at hl 0 rfl) ?_
    refine tn_sld hx hb hX hbl hbA hS (j := 4 * t) (by omega) (by omega) dL_law_28 ?_
    refine lv_bipush (v := nI 15) hx hb dL_law_29 (by decide) ?_
    refine lv_iand hx hb dL_law_31 ?_
    obtain ⟨j, hj16, ej⟩ := pk_andE (xs (4 * t)) (m := nI 15) 4 (by decide)
    refine tn_as (nI j) ej ?_
    rcases (show j = 0 ∨ j = 1 ∨ j = 2 ∨ j = 3 ∨ j = 4 ∨ j = 5 ∨ j = 6 ∨ j = 7 ∨ j = 8 ∨ j = 9 ∨ 10 ≤ j by omega) with rfl | rfl | rfl | rfl | rfl | rfl | rfl | rfl | rfl | rfl | hj10
    · refine lv_tableIn (tgt := 88) (off := 56) hx hb dL_law_32 (by decide) (by decide) (by decide) (by decide) ?_
      refine lv_aload_n hx hb dL_law_88 rfl (lv_at hl 2 rfl) ?_
      refine lv_aload_n hx hb dL_law_89 rfl (lv_at hl 1 rfl) ?_
      refine lv_iload_n hx hb dL_law_90 rfl (lv_at hl 0 rfl) ?_
      refine lv_iconst (v := nI 1) hx hb dL_law_91 (by decide) ?_
      refine tn_iadd hx hb dL_law_92 ?_
      refine tn_sld hx hb hX hbl hbA hS (j := 4 * t + 1) (by omega) (by omega) dL_law_93 ?_
      refine lv_aload_n hx hb dL_law_94 rfl (lv_at hl 1 rfl) ?_
      refine lv_iload_n hx hb dL_law_95 rfl (lv_at hl 0 rfl) ?_
      refine lv_iconst (v := nI 2) hx hb dL_law_96 (by decide) ?_
      refine tn_iadd hx hb dL_law_97 ?_
      refine tn_sld hx hb hX hbl hbA hS (j := 4 * t + 2) (by omega) (by omega) dL_law_98 ?_
      refine lv_aload_n hx hb dL_law_99 rfl (lv_at hl 1 rfl) ?_
      refine lv_iload_n hx hb dL_law_100 rfl (lv_at hl 0 rfl) ?_
      refine lv_iconst (v := nI 3) hx hb dL_law_101 (by decide) ?_
      refine tn_iadd hx hb dL_law_102 ?_
      refine tn_sld hx hb hX hbl hbA hS (j := 4 * t + 3) (by omega) (by omega) dL_law_103 ?_
      have hP9 := hPM
      refine va_calli (va_runV (As := [.int (xs (4 * t + 1)), .int (xs (4 * t + 2)), .int (xs (4 * t + 3))]) (rest := []) ⟨hx, hb, hml, hown, hts⟩ (m_add hI _ _ _) (cwV 3 hts (lw_V q72 q73 q74 q18 q75) rfl rfl rfl (by decide +kernel) ⟨Nat.le_of_ble_eq_true rfl, Nat.le_of_ble_eq_true rfl⟩) (pJ_preJ hK hPJ hDJ rfl) rfl rfl hl.1 rfl (lv_room (Nat.le_of_ble_eq_true rfl)) dL_law_104 ⟨Nat.le_refl _, Nat.le_refl _⟩) hS (fun q _ h9 => hAJ q h9) hAJ (fun rJ u t_ H1 locs ht_ hvm_ eJ hB _ hk_ hS => ?_)
      obtain ⟨he2, ob2, pr2, su2, go2, si2⟩ := u
      rw [ht_] at hB
      have hPJ : va_P D vwCl (wJ hj aj d he2 ob2 pr2 su2 go2 si2 (nI N) pl nv vr bo ca vc sc) H1 := hB
      have hPM := keepW hPM (oM_D hDM) (fun q h1 h2 => hdis q h2 h1) hk_
      have hDJ : va_D (fun q : Nat => s.heap.size ≤ q) (wJ hj aj d he2 ob2 pr2 su2 go2 si2 (nI N) pl nv vr bo ca vc sc) := va_D_re hDJ rfl
      clear hP9
      clear hk_
      generalize H1 = H at hPJ hPM hS ⊢
      refine lv_aload_n hx hb dL_law_107 rfl (lv_at hl 3 rfl) ?_
      refine lv_aload_n hx hb dL_law_108 rfl (lv_at hl 1 rfl) ?_
      refine lv_iload_n hx hb dL_law_109 rfl (lv_at hl 0 rfl) ?_
      refine lv_iconst (v := nI 1) hx hb dL_law_110 (by decide) ?_
      refine tn_iadd hx hb dL_law_111 ?_
      refine tn_sld hx hb hX hbl hbA hS (j := 4 * t + 1) (by omega) (by omega) dL_law_112 ?_
      refine lv_aload_n hx hb dL_law_113 rfl (lv_at hl 1 rfl) ?_
      refine lv_iload_n hx hb dL_law_114 rfl (lv_at hl 0 rfl) ?_
      refine lv_iconst (v := nI 2) hx hb dL_law_115 (by decide) ?_
      refine tn_iadd hx hb dL_law_116 ?_
      refine tn_sld hx hb hX hbl hbA hS (j := 4 * t + 2) (by omega) (by omega) dL_law_117 ?_
      refine lv_aload_n hx hb dL_law_118 rfl (lv_at hl 1 rfl) ?_
      refine lv_iload_n hx hb dL_law_119 rfl (lv_at hl 0 rfl) ?_
      refine lv_iconst (v := nI 3) hx hb dL_law_120 (by decide) ?_
      refine tn_iadd hx hb dL_law_121 ?_
      refine tn_sld hx hb hX hbl hbA hS (j := 4 * t + 3) (by omega) (by omega) dL_law_122 ?_
      have hP9 := hPJ
      refine va_calli (va_runV (As := [.int (xs (4 * t + 1)), .int (xs (4 * t + 2)), .int (xs (4 * t + 3))]) (rest := [.int rJ]) ⟨hx, hb, hml, hown, hts⟩ (mm_add hF h48 _ _ _) (cwV 3 hts (lw_V q190 q191 q192 q19 q193) rfl rfl rfl (by decide +kernel) ⟨Nat.le_of_ble_eq_true rfl, Nat.le_of_ble_eq_true rfl⟩) (pJ_preM hK hPM hDM rfl) rfl rfl hl.1 rfl (lv_room (Nat.le_of_ble_eq_true rfl)) dL_law_123 ⟨Nat.le_refl _, Nat.le_refl _⟩) hS (fun q _ h9 => hAM q h9) hAM (fun rM u t_ H1 locs ht_ hvm_ eM hB _ hk_ hS => ?_)
      rw [ht_] at hB
      have hPM : va_P D vwCl (wM hm am d z u (nI N) pl tr) H1 := hB
      have hPJ := keepW hPJ (oJ_D hDJ) hdis hk_
      have hDM : va_D (fun q : Nat => s.heap.size ≤ q) (wM hm am d z u (nI N) pl tr) := va_D_re hDM rfl
      clear hP9
      clear hk_
      generalize H1 = H at hPJ hPM hS ⊢
      refine lv_icmp_eq (tgt := 416) hx hb dL_law_126 (by decide) (fun _ => ?_) (fun z_ => absurd (eJ.1.trans eM.1.symm) z_)
      refine lv_iinc (v := nI (4 * (t + 1))) (lv' := [(3, .int (nI (4 * (t + 1)))), (0, .ref b), (1, .ref hj), (2, .ref hm)]) hx hb dL_law_416 hl (k := 0) rfl (nI_add _ _) (by decide) rfl (fun ls hl => ?_)
      refine lv_goto (tgt := 18) hx hb dL_law_419 (by decide) ?_
      exact ih _ _ _ ⟨taF F (xs (4 * t + 1)) (xs (4 * t + 2)) (xs (4 * t + 3)), N, pl, he2, ob2, pr2, su2, go2, si2, nv, vr, bo, ca, vc, sc, u, tr, hl, hPJ, hPM, hS, eJ.2, eM.2, hN, hpl, tadd_48 h48⟩
    · refine lv_tableIn (tgt := 131) (off := 99) hx hb dL_law_32 (by decide) (by decide) (by decide) (by decide) ?_
      refine lv_aload_n hx hb dL_law_131 rfl (lv_at hl 2 rfl) ?_
      refine lv_aload_n hx hb dL_law_132 rfl (lv_at hl 1 rfl) ?_
      refine lv_iload_n hx hb dL_law_133 rfl (lv_at hl 0 rfl) ?_
      refine lv_iconst (v := nI 1) hx hb dL_law_134 (by decide) ?_
      refine tn_iadd hx hb dL_law_135 ?_
      refine tn_sld hx hb hX hbl hbA hS (j := 4 * t + 1) (by omega) (by omega) dL_law_136 ?_
      refine lv_aload_n hx hb dL_law_137 rfl (lv_at hl 1 rfl) ?_
      refine lv_iload_n hx hb dL_law_138 rfl (lv_at hl 0 rfl) ?_
      refine lv_iconst (v := nI 2) hx hb dL_law_139 (by decide) ?_
      refine tn_iadd hx hb dL_law_140 ?_
      refine tn_sld hx hb hX hbl hbA hS (j := 4 * t + 2) (by omega) (by omega) dL_law_141 ?_
      refine lv_aload_n hx hb dL_law_142 rfl (lv_at hl 1 rfl) ?_
      refine lv_iload_n hx hb dL_law_143 rfl (lv_at hl 0 rfl) ?_
      refine lv_iconst (v := nI 3) hx hb dL_law_144 (by decide) ?_
      refine tn_iadd hx hb dL_law_145 ?_
      refine tn_sld hx hb hX hbl hbA hS (j := 4 * t + 3) (by omega) (by omega) dL_law_146 ?_
      have hP9 := hPM
      refine va_calli (va_runV (As := [.int (xs (4 * t + 1)), .int (xs (4 * t + 2)), .int (xs (4 * t + 3))]) (rest := []) ⟨hx, hb, hml, hown, hts⟩ (m_remove hI _ _ _) (cwV 3 hts (lw_V q83 q84 q85 q18 q86) rfl rfl rfl (by decide +kernel) ⟨Nat.le_of_ble_eq_true rfl, Nat.le_of_ble_eq_true rfl⟩) (pJ_preJ hK hPJ hDJ rfl) rfl rfl hl.1 rfl (lv_room (Nat.le_of_ble_eq_true rfl)) dL_law_147 ⟨Nat.le_refl _, Nat.le_refl _⟩) hS (fun q _ h9 => hAJ q h9) hAJ (fun rJ u t_ H1 locs ht_ hvm_ eJ hB _ hk_ hS => ?_)
      obtain ⟨he2, ob2, pr2, su2, go2, si2⟩ := u
      rw [ht_] at hB
      have hPJ : va_P D vwCl (wJ hj aj d he2 ob2 pr2 su2 go2 si2 (nI N) pl nv vr bo ca vc sc) H1 := hB
      have hPM := keepW hPM (oM_D hDM) (fun q h1 h2 => hdis q h2 h1) hk_
      have hDJ : va_D (fun q : Nat => s.heap.size ≤ q) (wJ hj aj d he2 ob2 pr2 su2 go2 si2 (nI N) pl nv vr bo ca vc sc) := va_D_re hDJ rfl
      clear hP9
      clear hk_
      generalize H1 = H at hPJ hPM hS ⊢
      refine lv_aload_n hx hb dL_law_150 rfl (lv_at hl 3 rfl) ?_
      refine lv_aload_n hx hb dL_law_151 rfl (lv_at hl 1 rfl) ?_
      refine lv_iload_n hx hb dL_law_152 rfl (lv_at hl 0 rfl) ?_
      refine lv_iconst (v := nI 1) hx hb dL_law_153 (by decide) ?_
      refine tn_iadd hx hb dL_law_154 ?_
      refine tn_sld hx hb hX hbl hbA hS (j := 4 * t + 1) (by omega) (by omega) dL_law_155 ?_
      refine lv_aload_n hx hb dL_law_156 rfl (lv_at hl 1 rfl) ?_
      refine lv_iload_n hx hb dL_law_157 rfl (lv_at hl 0 rfl) ?_
      refine lv_iconst (v := nI 2) hx hb dL_law_158 (by decide) ?_
      refine tn_iadd hx hb dL_law_159 ?_
      refine tn_sld hx hb hX hbl hbA hS (j := 4 * t + 2) (by omega) (by omega) dL_law_160 ?_
      refine lv_aload_n hx hb dL_law_161 rfl (lv_at hl 1 rfl) ?_
      refine lv_iload_n hx hb dL_law_162 rfl (lv_at hl 0 rfl) ?_
      refine lv_iconst (v := nI 3) hx hb dL_law_163 (by decide) ?_
      refine tn_iadd hx hb dL_law_164 ?_
      refine tn_sld hx hb hX hbl hbA hS (j := 4 * t + 3) (by omega) (by omega) dL_law_165 ?_
      have hP9 := hPJ
      refine va_calli (va_runV (As := [.int (xs (4 * t + 1)), .int (xs (4 * t + 2)), .int (xs (4 * t + 3))]) (rest := [.int rJ]) ⟨hx, hb, hml, hown, hts⟩ (mm_remove hF _ _ _) (cwV 3 hts (lw_V q205 q206 q207 q19 q208) rfl rfl rfl (by decide +kernel) ⟨Nat.le_of_ble_eq_true rfl, Nat.le_of_ble_eq_true rfl⟩) (pJ_preM hK hPM hDM rfl) rfl rfl hl.1 rfl (lv_room (Nat.le_of_ble_eq_true rfl)) dL_law_166 ⟨Nat.le_refl _, Nat.le_refl _⟩) hS (fun q _ h9 => hAM q h9) hAM (fun rM u t_ H1 locs ht_ hvm_ eM hB _ hk_ hS => ?_)
      rw [ht_] at hB
      have hPM : va_P D vwCl (wM hm am d z u (nI N) pl tr) H1 := hB
      have hPJ := keepW hPJ (oJ_D hDJ) hdis hk_
      have hDM : va_D (fun q : Nat => s.heap.size ≤ q) (wM hm am d z u (nI N) pl tr) := va_D_re hDM rfl
      clear hP9
      clear hk_
      generalize H1 = H at hPJ hPM hS ⊢
      refine lv_icmp_eq (tgt := 416) hx hb dL_law_169 (by decide) (fun _ => ?_) (fun z_ => absurd (eJ.1.trans eM.1.symm) z_)
      refine lv_iinc (v := nI (4 * (t + 1))) (lv' := [(3, .int (nI (4 * (t + 1)))), (0, .ref b), (1, .ref hj), (2, .ref hm)]) hx hb dL_law_416 hl (k := 0) rfl (nI_add _ _) (by decide) rfl (fun ls hl => ?_)
      refine lv_goto (tgt := 18) hx hb dL_law_419 (by decide) ?_
      exact ih _ _ _ ⟨trF F (xs (4 * t + 1)) (xs (4 * t + 2)) (xs (4 * t + 3)), N, pl, he2, ob2, pr2, su2, go2, si2, nv, vr, bo, ca, vc, sc, u, tr, hl, hPJ, hPM, hS, eJ.2, eM.2, hN, hpl, trem_48 h48⟩
    · refine lv_tableIn (tgt := 174) (off := 142) hx hb dL_law_32 (by decide) (by decide) (by decide) (by decide) ?_
      refine lv_aload_n hx hb dL_law_174 rfl (lv_at hl 2 rfl) ?_
      refine lv_aload_n hx hb dL_law_175 rfl (lv_at hl 1 rfl) ?_
      refine lv_iload_n hx hb dL_law_176 rfl (lv_at hl 0 rfl) ?_
      refine lv_iconst (v := nI 1) hx hb dL_law_177 (by decide) ?_
      refine tn_iadd hx hb dL_law_178 ?_
      refine tn_sld hx hb hX hbl hbA hS (j := 4 * t + 1) (by omega) (by omega) dL_law_179 ?_
      refine lv_aload_n hx hb dL_law_180 rfl (lv_at hl 1 rfl) ?_
      refine lv_iload_n hx hb dL_law_181 rfl (lv_at hl 0 rfl) ?_
      refine lv_iconst (v := nI 2) hx hb dL_law_182 (by decide) ?_
      refine tn_iadd hx hb dL_law_183 ?_
      refine tn_sld hx hb hX hbl hbA hS (j := 4 * t + 2) (by omega) (by omega) dL_law_184 ?_
      refine lv_aload_n hx hb dL_law_185 rfl (lv_at hl 1 rfl) ?_
      refine lv_iload_n hx hb dL_law_186 rfl (lv_at hl 0 rfl) ?_
      refine lv_iconst (v := nI 3) hx hb dL_law_187 (by decide) ?_
      refine tn_iadd hx hb dL_law_188 ?_
      refine tn_sld hx hb hX hbl hbA hS (j := 4 * t + 3) (by omega) (by omega) dL_law_189 ?_
      have hP9 := hPM
      refine va_calli (va_runV (As := [.int (xs (4 * t + 1)), .int (xs (4 * t + 2)), .int (xs (4 * t + 3))]) (rest := []) ⟨hx, hb, hml, hown, hts⟩ (m_pattern hN _ _ _) (cwV 3 hts (lw_V q87 q88 q89 q18 q90) rfl rfl rfl (by decide +kernel) ⟨Nat.le_of_ble_eq_true rfl, Nat.le_of_ble_eq_true rfl⟩) (pJ_preJ hK hPJ hDJ rfl) rfl rfl hl.1 rfl (lv_room (Nat.le_of_ble_eq_true rfl)) dL_law_190 ⟨Nat.le_refl _, Nat.le_refl _⟩) hS (fun q _ h9 => hAJ q h9) hAJ (fun rJ u t_ H1 locs ht_ hvm_ eJ hB _ hk_ hS => ?_)
      obtain ⟨N2, pl2⟩ := u
      rw [ht_] at hB
      have hPJ : va_P D vwCl (wJ hj aj d he ob pr su go si (nI N2) pl2 nv vr bo ca vc sc) H1 := hB
      have hPM := keepW hPM (oM_D hDM) (fun q h1 h2 => hdis q h2 h1) hk_
      have hDJ : va_D (fun q : Nat => s.heap.size ≤ q) (wJ hj aj d he ob pr su go si (nI N2) pl2 nv vr bo ca vc sc) := va_D_re hDJ rfl
      clear hP9
      clear hk_
      generalize H1 = H at hPJ hPM hS ⊢
      refine lv_aload_n hx hb dL_law_193 rfl (lv_at hl 3 rfl) ?_
      refine lv_aload_n hx hb dL_law_194 rfl (lv_at hl 1 rfl) ?_
      refine lv_iload_n hx hb dL_law_195 rfl (lv_at hl 0 rfl) ?_
      refine lv_iconst (v := nI 1) hx hb dL_law_196 (by decide) ?_
      refine tn_iadd hx hb dL_law_197 ?_
      refine tn_sld hx hb hX hbl hbA hS (j := 4 * t + 1) (by omega) (by omega) dL_law_198 ?_
      refine lv_aload_n hx hb dL_law_199 rfl (lv_at hl 1 rfl) ?_
      refine lv_iload_n hx hb dL_law_200 rfl (lv_at hl 0 rfl) ?_
      refine lv_iconst (v := nI 2) hx hb dL_law_201 (by decide) ?_
      refine tn_iadd hx hb dL_law_202 ?_
      refine tn_sld hx hb hX hbl hbA hS (j := 4 * t + 2) (by omega) (by omega) dL_law_203 ?_
      refine lv_aload_n hx hb dL_law_204 rfl (lv_at hl 1 rfl) ?_
      refine lv_iload_n hx hb dL_law_205 rfl (lv_at hl 0 rfl) ?_
      refine lv_iconst (v := nI 3) hx hb dL_law_206 (by decide) ?_
      refine tn_iadd hx hb dL_law_207 ?_
      refine tn_sld hx hb hX hbl hbA hS (j := 4 * t + 3) (by omega) (by omega) dL_law_208 ?_
      have hP9 := hPJ
      refine va_calli (va_runV (As := [.int (xs (4 * t + 1)), .int (xs (4 * t + 2)), .int (xs (4 * t + 3))]) (rest := [.int rJ]) ⟨hx, hb, hml, hown, hts⟩ (mm_pattern hN _ _ _) (cwV 3 hts (lw_V q209 q210 q211 q19 q212) rfl rfl rfl (by decide +kernel) ⟨Nat.le_of_ble_eq_true rfl, Nat.le_of_ble_eq_true rfl⟩) (pJ_preM hK hPM hDM rfl) rfl rfl hl.1 rfl (lv_room (Nat.le_of_ble_eq_true rfl)) dL_law_209 ⟨Nat.le_refl _, Nat.le_refl _⟩) hS (fun q _ h9 => hAM q h9) hAM (fun rM u t_ H1 locs ht_ hvm_ eM hB _ hk_ hS => ?_)
      obtain ⟨N3, pl3⟩ := u
      rw [ht_] at hB
      have hPM : va_P D vwCl (wM hm am d z fa (nI N3) pl3 tr) H1 := hB
      have hPJ := keepW hPJ (oJ_D hDJ) hdis hk_
      have hDM : va_D (fun q : Nat => s.heap.size ≤ q) (wM hm am d z fa (nI N3) pl3 tr) := va_D_re hDM rfl
      clear hP9
      clear hk_
      generalize H1 = H at hPJ hPM hS ⊢
      refine lv_icmp_eq (tgt := 416) hx hb dL_law_212 (by decide) (fun _ => ?_) (fun z_ => absurd (eJ.1.trans eM.1.symm) z_)
      obtain ⟨eJ1, eJ2⟩ := eJ
      obtain ⟨eM1, eM2⟩ := eM
      have e3 := eM2.trans eJ2.symm
      have e4 : N3 = N2 := congrArg Prod.fst e3
      have e5 : pl3 = pl2 := congrArg Prod.snd e3
      subst e4
      subst e5
      have hq := tpat_ok hN hpl eJ2
      refine lv_iinc (v := nI (4 * (t + 1))) (lv' := [(3, .int (nI (4 * (t + 1)))), (0, .ref b), (1, .ref hj), (2, .ref hm)]) hx hb dL_law_416 hl (k := 0) rfl (nI_add _ _) (by decide) rfl (fun ls hl => ?_)
      refine lv_goto (tgt := 18) hx hb dL_law_419 (by decide) ?_
      exact ih _ _ _ ⟨F, N3, pl3, he, ob, pr, su, go, si, nv, vr, bo, ca, vc, sc, fa, tr, hl, hPJ, hPM, hS, hI, hF, hq.1, hq.2, h48⟩
    · refine lv_tableIn (tgt := 217) (off := 185) hx hb dL_law_32 (by decide) (by decide) (by decide) (by decide) ?_
      refine lv_aload_n hx hb dL_law_217 rfl (lv_at hl 2 rfl) ?_
      have hP9 := hPM
      refine va_callv (va_runV (As := []) (rest := []) ⟨hx, hb, hml, hown, hts⟩ (m_clear) (cwV 0 hts (lw_V q91 q92 q93 q18 q94) rfl rfl rfl (by decide +kernel) ⟨Nat.le_of_ble_eq_true rfl, Nat.le_of_ble_eq_true rfl⟩) (pJ_preJ hK hPJ hDJ rfl) rfl rfl hl.1 rfl (lv_room (Nat.le_of_ble_eq_true rfl)) dL_law_218 ⟨Nat.le_refl _, Nat.le_refl _⟩) hS (fun q _ h9 => hAJ q h9) hAJ (fun u t_ H1 locs ht_ hvm_ eJ hB _ hk_ hS => ?_)
      rw [ht_] at hB
      have hPJ : va_P D vwCl (wJ hj aj d he ob pr su go si (nI 0) pl nv vr bo ca vc sc) H1 := hB
      have hPM := keepW hPM (oM_D hDM) (fun q h1 h2 => hdis q h2 h1) hk_
      have hDJ : va_D (fun q : Nat => s.heap.size ≤ q) (wJ hj aj d he ob pr su go si (nI 0) pl nv vr bo ca vc sc) := va_D_re hDJ rfl
      clear hP9
      clear hk_
      generalize H1 = H at hPJ hPM hS ⊢
      refine lv_aload_n hx hb dL_law_221 rfl (lv_at hl 3 rfl) ?_
      have hP9 := hPJ
      refine va_callv (va_runV (As := []) (rest := []) ⟨hx, hb, hml, hown, hts⟩ (mm_clear) (cwV 0 hts (lw_V q213 q214 q215 q19 q216) rfl rfl rfl (by decide +kernel) ⟨Nat.le_of_ble_eq_true rfl, Nat.le_of_ble_eq_true rfl⟩) (pJ_preM hK hPM hDM rfl) rfl rfl hl.1 rfl (lv_room (Nat.le_of_ble_eq_true rfl)) dL_law_222 ⟨Nat.le_refl _, Nat.le_refl _⟩) hS (fun q _ h9 => hAM q h9) hAM (fun u t_ H1 locs ht_ hvm_ eM hB _ hk_ hS => ?_)
      rw [ht_] at hB
      have hPM : va_P D vwCl (wM hm am d z fa (nI 0) pl tr) H1 := hB
      have hPJ := keepW hPJ (oJ_D hDJ) hdis hk_
      have hDM : va_D (fun q : Nat => s.heap.size ≤ q) (wM hm am d z fa (nI 0) pl tr) := va_D_re hDM rfl
      clear hP9
      clear hk_
      generalize H1 = H at hPJ hPM hS ⊢
      refine lv_goto (tgt := 416) hx hb dL_law_225 (by decide) ?_
      refine lv_iinc (v := nI (4 * (t + 1))) (lv' := [(3, .int (nI (4 * (t + 1)))), (0, .ref b), (1, .ref hj), (2, .ref hm)]) hx hb dL_law_416 hl (k := 0) rfl (nI_add _ _) (by decide) rfl (fun ls hl => ?_)
      refine lv_goto (tgt := 18) hx hb dL_law_419 (by decide) ?_
      exact ih _ _ _ ⟨F, 0, pl, he, ob, pr, su, go, si, nv, vr, bo, ca, vc, sc, fa, tr, hl, hPJ, hPM, hS, hI, hF, Nat.zero_le _, (fun j hj_ => absurd hj_ (by omega)), h48⟩
    · refine lv_tableIn (tgt := 228) (off := 196) hx hb dL_law_32 (by decide) (by decide) (by decide) (by decide) ?_
      refine lv_aload_n hx hb dL_law_228 rfl (lv_at hl 2 rfl) ?_
      have hP9 := hPM
      refine va_calli (va_runV (As := []) (rest := []) ⟨hx, hb, hml, hown, hts⟩ (m_solutions hI hN hpl) (cwV 0 hts (lw_V q95 q96 q97 q18 q98) rfl rfl rfl (by decide +kernel) ⟨Nat.le_of_ble_eq_true rfl, Nat.le_of_ble_eq_true rfl⟩) (pJ_preJ hK hPJ hDJ rfl) rfl rfl hl.1 rfl (lv_room (Nat.le_of_ble_eq_true rfl)) dL_law_229 ⟨Nat.le_refl _, Nat.le_refl _⟩) hS (fun q _ h9 => hAJ q h9) hAJ (fun rJ u t_ H1 locs ht_ hvm_ eJ hB _ hk_ hS => ?_)
      obtain ⟨nv2, vr2, bo2, ca2, vc2, sc2⟩ := u
      rw [ht_] at hB
      have hPJ : va_P D vwCl (wJ hj aj d he ob pr su go si (nI N) pl nv2 vr2 bo2 ca2 vc2 sc2) H1 := hB
      have hPM := keepW hPM (oM_D hDM) (fun q h1 h2 => hdis q h2 h1) hk_
      have hDJ : va_D (fun q : Nat => s.heap.size ≤ q) (wJ hj aj d he ob pr su go si (nI N) pl nv2 vr2 bo2 ca2 vc2 sc2) := va_D_re hDJ rfl
      clear hP9
      clear hk_
      generalize H1 = H at hPJ hPM hS ⊢
      refine lv_aload_n hx hb dL_law_232 rfl (lv_at hl 3 rfl) ?_
      have hP9 := hPJ
      refine va_calli (va_runV (As := []) (rest := [.int rJ]) ⟨hx, hb, hml, hown, hts⟩ (mm_solutions hF hN hpl) (cwV 0 hts (lw_V q217 q218 q219 q19 q220) rfl rfl rfl (by decide +kernel) ⟨Nat.le_of_ble_eq_true rfl, Nat.le_of_ble_eq_true rfl⟩) (pJ_preM hK hPM hDM rfl) rfl rfl hl.1 rfl (lv_room (Nat.le_of_ble_eq_true rfl)) dL_law_233 ⟨Nat.le_refl _, Nat.le_refl _⟩) hS (fun q _ h9 => hAM q h9) hAM (fun rM u t_ H1 locs ht_ hvm_ eM hB _ hk_ hS => ?_)
      rw [ht_] at hB
      have hPM : va_P D vwCl (wM hm am d z fa (nI N) pl u) H1 := hB
      have hPJ := keepW hPJ (oJ_D hDJ) hdis hk_
      have hDM : va_D (fun q : Nat => s.heap.size ≤ q) (wM hm am d z fa (nI N) pl u) := va_D_re hDM rfl
      clear hP9
      clear hk_
      generalize H1 = H at hPJ hPM hS ⊢
      refine lv_icmp_eq (tgt := 416) hx hb dL_law_236 (by decide) (fun _ => ?_) (fun z_ => absurd ((show rJ = _ from eJ).trans (show rM = _ from eM).symm) z_)
      refine lv_iinc (v := nI (4 * (t + 1))) (lv' := [(3, .int (nI (4 * (t + 1)))), (0, .ref b), (1, .ref hj), (2, .ref hm)]) hx hb dL_law_416 hl (k := 0) rfl (nI_add _ _) (by decide) rfl (fun ls hl => ?_)
      refine lv_goto (tgt := 18) hx hb dL_law_419 (by decide) ?_
      exact ih _ _ _ ⟨F, N, pl, he, ob, pr, su, go, si, nv2, vr2, bo2, ca2, vc2, sc2, fa, u, hl, hPJ, hPM, hS, hI, hF, hN, hpl, h48⟩
    · refine lv_tableIn (tgt := 241) (off := 209) hx hb dL_law_32 (by decide) (by decide) (by decide) (by decide) ?_
      refine lv_aload_n hx hb dL_law_241 rfl (lv_at hl 2 rfl) ?_
      refine lv_aload_n hx hb dL_law_242 rfl (lv_at hl 1 rfl) ?_
      refine lv_iload_n hx hb dL_law_243 rfl (lv_at hl 0 rfl) ?_
      refine lv_iconst (v := nI 1) hx hb dL_law_244 (by decide) ?_
      refine tn_iadd hx hb dL_law_245 ?_
      refine tn_sld hx hb hX hbl hbA hS (j := 4 * t + 1) (by omega) (by omega) dL_law_246 ?_
      refine lv_aload_n hx hb dL_law_247 rfl (lv_at hl 1 rfl) ?_
      refine lv_iload_n hx hb dL_law_248 rfl (lv_at hl 0 rfl) ?_
      refine lv_iconst (v := nI 2) hx hb dL_law_249 (by decide) ?_
      refine tn_iadd hx hb dL_law_250 ?_
      refine tn_sld hx hb hX hbl hbA hS (j := 4 * t + 2) (by omega) (by omega) dL_law_251 ?_
      have hP9 := hPM
      refine va_calli (va_runV (As := [.int (xs (4 * t + 1)), .int (xs (4 * t + 2))]) (rest := []) ⟨hx, hb, hml, hown, hts⟩ (m_solution hI hN hpl _ _) (cwV 2 hts (lw_V q153 q154 q155 q18 q156) rfl rfl rfl (by decide +kernel) ⟨Nat.le_of_ble_eq_true rfl, Nat.le_of_ble_eq_true rfl⟩) (pJ_preJ hK hPJ hDJ rfl) rfl rfl hl.1 rfl (lv_room (Nat.le_of_ble_eq_true rfl)) dL_law_252 ⟨Nat.le_refl _, Nat.le_refl _⟩) hS (fun q _ h9 => hAJ q h9) hAJ (fun rJ u t_ H1 locs ht_ hvm_ eJ hB _ hk_ hS => ?_)
      obtain ⟨nv2, vr2, bo2, ca2, vc2, sc2⟩ := u
      rw [ht_] at hB
      have hPJ : va_P D vwCl (wJ hj aj d he ob pr su go si (nI N) pl nv2 vr2 bo2 ca2 vc2 sc2) H1 := hB
      have hPM := keepW hPM (oM_D hDM) (fun q h1 h2 => hdis q h2 h1) hk_
      have hDJ : va_D (fun q : Nat => s.heap.size ≤ q) (wJ hj aj d he ob pr su go si (nI N) pl nv2 vr2 bo2 ca2 vc2 sc2) := va_D_re hDJ rfl
      clear hP9
      clear hk_
      generalize H1 = H at hPJ hPM hS ⊢
      refine lv_aload_n hx hb dL_law_255 rfl (lv_at hl 3 rfl) ?_
      refine lv_aload_n hx hb dL_law_256 rfl (lv_at hl 1 rfl) ?_
      refine lv_iload_n hx hb dL_law_257 rfl (lv_at hl 0 rfl) ?_
      refine lv_iconst (v := nI 1) hx hb dL_law_258 (by decide) ?_
      refine tn_iadd hx hb dL_law_259 ?_
      refine tn_sld hx hb hX hbl hbA hS (j := 4 * t + 1) (by omega) (by omega) dL_law_260 ?_
      refine lv_aload_n hx hb dL_law_261 rfl (lv_at hl 1 rfl) ?_
      refine lv_iload_n hx hb dL_law_262 rfl (lv_at hl 0 rfl) ?_
      refine lv_iconst (v := nI 2) hx hb dL_law_263 (by decide) ?_
      refine tn_iadd hx hb dL_law_264 ?_
      refine tn_sld hx hb hX hbl hbA hS (j := 4 * t + 2) (by omega) (by omega) dL_law_265 ?_
      have hP9 := hPJ
      refine va_calli (va_runV (As := [.int (xs (4 * t + 1)), .int (xs (4 * t + 2))]) (rest := [.int rJ]) ⟨hx, hb, hml, hown, hts⟩ (mm_solution hF hN hpl _ _) (cwV 2 hts (lw_V q233 q234 q235 q19 q236) rfl rfl rfl (by decide +kernel) ⟨Nat.le_of_ble_eq_true rfl, Nat.le_of_ble_eq_true rfl⟩) (pJ_preM hK hPM hDM rfl) rfl rfl hl.1 rfl (lv_room (Nat.le_of_ble_eq_true rfl)) dL_law_266 ⟨Nat.le_refl _, Nat.le_refl _⟩) hS (fun q _ h9 => hAM q h9) hAM (fun rM u t_ H1 locs ht_ hvm_ eM hB _ hk_ hS => ?_)
      rw [ht_] at hB
      have hPM : va_P D vwCl (wM hm am d z fa (nI N) pl u) H1 := hB
      have hPJ := keepW hPJ (oJ_D hDJ) hdis hk_
      have hDM : va_D (fun q : Nat => s.heap.size ≤ q) (wM hm am d z fa (nI N) pl u) := va_D_re hDM rfl
      clear hP9
      clear hk_
      generalize H1 = H at hPJ hPM hS ⊢
      refine lv_icmp_eq (tgt := 416) hx hb dL_law_269 (by decide) (fun _ => ?_) (fun z_ => absurd (tsol_one (show tsol F pl N _ _ rJ from eJ) (show tsol F pl N _ _ rM from eM)) z_)
      refine lv_iinc (v := nI (4 * (t + 1))) (lv' := [(3, .int (nI (4 * (t + 1)))), (0, .ref b), (1, .ref hj), (2, .ref hm)]) hx hb dL_law_416 hl (k := 0) rfl (nI_add _ _) (by decide) rfl (fun ls hl => ?_)
      refine lv_goto (tgt := 18) hx hb dL_law_419 (by decide) ?_
      exact ih _ _ _ ⟨F, N, pl, he, ob, pr, su, go, si, nv2, vr2, bo2, ca2, vc2, sc2, fa, u, hl, hPJ, hPM, hS, hI, hF, hN, hpl, h48⟩
    · refine lv_tableIn (tgt := 274) (off := 242) hx hb dL_law_32 (by decide) (by decide) (by decide) (by decide) ?_
      refine lv_aload_n hx hb dL_law_274 rfl (lv_at hl 2 rfl) ?_
      refine lv_aload_n hx hb dL_law_275 rfl (lv_at hl 1 rfl) ?_
      refine lv_iload_n hx hb dL_law_276 rfl (lv_at hl 0 rfl) ?_
      refine lv_iconst (v := nI 1) hx hb dL_law_277 (by decide) ?_
      refine tn_iadd hx hb dL_law_278 ?_
      refine tn_sld hx hb hX hbl hbA hS (j := 4 * t + 1) (by omega) (by omega) dL_law_279 ?_
      refine lv_aload_n hx hb dL_law_280 rfl (lv_at hl 1 rfl) ?_
      refine lv_iload_n hx hb dL_law_281 rfl (lv_at hl 0 rfl) ?_
      refine lv_iconst (v := nI 2) hx hb dL_law_282 (by decide) ?_
      refine tn_iadd hx hb dL_law_283 ?_
      refine tn_sld hx hb hX hbl hbA hS (j := 4 * t + 2) (by omega) (by omega) dL_law_284 ?_
      have hP9 := hPM
      refine va_calli (va_runV (As := [.int (xs (4 * t + 1)), .int (xs (4 * t + 2))]) (rest := []) ⟨hx, hb, hml, hown, hts⟩ (m_with hI hN hpl _ _) (cwV 2 hts (lw_V q157 q158 q159 q18 q160) rfl rfl rfl (by decide +kernel) ⟨Nat.le_of_ble_eq_true rfl, Nat.le_of_ble_eq_true rfl⟩) (pJ_preJ hK hPJ hDJ rfl) rfl rfl hl.1 rfl (lv_room (Nat.le_of_ble_eq_true rfl)) dL_law_285 ⟨Nat.le_refl _, Nat.le_refl _⟩) hS (fun q _ h9 => hAJ q h9) hAJ (fun rJ u t_ H1 locs ht_ hvm_ eJ hB _ hk_ hS => ?_)
      obtain ⟨nv2, vr2, bo2, ca2, vc2, sc2⟩ := u
      rw [ht_] at hB
      have hPJ : va_P D vwCl (wJ hj aj d he ob pr su go si (nI N) pl nv2 vr2 bo2 ca2 vc2 sc2) H1 := hB
      have hPM := keepW hPM (oM_D hDM) (fun q h1 h2 => hdis q h2 h1) hk_
      have hDJ : va_D (fun q : Nat => s.heap.size ≤ q) (wJ hj aj d he ob pr su go si (nI N) pl nv2 vr2 bo2 ca2 vc2 sc2) := va_D_re hDJ rfl
      clear hP9
      clear hk_
      generalize H1 = H at hPJ hPM hS ⊢
      refine lv_aload_n hx hb dL_law_288 rfl (lv_at hl 3 rfl) ?_
      refine lv_aload_n hx hb dL_law_289 rfl (lv_at hl 1 rfl) ?_
      refine lv_iload_n hx hb dL_law_290 rfl (lv_at hl 0 rfl) ?_
      refine lv_iconst (v := nI 1) hx hb dL_law_291 (by decide) ?_
      refine tn_iadd hx hb dL_law_292 ?_
      refine tn_sld hx hb hX hbl hbA hS (j := 4 * t + 1) (by omega) (by omega) dL_law_293 ?_
      refine lv_aload_n hx hb dL_law_294 rfl (lv_at hl 1 rfl) ?_
      refine lv_iload_n hx hb dL_law_295 rfl (lv_at hl 0 rfl) ?_
      refine lv_iconst (v := nI 2) hx hb dL_law_296 (by decide) ?_
      refine tn_iadd hx hb dL_law_297 ?_
      refine tn_sld hx hb hX hbl hbA hS (j := 4 * t + 2) (by omega) (by omega) dL_law_298 ?_
      have hP9 := hPJ
      refine va_calli (va_runV (As := [.int (xs (4 * t + 1)), .int (xs (4 * t + 2))]) (rest := [.int rJ]) ⟨hx, hb, hml, hown, hts⟩ (mm_with hF hN hpl _ _) (cwV 2 hts (lw_V q241 q242 q243 q19 q244) rfl rfl rfl (by decide +kernel) ⟨Nat.le_of_ble_eq_true rfl, Nat.le_of_ble_eq_true rfl⟩) (pJ_preM hK hPM hDM rfl) rfl rfl hl.1 rfl (lv_room (Nat.le_of_ble_eq_true rfl)) dL_law_299 ⟨Nat.le_refl _, Nat.le_refl _⟩) hS (fun q _ h9 => hAM q h9) hAM (fun rM u t_ H1 locs ht_ hvm_ eM hB _ hk_ hS => ?_)
      rw [ht_] at hB
      have hPM : va_P D vwCl (wM hm am d z fa (nI N) pl u) H1 := hB
      have hPJ := keepW hPJ (oJ_D hDJ) hdis hk_
      have hDM : va_D (fun q : Nat => s.heap.size ≤ q) (wM hm am d z fa (nI N) pl u) := va_D_re hDM rfl
      clear hP9
      clear hk_
      generalize H1 = H at hPJ hPM hS ⊢
      refine lv_icmp_eq (tgt := 416) hx hb dL_law_302 (by decide) (fun _ => ?_) (fun z_ => absurd ((show rJ = _ from eJ).trans (show rM = _ from eM).symm) z_)
      refine lv_iinc (v := nI (4 * (t + 1))) (lv' := [(3, .int (nI (4 * (t + 1)))), (0, .ref b), (1, .ref hj), (2, .ref hm)]) hx hb dL_law_416 hl (k := 0) rfl (nI_add _ _) (by decide) rfl (fun ls hl => ?_)
      refine lv_goto (tgt := 18) hx hb dL_law_419 (by decide) ?_
      exact ih _ _ _ ⟨F, N, pl, he, ob, pr, su, go, si, nv2, vr2, bo2, ca2, vc2, sc2, fa, u, hl, hPJ, hPM, hS, hI, hF, hN, hpl, h48⟩
    · refine lv_tableIn (tgt := 307) (off := 275) hx hb dL_law_32 (by decide) (by decide) (by decide) (by decide) ?_
      refine lv_aload_n hx hb dL_law_307 rfl (lv_at hl 2 rfl) ?_
      refine lv_aload_n hx hb dL_law_308 rfl (lv_at hl 1 rfl) ?_
      refine lv_iload_n hx hb dL_law_309 rfl (lv_at hl 0 rfl) ?_
      refine lv_iconst (v := nI 1) hx hb dL_law_310 (by decide) ?_
      refine tn_iadd hx hb dL_law_311 ?_
      refine tn_sld hx hb hX hbl hbA hS (j := 4 * t + 1) (by omega) (by omega) dL_law_312 ?_
      have hP9 := hPM
      refine va_calli (va_runV (As := [.int (xs (4 * t + 1))]) (rest := []) ⟨hx, hb, hml, hown, hts⟩ (m_values hI hN hpl _) (cwV 1 hts (lw_V q161 q162 q163 q18 q164) rfl rfl rfl (by decide +kernel) ⟨Nat.le_of_ble_eq_true rfl, Nat.le_of_ble_eq_true rfl⟩) (pJ_preJ hK hPJ hDJ rfl) rfl rfl hl.1 rfl (lv_room (Nat.le_of_ble_eq_true rfl)) dL_law_313 ⟨Nat.le_refl _, Nat.le_refl _⟩) hS (fun q _ h9 => hAJ q h9) hAJ (fun rJ u t_ H1 locs ht_ hvm_ eJ hB _ hk_ hS => ?_)
      obtain ⟨nv2, vr2, bo2, ca2, vc2, sc2⟩ := u
      rw [ht_] at hB
      have hPJ : va_P D vwCl (wJ hj aj d he ob pr su go si (nI N) pl nv2 vr2 bo2 ca2 vc2 sc2) H1 := hB
      have hPM := keepW hPM (oM_D hDM) (fun q h1 h2 => hdis q h2 h1) hk_
      have hDJ : va_D (fun q : Nat => s.heap.size ≤ q) (wJ hj aj d he ob pr su go si (nI N) pl nv2 vr2 bo2 ca2 vc2 sc2) := va_D_re hDJ rfl
      clear hP9
      clear hk_
      generalize H1 = H at hPJ hPM hS ⊢
      refine lv_aload_n hx hb dL_law_316 rfl (lv_at hl 3 rfl) ?_
      refine lv_aload_n hx hb dL_law_317 rfl (lv_at hl 1 rfl) ?_
      refine lv_iload_n hx hb dL_law_318 rfl (lv_at hl 0 rfl) ?_
      refine lv_iconst (v := nI 1) hx hb dL_law_319 (by decide) ?_
      refine tn_iadd hx hb dL_law_320 ?_
      refine tn_sld hx hb hX hbl hbA hS (j := 4 * t + 1) (by omega) (by omega) dL_law_321 ?_
      have hP9 := hPJ
      refine va_calli (va_runV (As := [.int (xs (4 * t + 1))]) (rest := [.int rJ]) ⟨hx, hb, hml, hown, hts⟩ (mm_values hF hN hpl _) (cwV 1 hts (lw_V q245 q246 q247 q19 q248) rfl rfl rfl (by decide +kernel) ⟨Nat.le_of_ble_eq_true rfl, Nat.le_of_ble_eq_true rfl⟩) (pJ_preM hK hPM hDM rfl) rfl rfl hl.1 rfl (lv_room (Nat.le_of_ble_eq_true rfl)) dL_law_322 ⟨Nat.le_refl _, Nat.le_refl _⟩) hS (fun q _ h9 => hAM q h9) hAM (fun rM u t_ H1 locs ht_ hvm_ eM hB _ hk_ hS => ?_)
      rw [ht_] at hB
      have hPM : va_P D vwCl (wM hm am d z fa (nI N) pl u) H1 := hB
      have hPJ := keepW hPJ (oJ_D hDJ) hdis hk_
      have hDM : va_D (fun q : Nat => s.heap.size ≤ q) (wM hm am d z fa (nI N) pl u) := va_D_re hDM rfl
      clear hP9
      clear hk_
      generalize H1 = H at hPJ hPM hS ⊢
      refine lv_icmp_eq (tgt := 416) hx hb dL_law_325 (by decide) (fun _ => ?_) (fun z_ => absurd ((show rJ = _ from eJ).trans (show rM = _ from eM).symm) z_)
      refine lv_iinc (v := nI (4 * (t + 1))) (lv' := [(3, .int (nI (4 * (t + 1)))), (0, .ref b), (1, .ref hj), (2, .ref hm)]) hx hb dL_law_416 hl (k := 0) rfl (nI_add _ _) (by decide) rfl (fun ls hl => ?_)
      refine lv_goto (tgt := 18) hx hb dL_law_419 (by decide) ?_
      exact ih _ _ _ ⟨F, N, pl, he, ob, pr, su, go, si, nv2, vr2, bo2, ca2, vc2, sc2, fa, u, hl, hPJ, hPM, hS, hI, hF, hN, hpl, h48⟩
    · refine lv_tableIn (tgt := 330) (off := 298) hx hb dL_law_32 (by decide) (by decide) (by decide) (by decide) ?_
      refine lv_aload_n hx hb dL_law_330 rfl (lv_at hl 2 rfl) ?_
      refine lv_aload_n hx hb dL_law_331 rfl (lv_at hl 1 rfl) ?_
      refine lv_iload_n hx hb dL_law_332 rfl (lv_at hl 0 rfl) ?_
      refine lv_iconst (v := nI 1) hx hb dL_law_333 (by decide) ?_
      refine tn_iadd hx hb dL_law_334 ?_
      refine tn_sld hx hb hX hbl hbA hS (j := 4 * t + 1) (by omega) (by omega) dL_law_335 ?_
      refine lv_aload_n hx hb dL_law_336 rfl (lv_at hl 1 rfl) ?_
      refine lv_iload_n hx hb dL_law_337 rfl (lv_at hl 0 rfl) ?_
      refine lv_iconst (v := nI 2) hx hb dL_law_338 (by decide) ?_
      refine tn_iadd hx hb dL_law_339 ?_
      refine tn_sld hx hb hX hbl hbA hS (j := 4 * t + 2) (by omega) (by omega) dL_law_340 ?_
      refine lv_aload_n hx hb dL_law_341 rfl (lv_at hl 1 rfl) ?_
      refine lv_iload_n hx hb dL_law_342 rfl (lv_at hl 0 rfl) ?_
      refine lv_iconst (v := nI 3) hx hb dL_law_343 (by decide) ?_
      refine tn_iadd hx hb dL_law_344 ?_
      refine tn_sld hx hb hX hbl hbA hS (j := 4 * t + 3) (by omega) (by omega) dL_law_345 ?_
      refine vp_callSi (W.runV (As := [.int (xs (4 * t + 1)), .int (xs (4 * t + 2)), .int (xs (4 * t + 3))]) (rest := []) ⟨hx, hb, hml, hown, hts⟩ (m_count hI _ _ _) (cwV 3 hts (lw_V q165 q132 q133 q18 q134) rfl rfl rfl (by decide +kernel) ⟨Nat.le_of_ble_eq_true rfl, Nat.le_of_ble_eq_true rfl⟩) (pJ_preJ hK hPJ hDJ rfl) rfl rfl hl.1 rfl (lv_room (Nat.le_of_ble_eq_true rfl)) dL_law_346 ⟨Nat.le_refl _, Nat.le_refl _⟩) (fun rJ eJ => ?_)
      refine lv_aload_n hx hb dL_law_349 rfl (lv_at hl 3 rfl) ?_
      refine lv_aload_n hx hb dL_law_350 rfl (lv_at hl 1 rfl) ?_
      refine lv_iload_n hx hb dL_law_351 rfl (lv_at hl 0 rfl) ?_
      refine lv_iconst (v := nI 1) hx hb dL_law_352 (by decide) ?_
      refine tn_iadd hx hb dL_law_353 ?_
      refine tn_sld hx hb hX hbl hbA hS (j := 4 * t + 1) (by omega) (by omega) dL_law_354 ?_
      refine lv_aload_n hx hb dL_law_355 rfl (lv_at hl 1 rfl) ?_
      refine lv_iload_n hx hb dL_law_356 rfl (lv_at hl 0 rfl) ?_
      refine lv_iconst (v := nI 2) hx hb dL_law_357 (by decide) ?_
      refine tn_iadd hx hb dL_law_358 ?_
      refine tn_sld hx hb hX hbl hbA hS (j := 4 * t + 2) (by omega) (by omega) dL_law_359 ?_
      refine lv_aload_n hx hb dL_law_360 rfl (lv_at hl 1 rfl) ?_
      refine lv_iload_n hx hb dL_law_361 rfl (lv_at hl 0 rfl) ?_
      refine lv_iconst (v := nI 3) hx hb dL_law_362 (by decide) ?_
      refine tn_iadd hx hb dL_law_363 ?_
      refine tn_sld hx hb hX hbl hbA hS (j := 4 * t + 3) (by omega) (by omega) dL_law_364 ?_
      refine vp_callSi (W.runV (As := [.int (xs (4 * t + 1)), .int (xs (4 * t + 2)), .int (xs (4 * t + 3))]) (rest := [.int rJ]) ⟨hx, hb, hml, hown, hts⟩ (mm_count hF _ _ _) (cwV 3 hts (lw_V q250 q251 q252 q19 q253) rfl rfl rfl (by decide +kernel) ⟨Nat.le_of_ble_eq_true rfl, Nat.le_of_ble_eq_true rfl⟩) (pJ_preM hK hPM hDM rfl) rfl rfl hl.1 rfl (lv_room (Nat.le_of_ble_eq_true rfl)) dL_law_365 ⟨Nat.le_refl _, Nat.le_refl _⟩) (fun rM eM => ?_)
      refine lv_icmp_eq (tgt := 416) hx hb dL_law_368 (by decide) (fun _ => ?_) (fun z_ => absurd (eJ.trans eM.symm) z_)
      refine lv_iinc (v := nI (4 * (t + 1))) (lv' := [(3, .int (nI (4 * (t + 1)))), (0, .ref b), (1, .ref hj), (2, .ref hm)]) hx hb dL_law_416 hl (k := 0) rfl (nI_add _ _) (by decide) rfl (fun ls hl => ?_)
      refine lv_goto (tgt := 18) hx hb dL_law_419 (by decide) ?_
      exact ih _ _ _ ⟨F, N, pl, he, ob, pr, su, go, si, nv, vr, bo, ca, vc, sc, fa, tr, hl, hPJ, hPM, hS, hI, hF, hN, hpl, h48⟩
    · refine lv_tableIn (tgt := 373) (off := 341) hx hb dL_law_32 (by decide) (by decide) (by decide) (by decide) ?_
      refine lv_aload_n hx hb dL_law_373 rfl (lv_at hl 2 rfl) ?_
      refine lv_aload_n hx hb dL_law_374 rfl (lv_at hl 1 rfl) ?_
      refine lv_iload_n hx hb dL_law_375 rfl (lv_at hl 0 rfl) ?_
      refine lv_iconst (v := nI 1) hx hb dL_law_376 (by decide) ?_
      refine tn_iadd hx hb dL_law_377 ?_
      refine tn_sld hx hb hX hbl hbA hS (j := 4 * t + 1) (by omega) (by omega) dL_law_378 ?_
      refine lv_aload_n hx hb dL_law_379 rfl (lv_at hl 1 rfl) ?_
      refine lv_iload_n hx hb dL_law_380 rfl (lv_at hl 0 rfl) ?_
      refine lv_iconst (v := nI 2) hx hb dL_law_381 (by decide) ?_
      refine tn_iadd hx hb dL_law_382 ?_
      refine tn_sld hx hb hX hbl hbA hS (j := 4 * t + 2) (by omega) (by omega) dL_law_383 ?_
      refine lv_aload_n hx hb dL_law_384 rfl (lv_at hl 1 rfl) ?_
      refine lv_iload_n hx hb dL_law_385 rfl (lv_at hl 0 rfl) ?_
      refine lv_iconst (v := nI 3) hx hb dL_law_386 (by decide) ?_
      refine tn_iadd hx hb dL_law_387 ?_
      refine tn_sld hx hb hX hbl hbA hS (j := 4 * t + 3) (by omega) (by omega) dL_law_388 ?_
      refine vp_callSi (W.runV (As := [.int (xs (4 * t + 1)), .int (xs (4 * t + 2)), .int (xs (4 * t + 3))]) (rest := []) ⟨hx, hb, hml, hown, hts⟩ (m_has hI _ _ _) (cwV 3 hts (lw_V q166 q167 q168 q18 q169) rfl rfl rfl (by decide +kernel) ⟨Nat.le_of_ble_eq_true rfl, Nat.le_of_ble_eq_true rfl⟩) (pJ_preJ hK hPJ hDJ rfl) rfl rfl hl.1 rfl (lv_room (Nat.le_of_ble_eq_true rfl)) dL_law_389 ⟨Nat.le_refl _, Nat.le_refl _⟩) (fun rJ eJ => ?_)
      refine lv_aload_n hx hb dL_law_392 rfl (lv_at hl 3 rfl) ?_
      refine lv_aload_n hx hb dL_law_393 rfl (lv_at hl 1 rfl) ?_
      refine lv_iload_n hx hb dL_law_394 rfl (lv_at hl 0 rfl) ?_
      refine lv_iconst (v := nI 1) hx hb dL_law_395 (by decide) ?_
      refine tn_iadd hx hb dL_law_396 ?_
      refine tn_sld hx hb hX hbl hbA hS (j := 4 * t + 1) (by omega) (by omega) dL_law_397 ?_
      refine lv_aload_n hx hb dL_law_398 rfl (lv_at hl 1 rfl) ?_
      refine lv_iload_n hx hb dL_law_399 rfl (lv_at hl 0 rfl) ?_
      refine lv_iconst (v := nI 2) hx hb dL_law_400 (by decide) ?_
      refine tn_iadd hx hb dL_law_401 ?_
      refine tn_sld hx hb hX hbl hbA hS (j := 4 * t + 2) (by omega) (by omega) dL_law_402 ?_
      refine lv_aload_n hx hb dL_law_403 rfl (lv_at hl 1 rfl) ?_
      refine lv_iload_n hx hb dL_law_404 rfl (lv_at hl 0 rfl) ?_
      refine lv_iconst (v := nI 3) hx hb dL_law_405 (by decide) ?_
      refine tn_iadd hx hb dL_law_406 ?_
      refine tn_sld hx hb hX hbl hbA hS (j := 4 * t + 3) (by omega) (by omega) dL_law_407 ?_
      refine vp_callSi (W.runV (As := [.int (xs (4 * t + 1)), .int (xs (4 * t + 2)), .int (xs (4 * t + 3))]) (rest := [.int rJ]) ⟨hx, hb, hml, hown, hts⟩ (mm_has hF _ _ _) (cwV 3 hts (lw_V q257 q195 q196 q19 q197) rfl rfl rfl (by decide +kernel) ⟨Nat.le_of_ble_eq_true rfl, Nat.le_of_ble_eq_true rfl⟩) (pJ_preM hK hPM hDM rfl) rfl rfl hl.1 rfl (lv_room (Nat.le_of_ble_eq_true rfl)) dL_law_408 ⟨Nat.le_refl _, Nat.le_refl _⟩) (fun rM eM => ?_)
      refine lv_icmp_eq (tgt := 416) hx hb dL_law_411 (by decide) (fun _ => ?_) (fun z_ => absurd (eJ.trans eM.symm) z_)
      refine lv_iinc (v := nI (4 * (t + 1))) (lv' := [(3, .int (nI (4 * (t + 1)))), (0, .ref b), (1, .ref hj), (2, .ref hm)]) hx hb dL_law_416 hl (k := 0) rfl (nI_add _ _) (by decide) rfl (fun ls hl => ?_)
      refine lv_goto (tgt := 18) hx hb dL_law_419 (by decide) ?_
      exact ih _ _ _ ⟨F, N, pl, he, ob, pr, su, go, si, nv, vr, bo, ca, vc, sc, fa, tr, hl, hPJ, hPM, hS, hI, hF, hN, hpl, h48⟩
    · refine lv_tableOut (tgt := 416) hx hb dL_law_32 (Or.inr (by rw [nI_toInt (by omega)]; omega)) (by decide) ?_
      refine lv_iinc (v := nI (4 * (t + 1))) (lv' := [(3, .int (nI (4 * (t + 1)))), (0, .ref b), (1, .ref hj), (2, .ref hm)]) hx hb dL_law_416 hl (k := 0) rfl (nI_add _ _) (by decide) rfl (fun ls hl => ?_)
      refine lv_goto (tgt := 18) hx hb dL_law_419 (by decide) ?_
      exact ih _ _ _ ⟨F, N, pl, he, ob, pr, su, go, si, nv, vr, bo, ca, vc, sc, fa, tr, hl, hPJ, hPM, hS, hI, hF, hN, hpl, h48⟩
  · obtain ⟨F, N, pl, he, ob, pr, su, go, si, nv, vr, bo, ca, vc, sc, fa, tr, hl, hPJ, hPM, hS, hI, hF, hN, hpl, h48⟩ := hJ
    have hDJ : va_D (fun q : Nat => s.heap.size ≤ q) (wJ hj aj d he ob pr su go si (nI N) pl nv vr bo ca vc sc) := va_D_re hDJ rfl
    have hDM : va_D (fun q : Nat => s.heap.size ≤ q) (wM hm am d z fa (nI N) pl tr) := va_D_re hDM rfl
    refine lv_iload_n hx hb dL_law_18 rfl (lv_at hl 0 rfl) ?_
    refine lv_aload_n hx hb dL_law_19 rfl (lv_at hl 1 rfl) ?_
    refine va_slen hx hb hX hbl hbA hS dL_law_20 ?_
    refine tn_as (nI L) rfl ?_
    refine lv_iconst (v := nI 4) hx hb dL_law_21 (by decide) ?_
    refine lv_isub hx hb dL_law_22 ?_
    refine lv_icmp_gt (tgt := 422) hx hb dL_law_23 (by decide) (fun _ => ?_) (fun z_ => absurd (tlaw_out hL) z_)
    refine lv_iconst (v := 1) hx hb dL_law_422 (by decide) ?_
    refine va_forget hS.2.2 ?_
    exact lw_ret hx hb hr hlocks dL_law_423
end
section
set_option maxHeartbeats 4000000 in
set_option maxRecDepth 100000 in
theorem whole_start {p : Program} {e : Env} {s : State} {m : MethodId} {below : List Frame} {meth : Method} {c : Code} (l : Launch) {b L : Nat} {xs : Nat → Int32} (hL : L ≤ 256) (C0 : lw_At p s m meth c b L xs) : W p l e room_1 s m #[Value.ref b] below meth c s.heap [] 0 0 (lw_Z below #[Value.ref b] s) (entryFrame m ([Value.ref b] : List Value).toArray 4) := by
  obtain ⟨hx, hb, hr, hml, hown, hts0, hX, hbl, hlocks, hgv⟩ := id C0
  have hts : ∀ w ∈ lw_all, w.before #[Value.ref b] s = true := fun w h => hts0 w (lw_all_tbl h)
  have hA : ∀ q : Nat, s.heap.size ≤ q → (fun q : Nat => s.heap.size ≤ q) q := fun _ h => h
  obtain ⟨c0, iS0, hKn0⟩ := u_known (C := RX0) (T := TX0) (N := 14) (n := 14) hts0 (fun w h => lw_all_tbl (in_X0 w h)) (hts0 _ (lw_all_tbl q21))
  obtain ⟨c1, iS1, hKn1⟩ := u_known (C := RX1) (T := TX1) (N := 4) (n := 4) hts0 (fun w h => lw_all_tbl (in_X1 w h)) (hts0 _ (lw_all_tbl q171))
  obtain ⟨D, hKc⟩ : ∃ D : va_G, ∀ (k : Nat) (q : vw_C), vwCl[k]? = some q → u_Kn s q.1 q.2.1 q.2.2 (D.1 k) (D.2 k) := by
    refine ⟨(fun k => if k = 0 then c0 else c1, fun k => if k = 0 then iS0 else iS1), ?_⟩
    intro k q hq
    match k, hq with
    | 0, hq => cases hq; exact hKn0
    | 1, hq => cases hq; exact hKn1
    | k + 2, hq => simp [vwCl] at hq
  have hS : va_S (fun q : Nat => s.heap.size ≤ q) s.heap s.heap [] := va_S.rf
  have hK : va_K D vwCl [] s := ⟨hKc, fun k q h => by simp at h⟩
  have hP : va_P D vwCl [] s.heap := fun k q h => by simp at h
  have hD : va_D (fun q : Nat => s.heap.size ≤ q) [] := ⟨fun i j p q h => by simp at h, fun k q h => by simp at h⟩
  have hl := lv_entry ([.ref b]) (n := 4) (Nat.le_of_ble_eq_true rfl)
  rw [lg_entry_eq]
  generalize (lg_sl ([.ref b]) ++ List.replicate (4 - (lg_sl ([.ref b])).length) Slot.unset).toArray = ls at hl ⊢
  have hl : lv_has ls 4 [(0, .ref b)] := hl
  refine va_new (ci := 0) (fs := [.int 0, .null, .null, .null, .null, .null, .int 0, .null, .int 0, .null, .null, .null, .null, .int 0]) (C := RX0) (T := TX0) (N := 14) hx hb hts in_X0 tyX0 tyX0_ok hown (hts _ q20) (hts _ q21) (hts _ q18) hK hP hD hS hA rfl (fun j hj => by rcases (show j = 0 ∨ j = 1 ∨ j = 2 ∨ j = 3 ∨ j = 4 ∨ j = 5 ∨ j = 6 ∨ j = 7 ∨ j = 8 ∨ j = 9 ∨ j = 10 ∨ j = 11 ∨ j = 12 ∨ j = 13 by omega) with rfl | rfl | rfl | rfl | rfl | rfl | rfl | rfl | rfl | rfl | rfl | rfl | rfl | rfl <;> rfl) (Nat.le_of_ble_eq_true rfl) (Nat.le_of_ble_eq_true rfl) dL_law_0 (fun hj H hP hD hS => ?_)
  have hP : va_P D vwCl ([] ++ [(hj, .inr (0, [.int 0, .null, .null, .null, .null, .null, .int 0, .null, .int 0, .null, .null, .null, .null, .int 0]))]) H := hP
  have hD : va_D (fun q : Nat => s.heap.size ≤ q) ([] ++ [(hj, .inr (0, [.int 0, .null, .null, .null, .null, .null, .int 0, .null, .int 0, .null, .null, .null, .null, .int 0]))]) := hD
  refine W.widen (k := 1) (n := 14) (by omega) (by omega) ?_
  refine lv_dup hx hb dL_law_3 rfl ?_
  have hPc := hP.sub (ws' := [(hj, .inr (0, [.int 0, .null, .null, .null, .null, .null, .int 0, .null, .int 0, .null, .null, .null, .null, .int 0]))]) [0] rfl
  have hDc := hD.sub (ws' := [(hj, .inr (0, [.int 0, .null, .null, .null, .null, .null, .int 0, .null, .int 0, .null, .null, .null, .null, .int 0]))]) [0] (by decide) rfl
  have hKc := hK.sub (tys' := []) [] rfl
  have hFc := va_free (wc := [(hj, .inr (0, [.int 0, .null, .null, .null, .null, .null, .int 0, .null, .int 0, .null, .null, .null, .null, .int 0]))]) hD hS hA [0] rfl
  refine va_callv (va_runI (As := []) (rest := [.ref hj]) ⟨hx, hb, hml, hown, hts⟩ (m_init l D hj H.size) (cwI 0 hts (lw_meth q24) rfl rfl rfl (hts _ q18) (hts _ q22) (hts _ q23) rfl (by decide +kernel) ⟨Nat.le_of_ble_eq_true rfl, Nat.le_of_ble_eq_true rfl⟩) ⟨fun a U g mk q => by obtain ⟨q0, q1, qP, qK, qD⟩ := q; exact ⟨q0, q1, qP, va_K.moved (u := U) (U := U.calling g mk a) (Vm.Alike.refl U.vm) qK, qD⟩, fun U hU hW => ⟨rfl, by rw [hU], by rw [hU]; exact hPc, va_K.moved hW.alike hKc, hDc.weaken (fun _ _ _ _ => trivial)⟩⟩ rfl rfl hl.1 rfl (lv_room (Nat.le_of_ble_eq_true rfl)) dL_law_4 ⟨Nat.le_of_ble_eq_true rfl, Nat.le_of_ble_eq_true rfl⟩) hS (fun q _ h => hFc q h) hFc (fun u t H1 locs ht hvm hw hB hz1 hk1 hS => ?_)
  obtain ⟨aj, d⟩ := u
  obtain ⟨hP1, hK1, hD1⟩ := hB
  rw [ht] at hP1
  have hK1 := va_K.moved hvm.symm hK1
  obtain ⟨hP, hD⟩ := va_join (wr := []) (w1 := (wJ hj aj d 0 (fun _ => 0) (fun _ => 0) (fun _ => 0) (fun _ => 0) (fun _ => 0) 0 (fun _ => 0) 0 (fun _ => 0) (fun _ => 0) (fun _ => 0) (fun _ => 0) 0)) hP hD [0] [] rfl rfl (by decide) (by decide) hk1 hFc hP1 hD1
  have hK := (hK.sub (tys' := []) [] rfl).app hK1
  generalize H1 = H at hP hS ⊢
  have hP : va_P D vwCl ([] ++ (wJ hj aj d 0 (fun _ => 0) (fun _ => 0) (fun _ => 0) (fun _ => 0) (fun _ => 0) 0 (fun _ => 0) 0 (fun _ => 0) (fun _ => 0) (fun _ => 0) (fun _ => 0) 0)) H := hP
  have hD : va_D (fun q : Nat => s.heap.size ≤ q) ([] ++ (wJ hj aj d 0 (fun _ => 0) (fun _ => 0) (fun _ => 0) (fun _ => 0) (fun _ => 0) 0 (fun _ => 0) 0 (fun _ => 0) (fun _ => 0) (fun _ => 0) (fun _ => 0) 0)) := hD
  have hK : va_K D vwCl [(d, .int)] s := hK
  refine W.widen (k := 11) (n := 671) (by omega) (by omega) ?_
  refine lv_astore_n (lv' := [(1, .ref hj), (0, .ref b)]) hx hb dL_law_7 rfl hl (by decide) rfl (fun ls hl => ?_)
  refine va_new (ci := 1) (fs := [.null, .int 0, .null, .null]) (C := RX1) (T := TX1) (N := 4) hx hb hts in_X1 tyX1 tyX1_ok hown (hts _ q170) (hts _ q171) (hts _ q19) hK hP hD hS hA rfl (fun j hj => by rcases (show j = 0 ∨ j = 1 ∨ j = 2 ∨ j = 3 by omega) with rfl | rfl | rfl | rfl <;> rfl) (Nat.le_of_ble_eq_true rfl) (Nat.le_of_ble_eq_true rfl) dL_law_8 (fun hm H hP hD hS => ?_)
  have hP : va_P D vwCl ((wJ hj aj d 0 (fun _ => 0) (fun _ => 0) (fun _ => 0) (fun _ => 0) (fun _ => 0) 0 (fun _ => 0) 0 (fun _ => 0) (fun _ => 0) (fun _ => 0) (fun _ => 0) 0) ++ [(hm, .inr (1, [.null, .int 0, .null, .null]))]) H := hP
  have hD : va_D (fun q : Nat => s.heap.size ≤ q) ((wJ hj aj d 0 (fun _ => 0) (fun _ => 0) (fun _ => 0) (fun _ => 0) (fun _ => 0) 0 (fun _ => 0) 0 (fun _ => 0) (fun _ => 0) (fun _ => 0) (fun _ => 0) 0) ++ [(hm, .inr (1, [.null, .int 0, .null, .null]))]) := hD
  refine W.widen (k := 12) (n := 675) (by omega) (by omega) ?_
  refine lv_dup hx hb dL_law_11 rfl ?_
  have hPc := hP.sub (ws' := [(hm, .inr (1, [.null, .int 0, .null, .null]))]) [11] rfl
  have hDc := hD.sub (ws' := [(hm, .inr (1, [.null, .int 0, .null, .null]))]) [11] (by decide) rfl
  have hKc := hK.sub (tys' := []) [] rfl
  have hFc := va_free (wc := [(hm, .inr (1, [.null, .int 0, .null, .null]))]) hD hS hA [11] rfl
  refine va_callv (va_runI (As := []) (rest := [.ref hm]) ⟨hx, hb, hml, hown, hts⟩ (mm_init l D hm H.size) (cwI 0 hts (lw_meth q174) rfl rfl rfl (hts _ q19) (hts _ q172) (hts _ q173) rfl (by decide +kernel) ⟨Nat.le_of_ble_eq_true rfl, Nat.le_of_ble_eq_true rfl⟩) ⟨fun a U g mk q => by obtain ⟨q0, q1, qP, qK, qD⟩ := q; exact ⟨q0, q1, qP, va_K.moved (u := U) (U := U.calling g mk a) (Vm.Alike.refl U.vm) qK, qD⟩, fun U hU hW => ⟨rfl, by rw [hU], by rw [hU]; exact hPc, va_K.moved hW.alike hKc, hDc.weaken (fun _ _ _ _ => trivial)⟩⟩ rfl rfl hl.1 rfl (lv_room (Nat.le_of_ble_eq_true rfl)) dL_law_12 ⟨Nat.le_of_ble_eq_true rfl, Nat.le_of_ble_eq_true rfl⟩) hS (fun q _ h => hFc q h) hFc (fun u t H1 locs ht hvm hw hB hz1 hk1 hS => ?_)
  obtain ⟨am, d2, z⟩ := u
  obtain ⟨hP1, hK1, hD1⟩ := hB
  rw [ht] at hP1
  have hK1 := va_K.moved hvm.symm hK1
  obtain ⟨hP, hD⟩ := va_join (wr := (wJ hj aj d 0 (fun _ => 0) (fun _ => 0) (fun _ => 0) (fun _ => 0) (fun _ => 0) 0 (fun _ => 0) 0 (fun _ => 0) (fun _ => 0) (fun _ => 0) (fun _ => 0) 0)) (w1 := (wM hm am d2 z (fun _ => 0) 0 (fun _ => 0) (fun _ => 0))) hP hD [11] [0, 1, 2, 3, 4, 5, 6, 7, 8, 9, 10] rfl rfl (by decide) (by decide) hk1 hFc hP1 hD1
  have hK := (hK.sub (tys' := [(d, .int)]) [0] rfl).app hK1
  generalize H1 = H at hP hS ⊢
  have hP : va_P D vwCl ((wJ hj aj d 0 (fun _ => 0) (fun _ => 0) (fun _ => 0) (fun _ => 0) (fun _ => 0) 0 (fun _ => 0) 0 (fun _ => 0) (fun _ => 0) (fun _ => 0) (fun _ => 0) 0) ++ (wM hm am d2 z (fun _ => 0) 0 (fun _ => 0) (fun _ => 0))) H := hP
  have hD : va_D (fun q : Nat => s.heap.size ≤ q) ((wJ hj aj d 0 (fun _ => 0) (fun _ => 0) (fun _ => 0) (fun _ => 0) (fun _ => 0) 0 (fun _ => 0) 0 (fun _ => 0) (fun _ => 0) (fun _ => 0) (fun _ => 0) 0) ++ (wM hm am d2 z (fun _ => 0) 0 (fun _ => 0) (fun _ => 0))) := hD
  have hK : va_K D vwCl [(d, .int), (d2, .int), (z, .boolean)] s := hK
  refine W.widen (k := 15) (n := 1203) (by omega) (by omega) ?_
  refine lv_astore_n (lv' := [(2, .ref hm), (1, .ref hj), (0, .ref b)]) hx hb dL_law_15 rfl hl (by decide) rfl (fun ls hl => ?_)
  refine lv_iconst (v := nI 0) hx hb dL_law_16 (by decide) ?_
  refine lv_istore_n (lv' := [(3, .int (nI 0)), (2, .ref hm), (1, .ref hj), (0, .ref b)]) hx hb dL_law_17 rfl hl (by decide) rfl (fun ls hl => ?_)
  have ed : d = d2 := Option.some.inj ((hK.2 0 _ rfl).2.symm.trans (hK.2 1 _ rfl).2)
  subst ed
  have hPJ : va_P D vwCl (wJ hj aj d 0 (fun _ => 0) (fun _ => 0) (fun _ => 0) (fun _ => 0) (fun _ => 0) 0 (fun _ => 0) 0 (fun _ => 0) (fun _ => 0) (fun _ => 0) (fun _ => 0) 0) H := hP.sub [0, 1, 2, 3, 4, 5, 6, 7, 8, 9, 10] rfl
  have hPM : va_P D vwCl (wM hm am d z (fun _ => 0) 0 (fun _ => 0) (fun _ => 0)) H := hP.sub [11, 12, 13, 14] rfl
  have hDJ : va_D (fun q : Nat => s.heap.size ≤ q) (wJ hj aj d 0 (fun _ => 0) (fun _ => 0) (fun _ => 0) (fun _ => 0) (fun _ => 0) 0 (fun _ => 0) 0 (fun _ => 0) (fun _ => 0) (fun _ => 0) (fun _ => 0) 0) := hD.sub [0, 1, 2, 3, 4, 5, 6, 7, 8, 9, 10] (by decide) rfl
  have hDM : va_D (fun q : Nat => s.heap.size ≤ q) (wM hm am d z (fun _ => 0) 0 (fun _ => 0) (fun _ => 0)) := hD.sub [11, 12, 13, 14] (by decide) rfl
  have hdis : ∀ q, oJ hj aj q → ¬ oM hm am q := tdisj hD
  refine W.widen (k := 600000) (n := 7290000) (by decide) (by decide) ?_
  exact law_loop (N := 0) (F := fun _ => false) hL C0 (hK.sub [0, 2] rfl) hDJ hDM hdis hPJ hPM hS tstart (lv_sub hl [0, 3, 2, 1] rfl)
end
section
set_option maxHeartbeats 4000000 in
theorem lw_walk (l : Launch) (b : Addr) (xs : List Int32) : MetFree l x (headSpec (Jvm.Cond.code x code maxLocals ret :: tables_1) room_1) (lw_P b xs) (fun _ _ _ _ _ => True) lw_Q := by
  refine MetFree.of_bodyS (code := code) (maxLocals := maxLocals) (ret := ret) (by decide) ?_ ?_
  · intro args s m h hn
    obtain ⟨meth, c, h1, h2, h3, h4, h5, h6, -, -⟩ := Cond.code_spec hn (atoms_spec (ws := Jvm.Cond.code x code maxLocals ret :: tables_1) h _ List.mem_cons_self)
    exact ⟨meth, c, h1, h2, h3, h4, h5, h6⟩
  · intro p e s m args below meth c s₁ B hml0 hP _
    obtain ⟨rfl, hx, hbd, hgv⟩ := hP
    obtain ⟨scr, harrAt, hlist, hof, hsmall⟩ := hx
    obtain ⟨hcb, hkn, -, -⟩ := State.arrayAt?_spec harrAt
    have hown : s.vm.findClass R_law = some m.cls := findClass_of_methodNamed B.named
    have hts0 : ∀ c ∈ (Jvm.Cond.code x code maxLocals ret :: tables_1), c.before #[Value.ref b] s = true := atoms_spec (ws := Jvm.Cond.code x code maxLocals ret :: tables_1) B.pre
    have hts : ∀ w ∈ lw_tbl, w.before #[Value.ref b] s = true := k2_hts_sels lw_privs (fun w hw => hts0 w (List.mem_cons_of_mem _ hw)) lw_privs_ok
    have hml : c.maxLocals = 4 := B.maxLocals_eq (hts0 _ List.mem_cons_self)
    have X₀ : Stand p l e room_1 s m #[Value.ref b] below meth c s₁ [] 0 0 := Stand.of_body B
    have hh0 : s₁.heap = s.heap := by rw [B.state]; rfl
    have hsz : scr.slots.size = xs.length := by rw [← Array.length_toList, hlist, List.length_map]
    have hval : ∀ j : Nat, j < xs.length → scr.slots[j]? = some (.int (xs.getD j 0)) := fun j hj => by
      rw [← Array.getElem?_toList, hlist]
      simp [hj]
    have hbl : b < s.heap.size := (Array.getElem?_eq_some_iff.mp hcb).1
    have hX : va_X b xs.length (fun j => xs.getD j 0) s s.heap := ⟨scr, hcb, hof, hkn, hsz, hval⟩
    have K : W p l e room_1 s m #[Value.ref b] below meth c s₁.heap [] 0 0 (lw_Z below #[Value.ref b] s) (entryFrame m ([Value.ref b] : List Value).toArray 4) := by
      rw [hh0]
      exact whole_start l hbd ⟨B.exec, B.bytes, B.returns, hml, hown, hts, hX, hbl, B.notSynchronized, hgv⟩
    obtain ⟨t, a1, o, b1, b2, b3⟩ := K s₁ rfl X₀
    exact ⟨t, o, a1, b1, b2, b3⟩
theorem lw_pre_spec {args : Array Value} {s : State} (h : (Jvm.Cond.and given_1 narrow_1).before args s = true) (hr : rest_1_c.before args s = true) : ∃ (b : Addr) (xs : List Int32), lw_P b xs args s := by
  have hs := flat_of_before _ h
  have hq := flat_of_before _ hr
  have hc : (Cond.count 1).before args s = true := hs _ (by decide +kernel)
  have harr : (Cond.arrayOf (.arg 0) .int).before args s = true := hs _ (by decide +kernel)
  have hle : (Cond.le (.length (.arg 0)) (.int 256)).before args s = true := hs _ (by decide +kernel)
  have hlen : (Cond.isInt (.length (.arg 0))).before args s = true := hq _ (by decide +kernel)
  have hall : (Cond.all (.arg 0) (.isInt (.elem (.arg 0) (.index 0)))).before args s = true := hq _ (by decide +kernel)
  obtain ⟨b, xs, hb, hx⟩ := State.ints_of_pre rfl harr hlen hall
  have hsm : xs.length < 2 ^ 31 := hx.choose_spec.2.2.2
  have hev : (Term.length (.arg 0)).eval args s none [] s = some (.int xs.length.toInt32) := hx.length_eval hb
  have hv := Cond.le_ints hev (show (Term.int 256).eval args s none [] s = some (.int 256) from rfl)
  have hd : xs.length.toInt32 ≤ 256 := by
    simpa [Cond.before, Cond.holds, hv] using hle
  have hN : xs.length ≤ 256 := (Int32.ofNat_le_ofNat hsm (by decide)).mp (show Int32.ofNat xs.length ≤ Int32.ofNat 256 from hd)
  exact ⟨b, xs, Cond.one_arg hc (show args[0]? = some (.ref b) from hb), hx, hN, h⟩
theorem lw_comes (l : Launch) : Comes l x (Jvm.Cond.code x code maxLocals ret :: tables_1) room_1 (fun tb e args s => Calls_1 tb e args s ∧ rest_1 tb e args s ∧ Pre_1 tb e args s)
    (fun _ _ args s o t => lw_Q args s o t) := by
  intro p e ha hc hk s m args below hf hfit hheap happ hpre
  obtain ⟨b, xs, hP⟩ := lw_pre_spec hpre.2.2 hpre.2.1
  obtain ⟨k, o, h1, h2, h3, hQ⟩ := lw_walk l b xs p e ha hc hk s m args below hf ((Spec.applies_iff_loose hf).mp happ).1 hP trivial
  exact ⟨k, o, h1, h2, h3, hQ⟩
theorem lw_frame {s t : State} {o : Outcome} {args : Array Value} (h : Framed s o t [] 600000 7290000) :
    Framed s o t (fieldLocs frame_1_writes args s ++ arrayLocs frame_1_arrays args s ++ staticLocs frame_1_statics s) 600000 7290000 := h
theorem lw_limb (L : Cond) (hL : ∀ (args : Array Value) (s t : State), L.after args s (.returned (some (.int 1))) t = true) :
    ArmFor flags0 classFile x code maxLocals ret World_1 tables_1 room_1 Calls_1 rest_1 Pre_1
      (fun tb e a s o t => postC L tb e a s o t ∧ Framed s o t (fieldLocs frame_1_writes a s ++ arrayLocs frame_1_arrays a s ++ staticLocs frame_1_statics s) 600000 7290000) := by
  intro l _ _ _ p e ha hc hk s m args below hf hfit hheap happ hpre
  obtain ⟨k, o, h1, h2, h3, rfl, hF⟩ := lw_comes l p e ha hc hk s m args below hf hfit hheap happ hpre
  exact ⟨k, _, h1, h2, h3, hL args s _, lw_frame hF⟩
theorem i_vc : Claimed_1_1 ∧ Claimed_1_2 := ⟨lw_limb limb_1_1 (fun args s t => by simp [limb_1_1, Cond.after, Cond.holds, Cond.value]), lw_limb limb_1_2 (fun args s t => Cond.after_iff.mpr (by
  first | (rw [show limb_1_2 = Cond.eq .result (.int 1) from rfl, Cond.eq_ints (x := 1) (y := 1) rfl rfl]; simp; done) | (simp [limb_1_2, Cond.value, Term.eval]; done)))⟩
end
