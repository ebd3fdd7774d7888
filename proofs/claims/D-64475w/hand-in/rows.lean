section
-- ===== PART A: goes FIRST, ahead of the names: the tables' words, and 'selects' of the private methods out of them =====
/-- a private method of a class that the tables say can be made, by its rows of tables_1 -/
def lw_okq (q : MethodName × Nat) : Prop := (q.1.cls ≠ "java/lang/invoke/MethodHandle" ∧ q.1.cls ≠ "java/lang/invoke/VarHandle") ∧ Cond.instantiable q.1.cls q.2 ∈ tables_1 ∧ Cond.privateMethod q.1 ∈ tables_1 ∧ Cond.instanceMethod q.1 ∈ tables_1
set_option maxRecDepth 100000
theorem lw_t1 {w : Cond} (h : w ∈ tables_1_1) : w ∈ tables_1 := List.mem_append_left _ h
theorem lw_t2 {w : Cond} (h : w ∈ tables_1_2) : w ∈ tables_1 := List.mem_append_right _ h
theorem lw_p0 : lw_okq (⟨"TreeScorer", "isLeaf", "(II)Z"⟩, 11) := ⟨⟨by decide +kernel, by decide +kernel⟩, lw_t1 (List.mem_of_getElem? (i := 4) rfl), lw_t1 (List.mem_of_getElem? (i := 53) rfl), lw_t1 (List.mem_of_getElem? (i := 54) rfl)⟩
theorem lw_p1 : lw_okq (⟨"TreeScorer", "moveUp", "(II)V"⟩, 11) := ⟨⟨by decide +kernel, by decide +kernel⟩, lw_t1 (List.mem_of_getElem? (i := 4) rfl), lw_t1 (List.mem_of_getElem? (i := 63) rfl), lw_t1 (List.mem_of_getElem? (i := 64) rfl)⟩
theorem lw_p2 : lw_okq (⟨"TreeScorer", "insert", "(IIII)V"⟩, 11) := ⟨⟨by decide +kernel, by decide +kernel⟩, lw_t1 (List.mem_of_getElem? (i := 4) rfl), lw_t1 (List.mem_of_getElem? (i := 67) rfl), lw_t1 (List.mem_of_getElem? (i := 68) rfl)⟩
theorem lw_p3 : lw_okq (⟨"TreeScorer", "copyFork", "(II)V"⟩, 11) := ⟨⟨by decide +kernel, by decide +kernel⟩, lw_t1 (List.mem_of_getElem? (i := 4) rfl), lw_t1 (List.mem_of_getElem? (i := 71) rfl), lw_t1 (List.mem_of_getElem? (i := 72) rfl)⟩
theorem lw_p4 : lw_okq (⟨"TreeScorer", "count", "()V"⟩, 11) := ⟨⟨by decide +kernel, by decide +kernel⟩, lw_t1 (List.mem_of_getElem? (i := 4) rfl), lw_t1 (List.mem_of_getElem? (i := 75) rfl), lw_t1 (List.mem_of_getElem? (i := 76) rfl)⟩
theorem lw_p5 : lw_okq (⟨"TreeScorer", "sift", "(I)V"⟩, 11) := ⟨⟨by decide +kernel, by decide +kernel⟩, lw_t1 (List.mem_of_getElem? (i := 4) rfl), lw_t1 (List.mem_of_getElem? (i := 103) rfl), lw_t1 (List.mem_of_getElem? (i := 104) rfl)⟩
theorem lw_p6 : lw_okq (⟨"TreeScorer", "firstLeft", "(I)I"⟩, 11) := ⟨⟨by decide +kernel, by decide +kernel⟩, lw_t1 (List.mem_of_getElem? (i := 4) rfl), lw_t1 (List.mem_of_getElem? (i := 113) rfl), lw_t1 (List.mem_of_getElem? (i := 114) rfl)⟩
theorem lw_p7 : lw_okq (⟨"TreeScorer", "scoreOf", "(I)I"⟩, 11) := ⟨⟨by decide +kernel, by decide +kernel⟩, lw_t1 (List.mem_of_getElem? (i := 4) rfl), lw_t1 (List.mem_of_getElem? (i := 121) rfl), lw_t1 (List.mem_of_getElem? (i := 122) rfl)⟩
theorem lw_p8 : lw_okq (⟨"TreeScorer", "canReach", "(II)Z"⟩, 11) := ⟨⟨by decide +kernel, by decide +kernel⟩, lw_t1 (List.mem_of_getElem? (i := 4) rfl), lw_t1 (List.mem_of_getElem? (i := 144) rfl), lw_t1 (List.mem_of_getElem? (i := 145) rfl)⟩
theorem lw_p9 : lw_okq (⟨"TreeScorer", "lowEnd", "(III)I"⟩, 11) := ⟨⟨by decide +kernel, by decide +kernel⟩, lw_t1 (List.mem_of_getElem? (i := 4) rfl), lw_t1 (List.mem_of_getElem? (i := 148) rfl), lw_t1 (List.mem_of_getElem? (i := 149) rfl)⟩
theorem lw_p10 : lw_okq (⟨"TreeScorer", "highEnd", "(III)I"⟩, 11) := ⟨⟨by decide +kernel, by decide +kernel⟩, lw_t1 (List.mem_of_getElem? (i := 4) rfl), lw_t1 (List.mem_of_getElem? (i := 152) rfl), lw_t1 (List.mem_of_getElem? (i := 153) rfl)⟩
theorem lw_p11 : lw_okq (⟨"TreeScorerModel", "find", "(II)I"⟩, 5) := ⟨⟨by decide +kernel, by decide +kernel⟩, lw_t1 (List.mem_of_getElem? (i := 164) rfl), lw_t1 (List.mem_of_getElem? (i := 190) rfl), lw_t1 (List.mem_of_getElem? (i := 191) rfl)⟩
theorem lw_p12 : lw_okq (⟨"TreeScorerModel", "tree", "(I)Z"⟩, 5) := ⟨⟨by decide +kernel, by decide +kernel⟩, lw_t1 (List.mem_of_getElem? (i := 164) rfl), lw_t1 (List.mem_of_getElem? (i := 194) rfl), lw_t1 (List.mem_of_getElem? (i := 195) rfl)⟩
theorem lw_p13 : lw_okq (⟨"TreeScorerModel", "point", "(I)Z"⟩, 5) := ⟨⟨by decide +kernel, by decide +kernel⟩, lw_t1 (List.mem_of_getElem? (i := 164) rfl), lw_t1 (List.mem_of_getElem? (i := 219) rfl), lw_t1 (List.mem_of_getElem? (i := 220) rfl)⟩
theorem lw_p14 : lw_okq (⟨"TreeScorerModel", "walk", "(II)I"⟩, 5) := ⟨⟨by decide +kernel, by decide +kernel⟩, lw_t1 (List.mem_of_getElem? (i := 164) rfl), lw_t1 (List.mem_of_getElem? (i := 224) rfl), lw_t1 (List.mem_of_getElem? (i := 225) rfl)⟩
theorem lw_p15 : lw_okq (⟨"TreeScorerModel", "behind", "(II)I"⟩, 5) := ⟨⟨by decide +kernel, by decide +kernel⟩, lw_t1 (List.mem_of_getElem? (i := 164) rfl), lw_t1 (List.mem_of_getElem? (i := 228) rfl), lw_t1 (List.mem_of_getElem? (i := 229) rfl)⟩
def lw_privs_1 : List (MethodName × Nat) := [(⟨"TreeScorer", "isLeaf", "(II)Z"⟩, 11), (⟨"TreeScorer", "moveUp", "(II)V"⟩, 11), (⟨"TreeScorer", "insert", "(IIII)V"⟩, 11), (⟨"TreeScorer", "copyFork", "(II)V"⟩, 11), (⟨"TreeScorer", "count", "()V"⟩, 11), (⟨"TreeScorer", "sift", "(I)V"⟩, 11), (⟨"TreeScorer", "firstLeft", "(I)I"⟩, 11), (⟨"TreeScorer", "scoreOf", "(I)I"⟩, 11), (⟨"TreeScorer", "canReach", "(II)Z"⟩, 11), (⟨"TreeScorer", "lowEnd", "(III)I"⟩, 11), (⟨"TreeScorer", "highEnd", "(III)I"⟩, 11), (⟨"TreeScorerModel", "find", "(II)I"⟩, 5), (⟨"TreeScorerModel", "tree", "(I)Z"⟩, 5), (⟨"TreeScorerModel", "point", "(I)Z"⟩, 5), (⟨"TreeScorerModel", "walk", "(II)I"⟩, 5), (⟨"TreeScorerModel", "behind", "(II)I"⟩, 5)]
theorem lw_r1 : ∀ q ∈ lw_privs_1, lw_okq q := List.forall_mem_cons.mpr ⟨lw_p0, List.forall_mem_cons.mpr ⟨lw_p1, List.forall_mem_cons.mpr ⟨lw_p2, List.forall_mem_cons.mpr ⟨lw_p3, List.forall_mem_cons.mpr ⟨lw_p4, List.forall_mem_cons.mpr ⟨lw_p5, List.forall_mem_cons.mpr ⟨lw_p6, List.forall_mem_cons.mpr ⟨lw_p7, List.forall_mem_cons.mpr ⟨lw_p8, List.forall_mem_cons.mpr ⟨lw_p9, List.forall_mem_cons.mpr ⟨lw_p10, List.forall_mem_cons.mpr ⟨lw_p11, List.forall_mem_cons.mpr ⟨lw_p12, List.forall_mem_cons.mpr ⟨lw_p13, List.forall_mem_cons.mpr ⟨lw_p14, List.forall_mem_cons.mpr ⟨lw_p15, fun _ h => absurd h List.not_mem_nil⟩⟩⟩⟩⟩⟩⟩⟩⟩⟩⟩⟩⟩⟩⟩⟩
theorem lw_p16 : lw_okq (⟨"TreeScorerModel", "with", "(III)I"⟩, 5) := ⟨⟨by decide +kernel, by decide +kernel⟩, lw_t1 (List.mem_of_getElem? (i := 164) rfl), lw_t2 (List.mem_of_getElem? (i := 5) rfl), lw_t2 (List.mem_of_getElem? (i := 6) rfl)⟩
theorem lw_p17 : lw_okq (⟨"TreeScorerModel", "box", "(II)Z"⟩, 5) := ⟨⟨by decide +kernel, by decide +kernel⟩, lw_t1 (List.mem_of_getElem? (i := 164) rfl), lw_t2 (List.mem_of_getElem? (i := 18) rfl), lw_t2 (List.mem_of_getElem? (i := 19) rfl)⟩
def lw_privs_2 : List (MethodName × Nat) := [(⟨"TreeScorerModel", "with", "(III)I"⟩, 5), (⟨"TreeScorerModel", "box", "(II)Z"⟩, 5)]
theorem lw_r2 : ∀ q ∈ lw_privs_2, lw_okq q := List.forall_mem_cons.mpr ⟨lw_p16, List.forall_mem_cons.mpr ⟨lw_p17, fun _ h => absurd h List.not_mem_nil⟩⟩
def lw_privs : List (MethodName × Nat) := lw_privs_1 ++ (lw_privs_2)
def lw_tbl : List Cond := k2_sels lw_privs ++ tables_1
theorem lw_privs_ok : ∀ q ∈ lw_privs, lw_okq q := by
  show ∀ q ∈ lw_privs_1 ++ (lw_privs_2), lw_okq q
  exact List.forall_mem_append.mpr ⟨lw_r1, lw_r2⟩
-- ===== ONE list of words for every method: the tables' words that hold all through a run =====
def lw_all : List Cond := lw_tbl.filter goodWord
/-- a word of the tables by its place: claim/WORDS.tsv -/
theorem lw_w {w : Cond} (i : Nat) (h : lw_tbl[i]? = some w) (g : goodWord w = true) : w ∈ lw_all := List.mem_filter.mpr ⟨List.mem_of_getElem? h, g⟩
theorem lw_all_tbl {w : Cond} (h : w ∈ lw_all) : w ∈ lw_tbl := (List.mem_filter.mp h).1
theorem lw_self : GoodIn lw_all lw_all := fun w h => ⟨h, good_of_word (List.mem_filter.mp h).2⟩
/-- a class's field words, by their places -/
theorem lw_in (ws : List Cond) (ps : List Nat) (hp : ws = ps.filterMap (fun i => lw_tbl[i]?)) (hg : ws.all goodWord = true) : ∀ w ∈ ws, w ∈ lw_all := by
  intro w h
  have h1 := List.all_eq_true.mp hg w h
  rw [hp] at h
  obtain ⟨i, -, hi⟩ := List.mem_filterMap.mp h
  exact lw_w i hi h1
/-- the words of a contract for the method y with code b, L locals, answer r -/
abbrev ws_ (y : MethodName) (b : ByteArray) (L : Nat) (r : Option FieldType) : List Cond := Cond.code y b L r :: lw_all
theorem lw_meth {y : MethodName} {b : ByteArray} {L : Nat} {r : Option FieldType} (h : Cond.code y b L r ∈ lw_all) : GoodIn lw_all (ws_ y b L r) := by
  intro w hw
  rcases List.mem_cons.mp hw with e | e
  · rw [e]
    exact lw_self _ h
  · exact lw_self _ e
theorem lw_app {a c : List Cond} (ha : ∀ w ∈ a, w ∈ lw_all) (hc : GoodIn lw_all c) : GoodIn lw_all (a ++ c) := by
  intro w hw
  rcases List.mem_append.mp hw with e | e
  · exact lw_self w (ha w e)
  · exact hc w e
/-- what a call through an object asks: cwV n hts (lw_V ..) -/
theorem lw_V {own : String} {idx : Nat} {C : String} {y : MethodName} {b : ByteArray} {L : Nat} {r : Option FieldType} (h1 : Cond.methodLink own idx y ∈ lw_all) (h2 : Cond.instanceMethod y ∈ lw_all) (h3 : Cond.selects C y y ∈ lw_all) (h4 : Cond.initialized C ∈ lw_all) (h5 : Cond.code y b L r ∈ lw_all) : GoodIn lw_all (wsV own idx C y (ws_ y b L r)) := by
  refine lw_app ?_ (lw_meth h5)
  intro w hw
  simp only [List.mem_cons, List.not_mem_nil, or_false] at hw
  rcases hw with e | e | e | e
  · rw [e]; exact h1
  · rw [e]; exact h2
  · rw [e]; exact h3
  · rw [e]; exact h4
/-- what a static call asks: va_cwS n hts (lw_S ..) -/
theorem lw_S {own : String} {idx : Nat} {y : MethodName} {b : ByteArray} {L : Nat} {r : Option FieldType} (h1 : Cond.methodLink own idx y ∈ lw_all) (h2 : Cond.static y ∈ lw_all) (h3 : Cond.initialized y.cls ∈ lw_all) (h4 : Cond.code y b L r ∈ lw_all) : GoodIn lw_all (va_wsS own idx y (ws_ y b L r)) := by
  refine lw_app ?_ (lw_meth h4)
  intro w hw
  simp only [List.mem_cons, List.not_mem_nil, or_false] at hw
  rcases hw with e | e | e
  · rw [e]; exact h1
  · rw [e]; exact h2
  · rw [e]; exact h3
/-- the words of a contract for a method WITH HANDLERS (hh: its table) -/
abbrev wsW_ (y : MethodName) (b : ByteArray) (L : Nat) (r : Option FieldType) (hh : List (Nat × Nat × Nat × Nat)) : List Cond := Cond.codeWith y b L r hh :: lw_all
theorem lw_methW {y : MethodName} {b : ByteArray} {L : Nat} {r : Option FieldType} {hh : List (Nat × Nat × Nat × Nat)} (h : Cond.codeWith y b L r hh ∈ lw_all) : GoodIn lw_all (wsW_ y b L r hh) := by
  intro w hw
  rcases List.mem_cons.mp hw with e | e
  · rw [e]
    exact lw_self _ h
  · exact lw_self _ e
/-- any list of words by their places (lw_in), good -/
theorem lw_good {ws : List Cond} (h : ∀ w ∈ ws, w ∈ lw_all) : GoodIn lw_all ws := fun w hw => lw_self w (h w hw)
/-- what a call of a method with handlers asks: vx_cwVW n hts (lw_VW ..), vx_cwSW n hts (lw_SW ..) -/
theorem lw_VW {own : String} {idx : Nat} {C : String} {y : MethodName} {b : ByteArray} {L : Nat} {r : Option FieldType} {hh : List (Nat × Nat × Nat × Nat)} (h1 : Cond.methodLink own idx y ∈ lw_all) (h2 : Cond.instanceMethod y ∈ lw_all) (h3 : Cond.selects C y y ∈ lw_all) (h4 : Cond.initialized C ∈ lw_all) (h5 : Cond.codeWith y b L r hh ∈ lw_all) : GoodIn lw_all (wsV own idx C y (wsW_ y b L r hh)) := by
  refine lw_app ?_ (lw_methW h5)
  intro w hw
  simp only [List.mem_cons, List.not_mem_nil, or_false] at hw
  rcases hw with e | e | e | e
  · rw [e]; exact h1
  · rw [e]; exact h2
  · rw [e]; exact h3
  · rw [e]; exact h4
theorem lw_SW {own : String} {idx : Nat} {y : MethodName} {b : ByteArray} {L : Nat} {r : Option FieldType} {hh : List (Nat × Nat × Nat × Nat)} (h1 : Cond.methodLink own idx y ∈ lw_all) (h2 : Cond.static y ∈ lw_all) (h3 : Cond.initialized y.cls ∈ lw_all) (h4 : Cond.codeWith y b L r hh ∈ lw_all) : GoodIn lw_all (va_wsS own idx y (wsW_ y b L r hh)) := by
  refine lw_app ?_ (lw_methW h4)
  intro w hw
  simp only [List.mem_cons, List.not_mem_nil, or_false] at hw
  rcases hw with e | e | e
  · rw [e]; exact h1
  · rw [e]; exact h2
  · rw [e]; exact h3
/-- a word by its place in its run of the tables -/
theorem lw_at {r : List Cond} (hr : ∀ w ∈ r, w ∈ lw_tbl) {w : Cond} (i : Nat) (h : r[i]? = some w) : w ∈ lw_tbl := hr w (List.mem_of_getElem? h)
theorem lw_g {w : Cond} (h : w ∈ lw_tbl) (g : goodWord w = true) : w ∈ lw_all := List.mem_filter.mpr ⟨h, g⟩
theorem lw_ms : ∀ w ∈ k2_sels lw_privs, w ∈ lw_tbl := fun w h => show w ∈ k2_sels lw_privs ++ tables_1 from List.mem_append_left _ h
theorem lw_m1 : ∀ w ∈ tables_1_1, w ∈ lw_tbl := fun w h => show w ∈ k2_sels lw_privs ++ tables_1 from List.mem_append_right (k2_sels lw_privs) (show w ∈ tables_1 from List.mem_append_left _ h)
theorem lw_m2 : ∀ w ∈ tables_1_2, w ∈ lw_tbl := fun w h => show w ∈ k2_sels lw_privs ++ tables_1 from List.mem_append_right (k2_sels lw_privs) (show w ∈ tables_1 from List.mem_append_right _ h)
theorem qs0 : (Cond.selects "TreeScorer" ⟨"TreeScorer", "isLeaf", "(II)Z"⟩ ⟨"TreeScorer", "isLeaf", "(II)Z"⟩) ∈ lw_all := lw_g (lw_at lw_ms 0 rfl) rfl
theorem qs1 : (Cond.selects "TreeScorer" ⟨"TreeScorer", "moveUp", "(II)V"⟩ ⟨"TreeScorer", "moveUp", "(II)V"⟩) ∈ lw_all := lw_g (lw_at lw_ms 1 rfl) rfl
theorem qs2 : (Cond.selects "TreeScorer" ⟨"TreeScorer", "insert", "(IIII)V"⟩ ⟨"TreeScorer", "insert", "(IIII)V"⟩) ∈ lw_all := lw_g (lw_at lw_ms 2 rfl) rfl
theorem qs3 : (Cond.selects "TreeScorer" ⟨"TreeScorer", "copyFork", "(II)V"⟩ ⟨"TreeScorer", "copyFork", "(II)V"⟩) ∈ lw_all := lw_g (lw_at lw_ms 3 rfl) rfl
theorem qs4 : (Cond.selects "TreeScorer" ⟨"TreeScorer", "count", "()V"⟩ ⟨"TreeScorer", "count", "()V"⟩) ∈ lw_all := lw_g (lw_at lw_ms 4 rfl) rfl
theorem qs5 : (Cond.selects "TreeScorer" ⟨"TreeScorer", "sift", "(I)V"⟩ ⟨"TreeScorer", "sift", "(I)V"⟩) ∈ lw_all := lw_g (lw_at lw_ms 5 rfl) rfl
theorem qs6 : (Cond.selects "TreeScorer" ⟨"TreeScorer", "firstLeft", "(I)I"⟩ ⟨"TreeScorer", "firstLeft", "(I)I"⟩) ∈ lw_all := lw_g (lw_at lw_ms 6 rfl) rfl
theorem qs7 : (Cond.selects "TreeScorer" ⟨"TreeScorer", "scoreOf", "(I)I"⟩ ⟨"TreeScorer", "scoreOf", "(I)I"⟩) ∈ lw_all := lw_g (lw_at lw_ms 7 rfl) rfl
theorem qs8 : (Cond.selects "TreeScorer" ⟨"TreeScorer", "canReach", "(II)Z"⟩ ⟨"TreeScorer", "canReach", "(II)Z"⟩) ∈ lw_all := lw_g (lw_at lw_ms 8 rfl) rfl
theorem qs9 : (Cond.selects "TreeScorer" ⟨"TreeScorer", "lowEnd", "(III)I"⟩ ⟨"TreeScorer", "lowEnd", "(III)I"⟩) ∈ lw_all := lw_g (lw_at lw_ms 9 rfl) rfl
theorem qs10 : (Cond.selects "TreeScorer" ⟨"TreeScorer", "highEnd", "(III)I"⟩ ⟨"TreeScorer", "highEnd", "(III)I"⟩) ∈ lw_all := lw_g (lw_at lw_ms 10 rfl) rfl
theorem qs11 : (Cond.selects "TreeScorerModel" ⟨"TreeScorerModel", "find", "(II)I"⟩ ⟨"TreeScorerModel", "find", "(II)I"⟩) ∈ lw_all := lw_g (lw_at lw_ms 11 rfl) rfl
theorem qs12 : (Cond.selects "TreeScorerModel" ⟨"TreeScorerModel", "tree", "(I)Z"⟩ ⟨"TreeScorerModel", "tree", "(I)Z"⟩) ∈ lw_all := lw_g (lw_at lw_ms 12 rfl) rfl
theorem qs13 : (Cond.selects "TreeScorerModel" ⟨"TreeScorerModel", "point", "(I)Z"⟩ ⟨"TreeScorerModel", "point", "(I)Z"⟩) ∈ lw_all := lw_g (lw_at lw_ms 13 rfl) rfl
theorem qs14 : (Cond.selects "TreeScorerModel" ⟨"TreeScorerModel", "walk", "(II)I"⟩ ⟨"TreeScorerModel", "walk", "(II)I"⟩) ∈ lw_all := lw_g (lw_at lw_ms 14 rfl) rfl
theorem qs15 : (Cond.selects "TreeScorerModel" ⟨"TreeScorerModel", "behind", "(II)I"⟩ ⟨"TreeScorerModel", "behind", "(II)I"⟩) ∈ lw_all := lw_g (lw_at lw_ms 15 rfl) rfl
theorem qs16 : (Cond.selects "TreeScorerModel" ⟨"TreeScorerModel", "with", "(III)I"⟩ ⟨"TreeScorerModel", "with", "(III)I"⟩) ∈ lw_all := lw_g (lw_at lw_ms 16 rfl) rfl
theorem qs17 : (Cond.selects "TreeScorerModel" ⟨"TreeScorerModel", "box", "(II)Z"⟩ ⟨"TreeScorerModel", "box", "(II)Z"⟩) ∈ lw_all := lw_g (lw_at lw_ms 17 rfl) rfl
end
section
set_option maxRecDepth 100000
/-! java/lang/Object -/
def RJ0 : String := "java/lang/Object"
abbrev cJ0_init : ByteArray := object_method_1_code
def yJ0_init : MethodName := ⟨RJ0, "<init>", "()V"⟩
theorem dJ0_init_0 : decode cJ0_init 0 = .ok (.return_, 1) := by decide +kernel
theorem q27 : (Jvm.Cond.instanceMethod ({ cls := "java/lang/Object", name := "<init>", desc := "()V" } : Jvm.MethodName)) ∈ lw_all := lw_g (lw_at lw_m1 9 rfl) rfl
theorem q28 : (Jvm.Cond.code ({ cls := "java/lang/Object", name := "<init>", desc := "()V" } : Jvm.MethodName) object_method_1_code (1 : Nat) (Option.none : Option Jvm.ClassFile.FieldType)) ∈ lw_all := lw_g (lw_at lw_m1 10 rfl) rfl
theorem q63 : (Jvm.Cond.arrayClass Jvm.ClassFile.FieldType.byte) ∈ lw_all := lw_g (lw_at lw_m1 45 rfl) rfl
theorem q64 : (Jvm.Cond.arrayClass Jvm.ClassFile.FieldType.int) ∈ lw_all := lw_g (lw_at lw_m1 46 rfl) rfl
theorem q65 : (Jvm.Cond.arrayClass Jvm.ClassFile.FieldType.short) ∈ lw_all := lw_g (lw_at lw_m1 47 rfl) rfl
/-! TreeScorer -/
def RX0 : String := "TreeScorer"
def TX0 : u_T := fun k => match k with
  | 0 => ("TreeScorer", "leafCounts", "[B", true)
  | 1 => ("TreeScorer", "values", "[I", true)
  | 2 => ("TreeScorer", "forkCount", "I", false)
  | 3 => ("TreeScorer", "treeOf", "[B", true)
  | 4 => ("TreeScorer", "featureOf", "[B", true)
  | 5 => ("TreeScorer", "limitOf", "[B", true)
  | 6 => ("TreeScorer", "firstLeaf", "[B", true)
  | 7 => ("TreeScorer", "lastLeft", "[B", true)
  | 8 => ("TreeScorer", "lastLeaf", "[B", true)
  | 9 => ("TreeScorer", "starts", "[B", true)
  | _ => ("TreeScorer", "left", "[S", true)
def tyX0 : Nat → FieldType := fun k => match k with
  | 0 => .array .byte
  | 1 => .array .int
  | 2 => .int
  | 3 => .array .byte
  | 4 => .array .byte
  | 5 => .array .byte
  | 6 => .array .byte
  | 7 => .array .byte
  | 8 => .array .byte
  | 9 => .array .byte
  | _ => .array .short
abbrev wsX00 : List Cond := u_ws RX0 TX0 11
theorem nmX0 : ∀ a, a < 11 → ∀ b, b < 11 → a ≠ b → (TX0 a).2.1 ≠ (TX0 b).2.1 := by decide +kernel
theorem tyX0_ok : ∀ k, k < 11 → parseFieldDescriptor (TX0 k).2.2.1 = some (tyX0 k) := by decide +kernel
abbrev cX0_init : ByteArray := prog_1_method_1_code
def yX0_init : MethodName := ⟨RX0, "<init>", "()V"⟩
abbrev cX0_split : ByteArray := prog_1_method_6_code
def yX0_split : MethodName := ⟨RX0, "split", "(IIII)I"⟩
abbrev cX0_isLeaf : ByteArray := prog_1_method_5_code
def yX0_isLeaf : MethodName := ⟨RX0, "isLeaf", "(II)Z"⟩
abbrev cX0_isTree : ByteArray := prog_1_method_2_code
def yX0_isTree : MethodName := ⟨RX0, "isTree", "(I)Z"⟩
abbrev cX0_isFeature : ByteArray := prog_1_method_3_code
def yX0_isFeature : MethodName := ⟨RX0, "isFeature", "(I)Z"⟩
abbrev cX0_moveUp : ByteArray := prog_1_method_7_code
def yX0_moveUp : MethodName := ⟨RX0, "moveUp", "(II)V"⟩
abbrev cX0_insert : ByteArray := prog_1_method_8_code
def yX0_insert : MethodName := ⟨RX0, "insert", "(IIII)V"⟩
abbrev cX0_copyFork : ByteArray := prog_1_method_9_code
def yX0_copyFork : MethodName := ⟨RX0, "copyFork", "(II)V"⟩
abbrev cX0_count : ByteArray := prog_1_method_10_code
def yX0_count : MethodName := ⟨RX0, "count", "()V"⟩
abbrev cX0_setValue : ByteArray := prog_1_method_11_code
def yX0_setValue : MethodName := ⟨RX0, "setValue", "(III)Z"⟩
abbrev cX0_clear : ByteArray := prog_1_method_12_code
def yX0_clear : MethodName := ⟨RX0, "clear", "(I)Z"⟩
abbrev cX0_leaves : ByteArray := prog_1_method_17_code
def yX0_leaves : MethodName := ⟨RX0, "leaves", "(I)I"⟩
abbrev cX0_value : ByteArray := prog_1_method_18_code
def yX0_value : MethodName := ⟨RX0, "value", "(II)I"⟩
abbrev cX0_leafOf : ByteArray := prog_1_method_19_code
def yX0_leafOf : MethodName := ⟨RX0, "leafOf", "(II)I"⟩
abbrev cX0_isPoint : ByteArray := prog_1_method_4_code
def yX0_isPoint : MethodName := ⟨RX0, "isPoint", "(I)Z"⟩
abbrev cX0_sift : ByteArray := prog_1_method_15_code
def yX0_sift : MethodName := ⟨RX0, "sift", "(I)V"⟩
abbrev cX0_featureIn : ByteArray := prog_1_method_13_code
def yX0_featureIn : MethodName := ⟨RX0, "featureIn", "(II)I"⟩
abbrev cX0_span : ByteArray := prog_1_method_14_code
def yX0_span : MethodName := ⟨RX0, "span", "(II)I"⟩
abbrev cX0_firstLeft : ByteArray := prog_1_method_16_code
def yX0_firstLeft : MethodName := ⟨RX0, "firstLeft", "(I)I"⟩
abbrev cX0_score : ByteArray := prog_1_method_20_code
def yX0_score : MethodName := ⟨RX0, "score", "(I)I"⟩
abbrev cX0_scoreOf : ByteArray := prog_1_method_21_code
def yX0_scoreOf : MethodName := ⟨RX0, "scoreOf", "(I)I"⟩
abbrev cX0_depth : ByteArray := prog_1_method_22_code
def yX0_depth : MethodName := ⟨RX0, "depth", "(I)I"⟩
abbrev cX0_leavesAlong : ByteArray := prog_1_method_24_code
def yX0_leavesAlong : MethodName := ⟨RX0, "leavesAlong", "(III)I"⟩
abbrev cX0_withFeature : ByteArray := prog_1_method_23_code
def yX0_withFeature : MethodName := ⟨RX0, "withFeature", "(III)I"⟩
abbrev cX0_bestValue : ByteArray := prog_1_method_25_code
def yX0_bestValue : MethodName := ⟨RX0, "bestValue", "(II)I"⟩
abbrev cX0_reachable : ByteArray := prog_1_method_29_code
def yX0_reachable : MethodName := ⟨RX0, "reachable", "(I)I"⟩
abbrev cX0_canReach : ByteArray := prog_1_method_28_code
def yX0_canReach : MethodName := ⟨RX0, "canReach", "(II)Z"⟩
abbrev cX0_lowEnd : ByteArray := prog_1_method_26_code
def yX0_lowEnd : MethodName := ⟨RX0, "lowEnd", "(III)I"⟩
abbrev cX0_highEnd : ByteArray := prog_1_method_27_code
def yX0_highEnd : MethodName := ⟨RX0, "highEnd", "(III)I"⟩
abbrev cX0_range : ByteArray := prog_1_method_30_code
def yX0_range : MethodName := ⟨RX0, "range", "(IIII)I"⟩
abbrev cX0_asks : ByteArray := prog_1_method_31_code
def yX0_asks : MethodName := ⟨RX0, "asks", "(I)I"⟩
theorem q19 : (Jvm.Cond.initialized "TreeScorer") ∈ lw_all := lw_g (lw_at lw_m1 1 rfl) rfl
theorem q22 : (Jvm.Cond.instantiable "TreeScorer" (11 : Nat)) ∈ lw_all := lw_g (lw_at lw_m1 4 rfl) rfl
theorem q24 : (Jvm.Cond.instanceMethod ({ cls := "TreeScorer", name := "<init>", desc := "()V" } : Jvm.MethodName)) ∈ lw_all := lw_g (lw_at lw_m1 6 rfl) rfl
theorem q25 : (Jvm.Cond.code ({ cls := "TreeScorer", name := "<init>", desc := "()V" } : Jvm.MethodName) prog_1_method_1_code (2 : Nat) (Option.none : Option Jvm.ClassFile.FieldType)) ∈ lw_all := lw_g (lw_at lw_m1 7 rfl) rfl
theorem q26 : (Jvm.Cond.methodLink "TreeScorer" (1 : Nat) ({ cls := "java/lang/Object", name := "<init>", desc := "()V" } : Jvm.MethodName)) ∈ lw_all := lw_g (lw_at lw_m1 8 rfl) rfl
theorem q29 : (Jvm.Cond.fieldLink "TreeScorer" (7 : Nat) "TreeScorer" "leafCounts" "[B") ∈ lw_all := lw_g (lw_at lw_m1 11 rfl) rfl
theorem q30 : (Jvm.Cond.fieldLink "TreeScorer" (13 : Nat) "TreeScorer" "values" "[I") ∈ lw_all := lw_g (lw_at lw_m1 12 rfl) rfl
theorem q31 : (Jvm.Cond.fieldLink "TreeScorer" (54 : Nat) "TreeScorer" "forkCount" "I") ∈ lw_all := lw_g (lw_at lw_m1 13 rfl) rfl
theorem q32 : (Jvm.Cond.fieldLink "TreeScorer" (17 : Nat) "TreeScorer" "treeOf" "[B") ∈ lw_all := lw_g (lw_at lw_m1 14 rfl) rfl
theorem q33 : (Jvm.Cond.fieldLink "TreeScorer" (20 : Nat) "TreeScorer" "featureOf" "[B") ∈ lw_all := lw_g (lw_at lw_m1 15 rfl) rfl
theorem q34 : (Jvm.Cond.fieldLink "TreeScorer" (23 : Nat) "TreeScorer" "limitOf" "[B") ∈ lw_all := lw_g (lw_at lw_m1 16 rfl) rfl
theorem q35 : (Jvm.Cond.fieldLink "TreeScorer" (26 : Nat) "TreeScorer" "firstLeaf" "[B") ∈ lw_all := lw_g (lw_at lw_m1 17 rfl) rfl
theorem q36 : (Jvm.Cond.fieldLink "TreeScorer" (29 : Nat) "TreeScorer" "lastLeft" "[B") ∈ lw_all := lw_g (lw_at lw_m1 18 rfl) rfl
theorem q37 : (Jvm.Cond.fieldLink "TreeScorer" (32 : Nat) "TreeScorer" "lastLeaf" "[B") ∈ lw_all := lw_g (lw_at lw_m1 19 rfl) rfl
theorem q38 : (Jvm.Cond.fieldLink "TreeScorer" (35 : Nat) "TreeScorer" "starts" "[B") ∈ lw_all := lw_g (lw_at lw_m1 20 rfl) rfl
theorem q39 : (Jvm.Cond.fieldLink "TreeScorer" (38 : Nat) "TreeScorer" "left" "[S") ∈ lw_all := lw_g (lw_at lw_m1 21 rfl) rfl
theorem q40 : (Jvm.Cond.laysFinal "TreeScorer" "TreeScorer" "leafCounts" "[B") ∈ lw_all := lw_g (lw_at lw_m1 22 rfl) rfl
theorem q41 : (Jvm.Cond.soleField "TreeScorer" "leafCounts") ∈ lw_all := lw_g (lw_at lw_m1 23 rfl) rfl
theorem q42 : (Jvm.Cond.laysFinal "TreeScorer" "TreeScorer" "values" "[I") ∈ lw_all := lw_g (lw_at lw_m1 24 rfl) rfl
theorem q43 : (Jvm.Cond.soleField "TreeScorer" "values") ∈ lw_all := lw_g (lw_at lw_m1 25 rfl) rfl
theorem q44 : (Jvm.Cond.lays "TreeScorer" "TreeScorer" "forkCount" "I") ∈ lw_all := lw_g (lw_at lw_m1 26 rfl) rfl
theorem q45 : (Jvm.Cond.soleField "TreeScorer" "forkCount") ∈ lw_all := lw_g (lw_at lw_m1 27 rfl) rfl
theorem q46 : (Jvm.Cond.laysFinal "TreeScorer" "TreeScorer" "treeOf" "[B") ∈ lw_all := lw_g (lw_at lw_m1 28 rfl) rfl
theorem q47 : (Jvm.Cond.soleField "TreeScorer" "treeOf") ∈ lw_all := lw_g (lw_at lw_m1 29 rfl) rfl
theorem q48 : (Jvm.Cond.laysFinal "TreeScorer" "TreeScorer" "featureOf" "[B") ∈ lw_all := lw_g (lw_at lw_m1 30 rfl) rfl
theorem q49 : (Jvm.Cond.soleField "TreeScorer" "featureOf") ∈ lw_all := lw_g (lw_at lw_m1 31 rfl) rfl
theorem q50 : (Jvm.Cond.laysFinal "TreeScorer" "TreeScorer" "limitOf" "[B") ∈ lw_all := lw_g (lw_at lw_m1 32 rfl) rfl
theorem q51 : (Jvm.Cond.soleField "TreeScorer" "limitOf") ∈ lw_all := lw_g (lw_at lw_m1 33 rfl) rfl
theorem q52 : (Jvm.Cond.laysFinal "TreeScorer" "TreeScorer" "firstLeaf" "[B") ∈ lw_all := lw_g (lw_at lw_m1 34 rfl) rfl
theorem q53 : (Jvm.Cond.soleField "TreeScorer" "firstLeaf") ∈ lw_all := lw_g (lw_at lw_m1 35 rfl) rfl
theorem q54 : (Jvm.Cond.laysFinal "TreeScorer" "TreeScorer" "lastLeft" "[B") ∈ lw_all := lw_g (lw_at lw_m1 36 rfl) rfl
theorem q55 : (Jvm.Cond.soleField "TreeScorer" "lastLeft") ∈ lw_all := lw_g (lw_at lw_m1 37 rfl) rfl
theorem q56 : (Jvm.Cond.laysFinal "TreeScorer" "TreeScorer" "lastLeaf" "[B") ∈ lw_all := lw_g (lw_at lw_m1 38 rfl) rfl
theorem q57 : (Jvm.Cond.soleField "TreeScorer" "lastLeaf") ∈ lw_all := lw_g (lw_at lw_m1 39 rfl) rfl
theorem q58 : (Jvm.Cond.laysFinal "TreeScorer" "TreeScorer" "starts" "[B") ∈ lw_all := lw_g (lw_at lw_m1 40 rfl) rfl
theorem q59 : (Jvm.Cond.soleField "TreeScorer" "starts") ∈ lw_all := lw_g (lw_at lw_m1 41 rfl) rfl
theorem q60 : (Jvm.Cond.laysFinal "TreeScorer" "TreeScorer" "left" "[S") ∈ lw_all := lw_g (lw_at lw_m1 42 rfl) rfl
theorem q61 : (Jvm.Cond.soleField "TreeScorer" "left") ∈ lw_all := lw_g (lw_at lw_m1 43 rfl) rfl
theorem q62 : (Jvm.Cond.superclass "TreeScorer" "java/lang/Object") ∈ lw_all := lw_g (lw_at lw_m1 44 rfl) rfl
theorem q67 : (Jvm.Cond.instanceMethod ({ cls := "TreeScorer", name := "split", desc := "(IIII)I" } : Jvm.MethodName)) ∈ lw_all := lw_g (lw_at lw_m1 49 rfl) rfl
theorem q68 : (Jvm.Cond.selects "TreeScorer" ({ cls := "TreeScorer", name := "split", desc := "(IIII)I" } : Jvm.MethodName) ({ cls := "TreeScorer", name := "split", desc := "(IIII)I" } : Jvm.MethodName)) ∈ lw_all := lw_g (lw_at lw_m1 50 rfl) rfl
theorem q69 : (Jvm.Cond.code ({ cls := "TreeScorer", name := "split", desc := "(IIII)I" } : Jvm.MethodName) prog_1_method_6_code (6 : Nat) (Option.some Jvm.ClassFile.FieldType.int)) ∈ lw_all := lw_g (lw_at lw_m1 51 rfl) rfl
theorem q70 : (Jvm.Cond.methodLink "TreeScorer" (47 : Nat) ({ cls := "TreeScorer", name := "isLeaf", desc := "(II)Z" } : Jvm.MethodName)) ∈ lw_all := lw_g (lw_at lw_m1 52 rfl) rfl
theorem q71 : (Jvm.Cond.privateMethod ({ cls := "TreeScorer", name := "isLeaf", desc := "(II)Z" } : Jvm.MethodName)) ∈ lw_tbl := lw_at lw_m1 53 rfl
theorem q72 : (Jvm.Cond.instanceMethod ({ cls := "TreeScorer", name := "isLeaf", desc := "(II)Z" } : Jvm.MethodName)) ∈ lw_all := lw_g (lw_at lw_m1 54 rfl) rfl
theorem q73 : (Jvm.Cond.code ({ cls := "TreeScorer", name := "isLeaf", desc := "(II)Z" } : Jvm.MethodName) prog_1_method_5_code (3 : Nat) (Option.some Jvm.ClassFile.FieldType.boolean)) ∈ lw_all := lw_g (lw_at lw_m1 55 rfl) rfl
theorem q74 : (Jvm.Cond.methodLink "TreeScorer" (43 : Nat) ({ cls := "TreeScorer", name := "isTree", desc := "(I)Z" } : Jvm.MethodName)) ∈ lw_all := lw_g (lw_at lw_m1 56 rfl) rfl
theorem q75 : (Jvm.Cond.static ({ cls := "TreeScorer", name := "isTree", desc := "(I)Z" } : Jvm.MethodName)) ∈ lw_all := lw_g (lw_at lw_m1 57 rfl) rfl
theorem q76 : (Jvm.Cond.code ({ cls := "TreeScorer", name := "isTree", desc := "(I)Z" } : Jvm.MethodName) prog_1_method_2_code (1 : Nat) (Option.some Jvm.ClassFile.FieldType.boolean)) ∈ lw_all := lw_g (lw_at lw_m1 58 rfl) rfl
theorem q77 : (Jvm.Cond.methodLink "TreeScorer" (51 : Nat) ({ cls := "TreeScorer", name := "isFeature", desc := "(I)Z" } : Jvm.MethodName)) ∈ lw_all := lw_g (lw_at lw_m1 59 rfl) rfl
theorem q78 : (Jvm.Cond.static ({ cls := "TreeScorer", name := "isFeature", desc := "(I)Z" } : Jvm.MethodName)) ∈ lw_all := lw_g (lw_at lw_m1 60 rfl) rfl
theorem q79 : (Jvm.Cond.code ({ cls := "TreeScorer", name := "isFeature", desc := "(I)Z" } : Jvm.MethodName) prog_1_method_3_code (1 : Nat) (Option.some Jvm.ClassFile.FieldType.boolean)) ∈ lw_all := lw_g (lw_at lw_m1 61 rfl) rfl
theorem q80 : (Jvm.Cond.methodLink "TreeScorer" (58 : Nat) ({ cls := "TreeScorer", name := "moveUp", desc := "(II)V" } : Jvm.MethodName)) ∈ lw_all := lw_g (lw_at lw_m1 62 rfl) rfl
theorem q81 : (Jvm.Cond.privateMethod ({ cls := "TreeScorer", name := "moveUp", desc := "(II)V" } : Jvm.MethodName)) ∈ lw_tbl := lw_at lw_m1 63 rfl
theorem q82 : (Jvm.Cond.instanceMethod ({ cls := "TreeScorer", name := "moveUp", desc := "(II)V" } : Jvm.MethodName)) ∈ lw_all := lw_g (lw_at lw_m1 64 rfl) rfl
theorem q83 : (Jvm.Cond.code ({ cls := "TreeScorer", name := "moveUp", desc := "(II)V" } : Jvm.MethodName) prog_1_method_7_code (3 : Nat) (Option.none : Option Jvm.ClassFile.FieldType)) ∈ lw_all := lw_g (lw_at lw_m1 65 rfl) rfl
theorem q84 : (Jvm.Cond.methodLink "TreeScorer" (62 : Nat) ({ cls := "TreeScorer", name := "insert", desc := "(IIII)V" } : Jvm.MethodName)) ∈ lw_all := lw_g (lw_at lw_m1 66 rfl) rfl
theorem q85 : (Jvm.Cond.privateMethod ({ cls := "TreeScorer", name := "insert", desc := "(IIII)V" } : Jvm.MethodName)) ∈ lw_tbl := lw_at lw_m1 67 rfl
theorem q86 : (Jvm.Cond.instanceMethod ({ cls := "TreeScorer", name := "insert", desc := "(IIII)V" } : Jvm.MethodName)) ∈ lw_all := lw_g (lw_at lw_m1 68 rfl) rfl
theorem q87 : (Jvm.Cond.code ({ cls := "TreeScorer", name := "insert", desc := "(IIII)V" } : Jvm.MethodName) prog_1_method_8_code (6 : Nat) (Option.none : Option Jvm.ClassFile.FieldType)) ∈ lw_all := lw_g (lw_at lw_m1 69 rfl) rfl
theorem q88 : (Jvm.Cond.methodLink "TreeScorer" (66 : Nat) ({ cls := "TreeScorer", name := "copyFork", desc := "(II)V" } : Jvm.MethodName)) ∈ lw_all := lw_g (lw_at lw_m1 70 rfl) rfl
theorem q89 : (Jvm.Cond.privateMethod ({ cls := "TreeScorer", name := "copyFork", desc := "(II)V" } : Jvm.MethodName)) ∈ lw_tbl := lw_at lw_m1 71 rfl
theorem q90 : (Jvm.Cond.instanceMethod ({ cls := "TreeScorer", name := "copyFork", desc := "(II)V" } : Jvm.MethodName)) ∈ lw_all := lw_g (lw_at lw_m1 72 rfl) rfl
theorem q91 : (Jvm.Cond.code ({ cls := "TreeScorer", name := "copyFork", desc := "(II)V" } : Jvm.MethodName) prog_1_method_9_code (3 : Nat) (Option.none : Option Jvm.ClassFile.FieldType)) ∈ lw_all := lw_g (lw_at lw_m1 73 rfl) rfl
theorem q92 : (Jvm.Cond.methodLink "TreeScorer" (69 : Nat) ({ cls := "TreeScorer", name := "count", desc := "()V" } : Jvm.MethodName)) ∈ lw_all := lw_g (lw_at lw_m1 74 rfl) rfl
theorem q93 : (Jvm.Cond.privateMethod ({ cls := "TreeScorer", name := "count", desc := "()V" } : Jvm.MethodName)) ∈ lw_tbl := lw_at lw_m1 75 rfl
theorem q94 : (Jvm.Cond.instanceMethod ({ cls := "TreeScorer", name := "count", desc := "()V" } : Jvm.MethodName)) ∈ lw_all := lw_g (lw_at lw_m1 76 rfl) rfl
theorem q95 : (Jvm.Cond.code ({ cls := "TreeScorer", name := "count", desc := "()V" } : Jvm.MethodName) prog_1_method_10_code (3 : Nat) (Option.none : Option Jvm.ClassFile.FieldType)) ∈ lw_all := lw_g (lw_at lw_m1 77 rfl) rfl
theorem q97 : (Jvm.Cond.instanceMethod ({ cls := "TreeScorer", name := "setValue", desc := "(III)Z" } : Jvm.MethodName)) ∈ lw_all := lw_g (lw_at lw_m1 79 rfl) rfl
theorem q98 : (Jvm.Cond.selects "TreeScorer" ({ cls := "TreeScorer", name := "setValue", desc := "(III)Z" } : Jvm.MethodName) ({ cls := "TreeScorer", name := "setValue", desc := "(III)Z" } : Jvm.MethodName)) ∈ lw_all := lw_g (lw_at lw_m1 80 rfl) rfl
theorem q99 : (Jvm.Cond.code ({ cls := "TreeScorer", name := "setValue", desc := "(III)Z" } : Jvm.MethodName) prog_1_method_11_code (4 : Nat) (Option.some Jvm.ClassFile.FieldType.boolean)) ∈ lw_all := lw_g (lw_at lw_m1 81 rfl) rfl
theorem q101 : (Jvm.Cond.instanceMethod ({ cls := "TreeScorer", name := "clear", desc := "(I)Z" } : Jvm.MethodName)) ∈ lw_all := lw_g (lw_at lw_m1 83 rfl) rfl
theorem q102 : (Jvm.Cond.selects "TreeScorer" ({ cls := "TreeScorer", name := "clear", desc := "(I)Z" } : Jvm.MethodName) ({ cls := "TreeScorer", name := "clear", desc := "(I)Z" } : Jvm.MethodName)) ∈ lw_all := lw_g (lw_at lw_m1 84 rfl) rfl
theorem q103 : (Jvm.Cond.code ({ cls := "TreeScorer", name := "clear", desc := "(I)Z" } : Jvm.MethodName) prog_1_method_12_code (4 : Nat) (Option.some Jvm.ClassFile.FieldType.boolean)) ∈ lw_all := lw_g (lw_at lw_m1 85 rfl) rfl
theorem q105 : (Jvm.Cond.instanceMethod ({ cls := "TreeScorer", name := "leaves", desc := "(I)I" } : Jvm.MethodName)) ∈ lw_all := lw_g (lw_at lw_m1 87 rfl) rfl
theorem q106 : (Jvm.Cond.selects "TreeScorer" ({ cls := "TreeScorer", name := "leaves", desc := "(I)I" } : Jvm.MethodName) ({ cls := "TreeScorer", name := "leaves", desc := "(I)I" } : Jvm.MethodName)) ∈ lw_all := lw_g (lw_at lw_m1 88 rfl) rfl
theorem q107 : (Jvm.Cond.code ({ cls := "TreeScorer", name := "leaves", desc := "(I)I" } : Jvm.MethodName) prog_1_method_17_code (2 : Nat) (Option.some Jvm.ClassFile.FieldType.int)) ∈ lw_all := lw_g (lw_at lw_m1 89 rfl) rfl
theorem q109 : (Jvm.Cond.instanceMethod ({ cls := "TreeScorer", name := "value", desc := "(II)I" } : Jvm.MethodName)) ∈ lw_all := lw_g (lw_at lw_m1 91 rfl) rfl
theorem q110 : (Jvm.Cond.selects "TreeScorer" ({ cls := "TreeScorer", name := "value", desc := "(II)I" } : Jvm.MethodName) ({ cls := "TreeScorer", name := "value", desc := "(II)I" } : Jvm.MethodName)) ∈ lw_all := lw_g (lw_at lw_m1 92 rfl) rfl
theorem q111 : (Jvm.Cond.code ({ cls := "TreeScorer", name := "value", desc := "(II)I" } : Jvm.MethodName) prog_1_method_18_code (3 : Nat) (Option.some Jvm.ClassFile.FieldType.int)) ∈ lw_all := lw_g (lw_at lw_m1 93 rfl) rfl
theorem q113 : (Jvm.Cond.instanceMethod ({ cls := "TreeScorer", name := "leafOf", desc := "(II)I" } : Jvm.MethodName)) ∈ lw_all := lw_g (lw_at lw_m1 95 rfl) rfl
theorem q114 : (Jvm.Cond.selects "TreeScorer" ({ cls := "TreeScorer", name := "leafOf", desc := "(II)I" } : Jvm.MethodName) ({ cls := "TreeScorer", name := "leafOf", desc := "(II)I" } : Jvm.MethodName)) ∈ lw_all := lw_g (lw_at lw_m1 96 rfl) rfl
theorem q115 : (Jvm.Cond.code ({ cls := "TreeScorer", name := "leafOf", desc := "(II)I" } : Jvm.MethodName) prog_1_method_19_code (3 : Nat) (Option.some Jvm.ClassFile.FieldType.int)) ∈ lw_all := lw_g (lw_at lw_m1 97 rfl) rfl
theorem q116 : (Jvm.Cond.methodLink "TreeScorer" (79 : Nat) ({ cls := "TreeScorer", name := "isPoint", desc := "(I)Z" } : Jvm.MethodName)) ∈ lw_all := lw_g (lw_at lw_m1 98 rfl) rfl
theorem q117 : (Jvm.Cond.static ({ cls := "TreeScorer", name := "isPoint", desc := "(I)Z" } : Jvm.MethodName)) ∈ lw_all := lw_g (lw_at lw_m1 99 rfl) rfl
theorem q118 : (Jvm.Cond.code ({ cls := "TreeScorer", name := "isPoint", desc := "(I)Z" } : Jvm.MethodName) prog_1_method_4_code (1 : Nat) (Option.some Jvm.ClassFile.FieldType.boolean)) ∈ lw_all := lw_g (lw_at lw_m1 100 rfl) rfl
theorem q119 : (Jvm.Cond.constant "TreeScorer" (42 : Nat) (65535 : Int32)) ∈ lw_all := lw_g (lw_at lw_m1 101 rfl) rfl
theorem q120 : (Jvm.Cond.methodLink "TreeScorer" (82 : Nat) ({ cls := "TreeScorer", name := "sift", desc := "(I)V" } : Jvm.MethodName)) ∈ lw_all := lw_g (lw_at lw_m1 102 rfl) rfl
theorem q121 : (Jvm.Cond.privateMethod ({ cls := "TreeScorer", name := "sift", desc := "(I)V" } : Jvm.MethodName)) ∈ lw_tbl := lw_at lw_m1 103 rfl
theorem q122 : (Jvm.Cond.instanceMethod ({ cls := "TreeScorer", name := "sift", desc := "(I)V" } : Jvm.MethodName)) ∈ lw_all := lw_g (lw_at lw_m1 104 rfl) rfl
theorem q123 : (Jvm.Cond.code ({ cls := "TreeScorer", name := "sift", desc := "(I)V" } : Jvm.MethodName) prog_1_method_15_code (7 : Nat) (Option.none : Option Jvm.ClassFile.FieldType)) ∈ lw_all := lw_g (lw_at lw_m1 105 rfl) rfl
theorem q124 : (Jvm.Cond.methodLink "TreeScorer" (72 : Nat) ({ cls := "TreeScorer", name := "featureIn", desc := "(II)I" } : Jvm.MethodName)) ∈ lw_all := lw_g (lw_at lw_m1 106 rfl) rfl
theorem q125 : (Jvm.Cond.static ({ cls := "TreeScorer", name := "featureIn", desc := "(II)I" } : Jvm.MethodName)) ∈ lw_all := lw_g (lw_at lw_m1 107 rfl) rfl
theorem q126 : (Jvm.Cond.code ({ cls := "TreeScorer", name := "featureIn", desc := "(II)I" } : Jvm.MethodName) prog_1_method_13_code (2 : Nat) (Option.some Jvm.ClassFile.FieldType.int)) ∈ lw_all := lw_g (lw_at lw_m1 108 rfl) rfl
theorem q127 : (Jvm.Cond.methodLink "TreeScorer" (76 : Nat) ({ cls := "TreeScorer", name := "span", desc := "(II)I" } : Jvm.MethodName)) ∈ lw_all := lw_g (lw_at lw_m1 109 rfl) rfl
theorem q128 : (Jvm.Cond.static ({ cls := "TreeScorer", name := "span", desc := "(II)I" } : Jvm.MethodName)) ∈ lw_all := lw_g (lw_at lw_m1 110 rfl) rfl
theorem q129 : (Jvm.Cond.code ({ cls := "TreeScorer", name := "span", desc := "(II)I" } : Jvm.MethodName) prog_1_method_14_code (2 : Nat) (Option.some Jvm.ClassFile.FieldType.int)) ∈ lw_all := lw_g (lw_at lw_m1 111 rfl) rfl
theorem q130 : (Jvm.Cond.methodLink "TreeScorer" (86 : Nat) ({ cls := "TreeScorer", name := "firstLeft", desc := "(I)I" } : Jvm.MethodName)) ∈ lw_all := lw_g (lw_at lw_m1 112 rfl) rfl
theorem q131 : (Jvm.Cond.privateMethod ({ cls := "TreeScorer", name := "firstLeft", desc := "(I)I" } : Jvm.MethodName)) ∈ lw_tbl := lw_at lw_m1 113 rfl
theorem q132 : (Jvm.Cond.instanceMethod ({ cls := "TreeScorer", name := "firstLeft", desc := "(I)I" } : Jvm.MethodName)) ∈ lw_all := lw_g (lw_at lw_m1 114 rfl) rfl
theorem q133 : (Jvm.Cond.code ({ cls := "TreeScorer", name := "firstLeft", desc := "(I)I" } : Jvm.MethodName) prog_1_method_16_code (3 : Nat) (Option.some Jvm.ClassFile.FieldType.int)) ∈ lw_all := lw_g (lw_at lw_m1 115 rfl) rfl
theorem q135 : (Jvm.Cond.instanceMethod ({ cls := "TreeScorer", name := "score", desc := "(I)I" } : Jvm.MethodName)) ∈ lw_all := lw_g (lw_at lw_m1 117 rfl) rfl
theorem q136 : (Jvm.Cond.selects "TreeScorer" ({ cls := "TreeScorer", name := "score", desc := "(I)I" } : Jvm.MethodName) ({ cls := "TreeScorer", name := "score", desc := "(I)I" } : Jvm.MethodName)) ∈ lw_all := lw_g (lw_at lw_m1 118 rfl) rfl
theorem q137 : (Jvm.Cond.code ({ cls := "TreeScorer", name := "score", desc := "(I)I" } : Jvm.MethodName) prog_1_method_20_code (2 : Nat) (Option.some Jvm.ClassFile.FieldType.int)) ∈ lw_all := lw_g (lw_at lw_m1 119 rfl) rfl
theorem q138 : (Jvm.Cond.methodLink "TreeScorer" (90 : Nat) ({ cls := "TreeScorer", name := "scoreOf", desc := "(I)I" } : Jvm.MethodName)) ∈ lw_all := lw_g (lw_at lw_m1 120 rfl) rfl
theorem q139 : (Jvm.Cond.privateMethod ({ cls := "TreeScorer", name := "scoreOf", desc := "(I)I" } : Jvm.MethodName)) ∈ lw_tbl := lw_at lw_m1 121 rfl
theorem q140 : (Jvm.Cond.instanceMethod ({ cls := "TreeScorer", name := "scoreOf", desc := "(I)I" } : Jvm.MethodName)) ∈ lw_all := lw_g (lw_at lw_m1 122 rfl) rfl
theorem q141 : (Jvm.Cond.code ({ cls := "TreeScorer", name := "scoreOf", desc := "(I)I" } : Jvm.MethodName) prog_1_method_21_code (5 : Nat) (Option.some Jvm.ClassFile.FieldType.int)) ∈ lw_all := lw_g (lw_at lw_m1 123 rfl) rfl
theorem q143 : (Jvm.Cond.instanceMethod ({ cls := "TreeScorer", name := "depth", desc := "(I)I" } : Jvm.MethodName)) ∈ lw_all := lw_g (lw_at lw_m1 125 rfl) rfl
theorem q144 : (Jvm.Cond.selects "TreeScorer" ({ cls := "TreeScorer", name := "depth", desc := "(I)I" } : Jvm.MethodName) ({ cls := "TreeScorer", name := "depth", desc := "(I)I" } : Jvm.MethodName)) ∈ lw_all := lw_g (lw_at lw_m1 126 rfl) rfl
theorem q145 : (Jvm.Cond.code ({ cls := "TreeScorer", name := "depth", desc := "(I)I" } : Jvm.MethodName) prog_1_method_22_code (5 : Nat) (Option.some Jvm.ClassFile.FieldType.int)) ∈ lw_all := lw_g (lw_at lw_m1 127 rfl) rfl
theorem q147 : (Jvm.Cond.instanceMethod ({ cls := "TreeScorer", name := "leavesAlong", desc := "(III)I" } : Jvm.MethodName)) ∈ lw_all := lw_g (lw_at lw_m1 129 rfl) rfl
theorem q148 : (Jvm.Cond.selects "TreeScorer" ({ cls := "TreeScorer", name := "leavesAlong", desc := "(III)I" } : Jvm.MethodName) ({ cls := "TreeScorer", name := "leavesAlong", desc := "(III)I" } : Jvm.MethodName)) ∈ lw_all := lw_g (lw_at lw_m1 130 rfl) rfl
theorem q149 : (Jvm.Cond.code ({ cls := "TreeScorer", name := "leavesAlong", desc := "(III)I" } : Jvm.MethodName) prog_1_method_24_code (7 : Nat) (Option.some Jvm.ClassFile.FieldType.int)) ∈ lw_all := lw_g (lw_at lw_m1 131 rfl) rfl
theorem q150 : (Jvm.Cond.methodLink "TreeScorer" (93 : Nat) ({ cls := "TreeScorer", name := "withFeature", desc := "(III)I" } : Jvm.MethodName)) ∈ lw_all := lw_g (lw_at lw_m1 132 rfl) rfl
theorem q151 : (Jvm.Cond.static ({ cls := "TreeScorer", name := "withFeature", desc := "(III)I" } : Jvm.MethodName)) ∈ lw_all := lw_g (lw_at lw_m1 133 rfl) rfl
theorem q152 : (Jvm.Cond.code ({ cls := "TreeScorer", name := "withFeature", desc := "(III)I" } : Jvm.MethodName) prog_1_method_23_code (3 : Nat) (Option.some Jvm.ClassFile.FieldType.int)) ∈ lw_all := lw_g (lw_at lw_m1 134 rfl) rfl
theorem q154 : (Jvm.Cond.instanceMethod ({ cls := "TreeScorer", name := "bestValue", desc := "(II)I" } : Jvm.MethodName)) ∈ lw_all := lw_g (lw_at lw_m1 136 rfl) rfl
theorem q155 : (Jvm.Cond.selects "TreeScorer" ({ cls := "TreeScorer", name := "bestValue", desc := "(II)I" } : Jvm.MethodName) ({ cls := "TreeScorer", name := "bestValue", desc := "(II)I" } : Jvm.MethodName)) ∈ lw_all := lw_g (lw_at lw_m1 137 rfl) rfl
theorem q156 : (Jvm.Cond.code ({ cls := "TreeScorer", name := "bestValue", desc := "(II)I" } : Jvm.MethodName) prog_1_method_25_code (8 : Nat) (Option.some Jvm.ClassFile.FieldType.int)) ∈ lw_all := lw_g (lw_at lw_m1 138 rfl) rfl
theorem q158 : (Jvm.Cond.instanceMethod ({ cls := "TreeScorer", name := "reachable", desc := "(I)I" } : Jvm.MethodName)) ∈ lw_all := lw_g (lw_at lw_m1 140 rfl) rfl
theorem q159 : (Jvm.Cond.selects "TreeScorer" ({ cls := "TreeScorer", name := "reachable", desc := "(I)I" } : Jvm.MethodName) ({ cls := "TreeScorer", name := "reachable", desc := "(I)I" } : Jvm.MethodName)) ∈ lw_all := lw_g (lw_at lw_m1 141 rfl) rfl
theorem q160 : (Jvm.Cond.code ({ cls := "TreeScorer", name := "reachable", desc := "(I)I" } : Jvm.MethodName) prog_1_method_29_code (4 : Nat) (Option.some Jvm.ClassFile.FieldType.int)) ∈ lw_all := lw_g (lw_at lw_m1 142 rfl) rfl
theorem q161 : (Jvm.Cond.methodLink "TreeScorer" (103 : Nat) ({ cls := "TreeScorer", name := "canReach", desc := "(II)Z" } : Jvm.MethodName)) ∈ lw_all := lw_g (lw_at lw_m1 143 rfl) rfl
theorem q162 : (Jvm.Cond.privateMethod ({ cls := "TreeScorer", name := "canReach", desc := "(II)Z" } : Jvm.MethodName)) ∈ lw_tbl := lw_at lw_m1 144 rfl
theorem q163 : (Jvm.Cond.instanceMethod ({ cls := "TreeScorer", name := "canReach", desc := "(II)Z" } : Jvm.MethodName)) ∈ lw_all := lw_g (lw_at lw_m1 145 rfl) rfl
theorem q164 : (Jvm.Cond.code ({ cls := "TreeScorer", name := "canReach", desc := "(II)Z" } : Jvm.MethodName) prog_1_method_28_code (5 : Nat) (Option.some Jvm.ClassFile.FieldType.boolean)) ∈ lw_all := lw_g (lw_at lw_m1 146 rfl) rfl
theorem q165 : (Jvm.Cond.methodLink "TreeScorer" (97 : Nat) ({ cls := "TreeScorer", name := "lowEnd", desc := "(III)I" } : Jvm.MethodName)) ∈ lw_all := lw_g (lw_at lw_m1 147 rfl) rfl
theorem q166 : (Jvm.Cond.privateMethod ({ cls := "TreeScorer", name := "lowEnd", desc := "(III)I" } : Jvm.MethodName)) ∈ lw_tbl := lw_at lw_m1 148 rfl
theorem q167 : (Jvm.Cond.instanceMethod ({ cls := "TreeScorer", name := "lowEnd", desc := "(III)I" } : Jvm.MethodName)) ∈ lw_all := lw_g (lw_at lw_m1 149 rfl) rfl
theorem q168 : (Jvm.Cond.code ({ cls := "TreeScorer", name := "lowEnd", desc := "(III)I" } : Jvm.MethodName) prog_1_method_26_code (7 : Nat) (Option.some Jvm.ClassFile.FieldType.int)) ∈ lw_all := lw_g (lw_at lw_m1 150 rfl) rfl
theorem q169 : (Jvm.Cond.methodLink "TreeScorer" (100 : Nat) ({ cls := "TreeScorer", name := "highEnd", desc := "(III)I" } : Jvm.MethodName)) ∈ lw_all := lw_g (lw_at lw_m1 151 rfl) rfl
theorem q170 : (Jvm.Cond.privateMethod ({ cls := "TreeScorer", name := "highEnd", desc := "(III)I" } : Jvm.MethodName)) ∈ lw_tbl := lw_at lw_m1 152 rfl
theorem q171 : (Jvm.Cond.instanceMethod ({ cls := "TreeScorer", name := "highEnd", desc := "(III)I" } : Jvm.MethodName)) ∈ lw_all := lw_g (lw_at lw_m1 153 rfl) rfl
theorem q172 : (Jvm.Cond.code ({ cls := "TreeScorer", name := "highEnd", desc := "(III)I" } : Jvm.MethodName) prog_1_method_27_code (7 : Nat) (Option.some Jvm.ClassFile.FieldType.int)) ∈ lw_all := lw_g (lw_at lw_m1 154 rfl) rfl
theorem q174 : (Jvm.Cond.instanceMethod ({ cls := "TreeScorer", name := "range", desc := "(IIII)I" } : Jvm.MethodName)) ∈ lw_all := lw_g (lw_at lw_m1 156 rfl) rfl
theorem q175 : (Jvm.Cond.selects "TreeScorer" ({ cls := "TreeScorer", name := "range", desc := "(IIII)I" } : Jvm.MethodName) ({ cls := "TreeScorer", name := "range", desc := "(IIII)I" } : Jvm.MethodName)) ∈ lw_all := lw_g (lw_at lw_m1 157 rfl) rfl
theorem q176 : (Jvm.Cond.code ({ cls := "TreeScorer", name := "range", desc := "(IIII)I" } : Jvm.MethodName) prog_1_method_30_code (5 : Nat) (Option.some Jvm.ClassFile.FieldType.int)) ∈ lw_all := lw_g (lw_at lw_m1 158 rfl) rfl
theorem q178 : (Jvm.Cond.instanceMethod ({ cls := "TreeScorer", name := "asks", desc := "(I)I" } : Jvm.MethodName)) ∈ lw_all := lw_g (lw_at lw_m1 160 rfl) rfl
theorem q179 : (Jvm.Cond.selects "TreeScorer" ({ cls := "TreeScorer", name := "asks", desc := "(I)I" } : Jvm.MethodName) ({ cls := "TreeScorer", name := "asks", desc := "(I)I" } : Jvm.MethodName)) ∈ lw_all := lw_g (lw_at lw_m1 161 rfl) rfl
theorem q180 : (Jvm.Cond.code ({ cls := "TreeScorer", name := "asks", desc := "(I)I" } : Jvm.MethodName) prog_1_method_31_code (2 : Nat) (Option.some Jvm.ClassFile.FieldType.int)) ∈ lw_all := lw_g (lw_at lw_m1 162 rfl) rfl
theorem in_X0 : ∀ w ∈ wsX00, w ∈ lw_all := lw_in wsX00 [40, 42, 44, 46, 48, 50, 52, 54, 56, 58, 60] (by decide +kernel) (by decide +kernel)
/-! TreeScorerModel -/
def RX1 : String := "TreeScorerModel"
def TX1 : u_T := fun k => match k with
  | 0 => ("TreeScorerModel", "size", "[I", false)
  | 1 => ("TreeScorerModel", "asked", "[I", false)
  | 2 => ("TreeScorerModel", "number", "[I", false)
  | 3 => ("TreeScorerModel", "low", "[I", false)
  | _ => ("TreeScorerModel", "high", "[I", false)
def tyX1 : Nat → FieldType := fun k => match k with
  | 0 => .array .int
  | 1 => .array .int
  | 2 => .array .int
  | 3 => .array .int
  | _ => .array .int
abbrev wsX10 : List Cond := u_ws RX1 TX1 5
theorem nmX1 : ∀ a, a < 5 → ∀ b, b < 5 → a ≠ b → (TX1 a).2.1 ≠ (TX1 b).2.1 := by decide +kernel
theorem tyX1_ok : ∀ k, k < 5 → parseFieldDescriptor (TX1 k).2.2.1 = some (tyX1 k) := by decide +kernel
abbrev cX1_init : ByteArray := prog_3_method_1_code
def yX1_init : MethodName := ⟨RX1, "<init>", "()V"⟩
abbrev cX1_split : ByteArray := prog_3_method_4_code
def yX1_split : MethodName := ⟨RX1, "split", "(IIII)I"⟩
abbrev cX1_find : ByteArray := prog_3_method_3_code
def yX1_find : MethodName := ⟨RX1, "find", "(II)I"⟩
abbrev cX1_tree : ByteArray := prog_3_method_2_code
def yX1_tree : MethodName := ⟨RX1, "tree", "(I)Z"⟩
abbrev cX1_leaves : ByteArray := prog_3_method_7_code
def yX1_leaves : MethodName := ⟨RX1, "leaves", "(I)I"⟩
abbrev cX1_setValue : ByteArray := prog_3_method_5_code
def yX1_setValue : MethodName := ⟨RX1, "setValue", "(III)Z"⟩
abbrev cX1_clear : ByteArray := prog_3_method_6_code
def yX1_clear : MethodName := ⟨RX1, "clear", "(I)Z"⟩
abbrev cX1_value : ByteArray := prog_3_method_8_code
def yX1_value : MethodName := ⟨RX1, "value", "(II)I"⟩
abbrev cX1_leafOf : ByteArray := prog_3_method_12_code
def yX1_leafOf : MethodName := ⟨RX1, "leafOf", "(II)I"⟩
abbrev cX1_point : ByteArray := prog_3_method_10_code
def yX1_point : MethodName := ⟨RX1, "point", "(I)Z"⟩
abbrev cX1_walk : ByteArray := prog_3_method_11_code
def yX1_walk : MethodName := ⟨RX1, "walk", "(II)I"⟩
abbrev cX1_behind : ByteArray := prog_3_method_9_code
def yX1_behind : MethodName := ⟨RX1, "behind", "(II)I"⟩
abbrev cX1_score : ByteArray := prog_3_method_13_code
def yX1_score : MethodName := ⟨RX1, "score", "(I)I"⟩
abbrev cX1_depth : ByteArray := prog_3_method_14_code
def yX1_depth : MethodName := ⟨RX1, "depth", "(I)I"⟩
abbrev cX1_leavesAlong : ByteArray := prog_3_method_16_code
def yX1_leavesAlong : MethodName := ⟨RX1, "leavesAlong", "(III)I"⟩
abbrev cX1_with : ByteArray := prog_3_method_15_code
def yX1_with : MethodName := ⟨RX1, "with", "(III)I"⟩
abbrev cX1_bestValue : ByteArray := prog_3_method_17_code
def yX1_bestValue : MethodName := ⟨RX1, "bestValue", "(II)I"⟩
abbrev cX1_reachable : ByteArray := prog_3_method_19_code
def yX1_reachable : MethodName := ⟨RX1, "reachable", "(I)I"⟩
abbrev cX1_box : ByteArray := prog_3_method_18_code
def yX1_box : MethodName := ⟨RX1, "box", "(II)Z"⟩
abbrev cX1_range : ByteArray := prog_3_method_20_code
def yX1_range : MethodName := ⟨RX1, "range", "(IIII)I"⟩
abbrev cX1_asks : ByteArray := prog_3_method_21_code
def yX1_asks : MethodName := ⟨RX1, "asks", "(I)I"⟩
theorem q20 : (Jvm.Cond.initialized "TreeScorerModel") ∈ lw_all := lw_g (lw_at lw_m1 2 rfl) rfl
theorem q182 : (Jvm.Cond.instantiable "TreeScorerModel" (5 : Nat)) ∈ lw_all := lw_g (lw_at lw_m1 164 rfl) rfl
theorem q184 : (Jvm.Cond.instanceMethod ({ cls := "TreeScorerModel", name := "<init>", desc := "()V" } : Jvm.MethodName)) ∈ lw_all := lw_g (lw_at lw_m1 166 rfl) rfl
theorem q185 : (Jvm.Cond.code ({ cls := "TreeScorerModel", name := "<init>", desc := "()V" } : Jvm.MethodName) prog_3_method_1_code (2 : Nat) (Option.none : Option Jvm.ClassFile.FieldType)) ∈ lw_all := lw_g (lw_at lw_m1 167 rfl) rfl
theorem q186 : (Jvm.Cond.methodLink "TreeScorerModel" (1 : Nat) ({ cls := "java/lang/Object", name := "<init>", desc := "()V" } : Jvm.MethodName)) ∈ lw_all := lw_g (lw_at lw_m1 168 rfl) rfl
theorem q187 : (Jvm.Cond.fieldLink "TreeScorerModel" (7 : Nat) "TreeScorerModel" "size" "[I") ∈ lw_all := lw_g (lw_at lw_m1 169 rfl) rfl
theorem q188 : (Jvm.Cond.fieldLink "TreeScorerModel" (13 : Nat) "TreeScorerModel" "asked" "[I") ∈ lw_all := lw_g (lw_at lw_m1 170 rfl) rfl
theorem q189 : (Jvm.Cond.fieldLink "TreeScorerModel" (16 : Nat) "TreeScorerModel" "number" "[I") ∈ lw_all := lw_g (lw_at lw_m1 171 rfl) rfl
theorem q190 : (Jvm.Cond.fieldLink "TreeScorerModel" (19 : Nat) "TreeScorerModel" "low" "[I") ∈ lw_all := lw_g (lw_at lw_m1 172 rfl) rfl
theorem q191 : (Jvm.Cond.fieldLink "TreeScorerModel" (22 : Nat) "TreeScorerModel" "high" "[I") ∈ lw_all := lw_g (lw_at lw_m1 173 rfl) rfl
theorem q192 : (Jvm.Cond.lays "TreeScorerModel" "TreeScorerModel" "size" "[I") ∈ lw_all := lw_g (lw_at lw_m1 174 rfl) rfl
theorem q193 : (Jvm.Cond.soleField "TreeScorerModel" "size") ∈ lw_all := lw_g (lw_at lw_m1 175 rfl) rfl
theorem q194 : (Jvm.Cond.lays "TreeScorerModel" "TreeScorerModel" "asked" "[I") ∈ lw_all := lw_g (lw_at lw_m1 176 rfl) rfl
theorem q195 : (Jvm.Cond.soleField "TreeScorerModel" "asked") ∈ lw_all := lw_g (lw_at lw_m1 177 rfl) rfl
theorem q196 : (Jvm.Cond.lays "TreeScorerModel" "TreeScorerModel" "number" "[I") ∈ lw_all := lw_g (lw_at lw_m1 178 rfl) rfl
theorem q197 : (Jvm.Cond.soleField "TreeScorerModel" "number") ∈ lw_all := lw_g (lw_at lw_m1 179 rfl) rfl
theorem q198 : (Jvm.Cond.lays "TreeScorerModel" "TreeScorerModel" "low" "[I") ∈ lw_all := lw_g (lw_at lw_m1 180 rfl) rfl
theorem q199 : (Jvm.Cond.soleField "TreeScorerModel" "low") ∈ lw_all := lw_g (lw_at lw_m1 181 rfl) rfl
theorem q200 : (Jvm.Cond.lays "TreeScorerModel" "TreeScorerModel" "high" "[I") ∈ lw_all := lw_g (lw_at lw_m1 182 rfl) rfl
theorem q201 : (Jvm.Cond.soleField "TreeScorerModel" "high") ∈ lw_all := lw_g (lw_at lw_m1 183 rfl) rfl
theorem q202 : (Jvm.Cond.superclass "TreeScorerModel" "java/lang/Object") ∈ lw_all := lw_g (lw_at lw_m1 184 rfl) rfl
theorem q204 : (Jvm.Cond.instanceMethod ({ cls := "TreeScorerModel", name := "split", desc := "(IIII)I" } : Jvm.MethodName)) ∈ lw_all := lw_g (lw_at lw_m1 186 rfl) rfl
theorem q205 : (Jvm.Cond.selects "TreeScorerModel" ({ cls := "TreeScorerModel", name := "split", desc := "(IIII)I" } : Jvm.MethodName) ({ cls := "TreeScorerModel", name := "split", desc := "(IIII)I" } : Jvm.MethodName)) ∈ lw_all := lw_g (lw_at lw_m1 187 rfl) rfl
theorem q206 : (Jvm.Cond.code ({ cls := "TreeScorerModel", name := "split", desc := "(IIII)I" } : Jvm.MethodName) prog_3_method_4_code (7 : Nat) (Option.some Jvm.ClassFile.FieldType.int)) ∈ lw_all := lw_g (lw_at lw_m1 188 rfl) rfl
theorem q207 : (Jvm.Cond.methodLink "TreeScorerModel" (29 : Nat) ({ cls := "TreeScorerModel", name := "find", desc := "(II)I" } : Jvm.MethodName)) ∈ lw_all := lw_g (lw_at lw_m1 189 rfl) rfl
theorem q208 : (Jvm.Cond.privateMethod ({ cls := "TreeScorerModel", name := "find", desc := "(II)I" } : Jvm.MethodName)) ∈ lw_tbl := lw_at lw_m1 190 rfl
theorem q209 : (Jvm.Cond.instanceMethod ({ cls := "TreeScorerModel", name := "find", desc := "(II)I" } : Jvm.MethodName)) ∈ lw_all := lw_g (lw_at lw_m1 191 rfl) rfl
theorem q210 : (Jvm.Cond.code ({ cls := "TreeScorerModel", name := "find", desc := "(II)I" } : Jvm.MethodName) prog_3_method_3_code (5 : Nat) (Option.some Jvm.ClassFile.FieldType.int)) ∈ lw_all := lw_g (lw_at lw_m1 192 rfl) rfl
theorem q211 : (Jvm.Cond.methodLink "TreeScorerModel" (25 : Nat) ({ cls := "TreeScorerModel", name := "tree", desc := "(I)Z" } : Jvm.MethodName)) ∈ lw_all := lw_g (lw_at lw_m1 193 rfl) rfl
theorem q212 : (Jvm.Cond.privateMethod ({ cls := "TreeScorerModel", name := "tree", desc := "(I)Z" } : Jvm.MethodName)) ∈ lw_tbl := lw_at lw_m1 194 rfl
theorem q213 : (Jvm.Cond.instanceMethod ({ cls := "TreeScorerModel", name := "tree", desc := "(I)Z" } : Jvm.MethodName)) ∈ lw_all := lw_g (lw_at lw_m1 195 rfl) rfl
theorem q214 : (Jvm.Cond.code ({ cls := "TreeScorerModel", name := "tree", desc := "(I)Z" } : Jvm.MethodName) prog_3_method_2_code (2 : Nat) (Option.some Jvm.ClassFile.FieldType.boolean)) ∈ lw_all := lw_g (lw_at lw_m1 196 rfl) rfl
theorem q215 : (Jvm.Cond.methodLink "TreeScorerModel" (33 : Nat) ({ cls := "TreeScorerModel", name := "leaves", desc := "(I)I" } : Jvm.MethodName)) ∈ lw_all := lw_g (lw_at lw_m1 197 rfl) rfl
theorem q216 : (Jvm.Cond.instanceMethod ({ cls := "TreeScorerModel", name := "leaves", desc := "(I)I" } : Jvm.MethodName)) ∈ lw_all := lw_g (lw_at lw_m1 198 rfl) rfl
theorem q217 : (Jvm.Cond.selects "TreeScorerModel" ({ cls := "TreeScorerModel", name := "leaves", desc := "(I)I" } : Jvm.MethodName) ({ cls := "TreeScorerModel", name := "leaves", desc := "(I)I" } : Jvm.MethodName)) ∈ lw_all := lw_g (lw_at lw_m1 199 rfl) rfl
theorem q218 : (Jvm.Cond.code ({ cls := "TreeScorerModel", name := "leaves", desc := "(I)I" } : Jvm.MethodName) prog_3_method_7_code (2 : Nat) (Option.some Jvm.ClassFile.FieldType.int)) ∈ lw_all := lw_g (lw_at lw_m1 200 rfl) rfl
theorem q220 : (Jvm.Cond.instanceMethod ({ cls := "TreeScorerModel", name := "setValue", desc := "(III)Z" } : Jvm.MethodName)) ∈ lw_all := lw_g (lw_at lw_m1 202 rfl) rfl
theorem q221 : (Jvm.Cond.selects "TreeScorerModel" ({ cls := "TreeScorerModel", name := "setValue", desc := "(III)Z" } : Jvm.MethodName) ({ cls := "TreeScorerModel", name := "setValue", desc := "(III)Z" } : Jvm.MethodName)) ∈ lw_all := lw_g (lw_at lw_m1 203 rfl) rfl
theorem q222 : (Jvm.Cond.code ({ cls := "TreeScorerModel", name := "setValue", desc := "(III)Z" } : Jvm.MethodName) prog_3_method_5_code (5 : Nat) (Option.some Jvm.ClassFile.FieldType.boolean)) ∈ lw_all := lw_g (lw_at lw_m1 204 rfl) rfl
theorem q224 : (Jvm.Cond.instanceMethod ({ cls := "TreeScorerModel", name := "clear", desc := "(I)Z" } : Jvm.MethodName)) ∈ lw_all := lw_g (lw_at lw_m1 206 rfl) rfl
theorem q225 : (Jvm.Cond.selects "TreeScorerModel" ({ cls := "TreeScorerModel", name := "clear", desc := "(I)Z" } : Jvm.MethodName) ({ cls := "TreeScorerModel", name := "clear", desc := "(I)Z" } : Jvm.MethodName)) ∈ lw_all := lw_g (lw_at lw_m1 207 rfl) rfl
theorem q226 : (Jvm.Cond.code ({ cls := "TreeScorerModel", name := "clear", desc := "(I)Z" } : Jvm.MethodName) prog_3_method_6_code (2 : Nat) (Option.some Jvm.ClassFile.FieldType.boolean)) ∈ lw_all := lw_g (lw_at lw_m1 208 rfl) rfl
theorem q229 : (Jvm.Cond.instanceMethod ({ cls := "TreeScorerModel", name := "value", desc := "(II)I" } : Jvm.MethodName)) ∈ lw_all := lw_g (lw_at lw_m1 211 rfl) rfl
theorem q230 : (Jvm.Cond.selects "TreeScorerModel" ({ cls := "TreeScorerModel", name := "value", desc := "(II)I" } : Jvm.MethodName) ({ cls := "TreeScorerModel", name := "value", desc := "(II)I" } : Jvm.MethodName)) ∈ lw_all := lw_g (lw_at lw_m1 212 rfl) rfl
theorem q231 : (Jvm.Cond.code ({ cls := "TreeScorerModel", name := "value", desc := "(II)I" } : Jvm.MethodName) prog_3_method_8_code (4 : Nat) (Option.some Jvm.ClassFile.FieldType.int)) ∈ lw_all := lw_g (lw_at lw_m1 213 rfl) rfl
theorem q233 : (Jvm.Cond.instanceMethod ({ cls := "TreeScorerModel", name := "leafOf", desc := "(II)I" } : Jvm.MethodName)) ∈ lw_all := lw_g (lw_at lw_m1 215 rfl) rfl
theorem q234 : (Jvm.Cond.selects "TreeScorerModel" ({ cls := "TreeScorerModel", name := "leafOf", desc := "(II)I" } : Jvm.MethodName) ({ cls := "TreeScorerModel", name := "leafOf", desc := "(II)I" } : Jvm.MethodName)) ∈ lw_all := lw_g (lw_at lw_m1 216 rfl) rfl
theorem q235 : (Jvm.Cond.code ({ cls := "TreeScorerModel", name := "leafOf", desc := "(II)I" } : Jvm.MethodName) prog_3_method_12_code (3 : Nat) (Option.some Jvm.ClassFile.FieldType.int)) ∈ lw_all := lw_g (lw_at lw_m1 217 rfl) rfl
theorem q236 : (Jvm.Cond.methodLink "TreeScorerModel" (41 : Nat) ({ cls := "TreeScorerModel", name := "point", desc := "(I)Z" } : Jvm.MethodName)) ∈ lw_all := lw_g (lw_at lw_m1 218 rfl) rfl
theorem q237 : (Jvm.Cond.privateMethod ({ cls := "TreeScorerModel", name := "point", desc := "(I)Z" } : Jvm.MethodName)) ∈ lw_tbl := lw_at lw_m1 219 rfl
theorem q238 : (Jvm.Cond.instanceMethod ({ cls := "TreeScorerModel", name := "point", desc := "(I)Z" } : Jvm.MethodName)) ∈ lw_all := lw_g (lw_at lw_m1 220 rfl) rfl
theorem q239 : (Jvm.Cond.code ({ cls := "TreeScorerModel", name := "point", desc := "(I)Z" } : Jvm.MethodName) prog_3_method_10_code (2 : Nat) (Option.some Jvm.ClassFile.FieldType.boolean)) ∈ lw_all := lw_g (lw_at lw_m1 221 rfl) rfl
theorem q240 : (Jvm.Cond.constant "TreeScorerModel" (37 : Nat) (65535 : Int32)) ∈ lw_all := lw_g (lw_at lw_m1 222 rfl) rfl
theorem q241 : (Jvm.Cond.methodLink "TreeScorerModel" (44 : Nat) ({ cls := "TreeScorerModel", name := "walk", desc := "(II)I" } : Jvm.MethodName)) ∈ lw_all := lw_g (lw_at lw_m1 223 rfl) rfl
theorem q242 : (Jvm.Cond.privateMethod ({ cls := "TreeScorerModel", name := "walk", desc := "(II)I" } : Jvm.MethodName)) ∈ lw_tbl := lw_at lw_m1 224 rfl
theorem q243 : (Jvm.Cond.instanceMethod ({ cls := "TreeScorerModel", name := "walk", desc := "(II)I" } : Jvm.MethodName)) ∈ lw_all := lw_g (lw_at lw_m1 225 rfl) rfl
theorem q244 : (Jvm.Cond.code ({ cls := "TreeScorerModel", name := "walk", desc := "(II)I" } : Jvm.MethodName) prog_3_method_11_code (7 : Nat) (Option.some Jvm.ClassFile.FieldType.int)) ∈ lw_all := lw_g (lw_at lw_m1 226 rfl) rfl
theorem q245 : (Jvm.Cond.methodLink "TreeScorerModel" (38 : Nat) ({ cls := "TreeScorerModel", name := "behind", desc := "(II)I" } : Jvm.MethodName)) ∈ lw_all := lw_g (lw_at lw_m1 227 rfl) rfl
theorem q246 : (Jvm.Cond.privateMethod ({ cls := "TreeScorerModel", name := "behind", desc := "(II)I" } : Jvm.MethodName)) ∈ lw_tbl := lw_at lw_m1 228 rfl
theorem q247 : (Jvm.Cond.instanceMethod ({ cls := "TreeScorerModel", name := "behind", desc := "(II)I" } : Jvm.MethodName)) ∈ lw_all := lw_g (lw_at lw_m1 229 rfl) rfl
theorem q248 : (Jvm.Cond.code ({ cls := "TreeScorerModel", name := "behind", desc := "(II)I" } : Jvm.MethodName) prog_3_method_9_code (5 : Nat) (Option.some Jvm.ClassFile.FieldType.int)) ∈ lw_all := lw_g (lw_at lw_m1 230 rfl) rfl
theorem q250 : (Jvm.Cond.instanceMethod ({ cls := "TreeScorerModel", name := "score", desc := "(I)I" } : Jvm.MethodName)) ∈ lw_all := lw_g (lw_at lw_m1 232 rfl) rfl
theorem q251 : (Jvm.Cond.selects "TreeScorerModel" ({ cls := "TreeScorerModel", name := "score", desc := "(I)I" } : Jvm.MethodName) ({ cls := "TreeScorerModel", name := "score", desc := "(I)I" } : Jvm.MethodName)) ∈ lw_all := lw_g (lw_at lw_m1 233 rfl) rfl
theorem q252 : (Jvm.Cond.code ({ cls := "TreeScorerModel", name := "score", desc := "(I)I" } : Jvm.MethodName) prog_3_method_13_code (5 : Nat) (Option.some Jvm.ClassFile.FieldType.int)) ∈ lw_all := lw_g (lw_at lw_m1 234 rfl) rfl
theorem q253 : (Jvm.Cond.methodLink "TreeScorerModel" (47 : Nat) ({ cls := "TreeScorerModel", name := "value", desc := "(II)I" } : Jvm.MethodName)) ∈ lw_all := lw_g (lw_at lw_m1 235 rfl) rfl
theorem q255 : (Jvm.Cond.instanceMethod ({ cls := "TreeScorerModel", name := "depth", desc := "(I)I" } : Jvm.MethodName)) ∈ lw_all := lw_g (lw_at lw_m1 237 rfl) rfl
theorem q256 : (Jvm.Cond.selects "TreeScorerModel" ({ cls := "TreeScorerModel", name := "depth", desc := "(I)I" } : Jvm.MethodName) ({ cls := "TreeScorerModel", name := "depth", desc := "(I)I" } : Jvm.MethodName)) ∈ lw_all := lw_g (lw_at lw_m1 238 rfl) rfl
theorem q257 : (Jvm.Cond.code ({ cls := "TreeScorerModel", name := "depth", desc := "(I)I" } : Jvm.MethodName) prog_3_method_14_code (4 : Nat) (Option.some Jvm.ClassFile.FieldType.int)) ∈ lw_all := lw_g (lw_at lw_m1 239 rfl) rfl
theorem q259 : (Jvm.Cond.instanceMethod ({ cls := "TreeScorerModel", name := "leavesAlong", desc := "(III)I" } : Jvm.MethodName)) ∈ lw_all := lw_g (lw_at lw_m2 1 rfl) rfl
theorem q260 : (Jvm.Cond.selects "TreeScorerModel" ({ cls := "TreeScorerModel", name := "leavesAlong", desc := "(III)I" } : Jvm.MethodName) ({ cls := "TreeScorerModel", name := "leavesAlong", desc := "(III)I" } : Jvm.MethodName)) ∈ lw_all := lw_g (lw_at lw_m2 2 rfl) rfl
theorem q261 : (Jvm.Cond.code ({ cls := "TreeScorerModel", name := "leavesAlong", desc := "(III)I" } : Jvm.MethodName) prog_3_method_16_code (7 : Nat) (Option.some Jvm.ClassFile.FieldType.int)) ∈ lw_all := lw_g (lw_at lw_m2 3 rfl) rfl
theorem q262 : (Jvm.Cond.methodLink "TreeScorerModel" (50 : Nat) ({ cls := "TreeScorerModel", name := "with", desc := "(III)I" } : Jvm.MethodName)) ∈ lw_all := lw_g (lw_at lw_m2 4 rfl) rfl
theorem q263 : (Jvm.Cond.privateMethod ({ cls := "TreeScorerModel", name := "with", desc := "(III)I" } : Jvm.MethodName)) ∈ lw_tbl := lw_at lw_m2 5 rfl
theorem q264 : (Jvm.Cond.instanceMethod ({ cls := "TreeScorerModel", name := "with", desc := "(III)I" } : Jvm.MethodName)) ∈ lw_all := lw_g (lw_at lw_m2 6 rfl) rfl
theorem q265 : (Jvm.Cond.code ({ cls := "TreeScorerModel", name := "with", desc := "(III)I" } : Jvm.MethodName) prog_3_method_15_code (4 : Nat) (Option.some Jvm.ClassFile.FieldType.int)) ∈ lw_all := lw_g (lw_at lw_m2 7 rfl) rfl
theorem q267 : (Jvm.Cond.instanceMethod ({ cls := "TreeScorerModel", name := "bestValue", desc := "(II)I" } : Jvm.MethodName)) ∈ lw_all := lw_g (lw_at lw_m2 9 rfl) rfl
theorem q268 : (Jvm.Cond.selects "TreeScorerModel" ({ cls := "TreeScorerModel", name := "bestValue", desc := "(II)I" } : Jvm.MethodName) ({ cls := "TreeScorerModel", name := "bestValue", desc := "(II)I" } : Jvm.MethodName)) ∈ lw_all := lw_g (lw_at lw_m2 10 rfl) rfl
theorem q269 : (Jvm.Cond.code ({ cls := "TreeScorerModel", name := "bestValue", desc := "(II)I" } : Jvm.MethodName) prog_3_method_17_code (9 : Nat) (Option.some Jvm.ClassFile.FieldType.int)) ∈ lw_all := lw_g (lw_at lw_m2 11 rfl) rfl
theorem q270 : (Jvm.Cond.methodLink "TreeScorerModel" (54 : Nat) ({ cls := "TreeScorerModel", name := "score", desc := "(I)I" } : Jvm.MethodName)) ∈ lw_all := lw_g (lw_at lw_m2 12 rfl) rfl
theorem q272 : (Jvm.Cond.instanceMethod ({ cls := "TreeScorerModel", name := "reachable", desc := "(I)I" } : Jvm.MethodName)) ∈ lw_all := lw_g (lw_at lw_m2 14 rfl) rfl
theorem q273 : (Jvm.Cond.selects "TreeScorerModel" ({ cls := "TreeScorerModel", name := "reachable", desc := "(I)I" } : Jvm.MethodName) ({ cls := "TreeScorerModel", name := "reachable", desc := "(I)I" } : Jvm.MethodName)) ∈ lw_all := lw_g (lw_at lw_m2 15 rfl) rfl
theorem q274 : (Jvm.Cond.code ({ cls := "TreeScorerModel", name := "reachable", desc := "(I)I" } : Jvm.MethodName) prog_3_method_19_code (4 : Nat) (Option.some Jvm.ClassFile.FieldType.int)) ∈ lw_all := lw_g (lw_at lw_m2 16 rfl) rfl
theorem q275 : (Jvm.Cond.methodLink "TreeScorerModel" (57 : Nat) ({ cls := "TreeScorerModel", name := "box", desc := "(II)Z" } : Jvm.MethodName)) ∈ lw_all := lw_g (lw_at lw_m2 17 rfl) rfl
theorem q276 : (Jvm.Cond.privateMethod ({ cls := "TreeScorerModel", name := "box", desc := "(II)Z" } : Jvm.MethodName)) ∈ lw_tbl := lw_at lw_m2 18 rfl
theorem q277 : (Jvm.Cond.instanceMethod ({ cls := "TreeScorerModel", name := "box", desc := "(II)Z" } : Jvm.MethodName)) ∈ lw_all := lw_g (lw_at lw_m2 19 rfl) rfl
theorem q278 : (Jvm.Cond.code ({ cls := "TreeScorerModel", name := "box", desc := "(II)Z" } : Jvm.MethodName) prog_3_method_18_code (9 : Nat) (Option.some Jvm.ClassFile.FieldType.boolean)) ∈ lw_all := lw_g (lw_at lw_m2 20 rfl) rfl
theorem q280 : (Jvm.Cond.instanceMethod ({ cls := "TreeScorerModel", name := "range", desc := "(IIII)I" } : Jvm.MethodName)) ∈ lw_all := lw_g (lw_at lw_m2 22 rfl) rfl
theorem q281 : (Jvm.Cond.selects "TreeScorerModel" ({ cls := "TreeScorerModel", name := "range", desc := "(IIII)I" } : Jvm.MethodName) ({ cls := "TreeScorerModel", name := "range", desc := "(IIII)I" } : Jvm.MethodName)) ∈ lw_all := lw_g (lw_at lw_m2 23 rfl) rfl
theorem q282 : (Jvm.Cond.code ({ cls := "TreeScorerModel", name := "range", desc := "(IIII)I" } : Jvm.MethodName) prog_3_method_20_code (5 : Nat) (Option.some Jvm.ClassFile.FieldType.int)) ∈ lw_all := lw_g (lw_at lw_m2 24 rfl) rfl
theorem q284 : (Jvm.Cond.instanceMethod ({ cls := "TreeScorerModel", name := "asks", desc := "(I)I" } : Jvm.MethodName)) ∈ lw_all := lw_g (lw_at lw_m2 26 rfl) rfl
theorem q285 : (Jvm.Cond.selects "TreeScorerModel" ({ cls := "TreeScorerModel", name := "asks", desc := "(I)I" } : Jvm.MethodName) ({ cls := "TreeScorerModel", name := "asks", desc := "(I)I" } : Jvm.MethodName)) ∈ lw_all := lw_g (lw_at lw_m2 27 rfl) rfl
theorem q286 : (Jvm.Cond.code ({ cls := "TreeScorerModel", name := "asks", desc := "(I)I" } : Jvm.MethodName) prog_3_method_21_code (4 : Nat) (Option.some Jvm.ClassFile.FieldType.int)) ∈ lw_all := lw_g (lw_at lw_m2 28 rfl) rfl
theorem in_X1 : ∀ w ∈ wsX10, w ∈ lw_all := lw_in wsX10 [192, 194, 196, 198, 200] (by decide +kernel) (by decide +kernel)
theorem q18 : (Jvm.Cond.initialized "TreeScorerLaw") ∈ lw_all := lw_g (lw_at lw_m1 0 rfl) rfl
theorem q21 : (Jvm.Cond.classLink "TreeScorerLaw" (7 : Nat) "TreeScorer") ∈ lw_all := lw_g (lw_at lw_m1 3 rfl) rfl
theorem q23 : (Jvm.Cond.methodLink "TreeScorerLaw" (9 : Nat) ({ cls := "TreeScorer", name := "<init>", desc := "()V" } : Jvm.MethodName)) ∈ lw_all := lw_g (lw_at lw_m1 5 rfl) rfl
theorem q66 : (Jvm.Cond.methodLink "TreeScorerLaw" (13 : Nat) ({ cls := "TreeScorer", name := "split", desc := "(IIII)I" } : Jvm.MethodName)) ∈ lw_all := lw_g (lw_at lw_m1 48 rfl) rfl
theorem q96 : (Jvm.Cond.methodLink "TreeScorerLaw" (18 : Nat) ({ cls := "TreeScorer", name := "setValue", desc := "(III)Z" } : Jvm.MethodName)) ∈ lw_all := lw_g (lw_at lw_m1 78 rfl) rfl
theorem q100 : (Jvm.Cond.methodLink "TreeScorerLaw" (23 : Nat) ({ cls := "TreeScorer", name := "clear", desc := "(I)Z" } : Jvm.MethodName)) ∈ lw_all := lw_g (lw_at lw_m1 82 rfl) rfl
theorem q104 : (Jvm.Cond.methodLink "TreeScorerLaw" (28 : Nat) ({ cls := "TreeScorer", name := "leaves", desc := "(I)I" } : Jvm.MethodName)) ∈ lw_all := lw_g (lw_at lw_m1 86 rfl) rfl
theorem q108 : (Jvm.Cond.methodLink "TreeScorerLaw" (33 : Nat) ({ cls := "TreeScorer", name := "value", desc := "(II)I" } : Jvm.MethodName)) ∈ lw_all := lw_g (lw_at lw_m1 90 rfl) rfl
theorem q112 : (Jvm.Cond.methodLink "TreeScorerLaw" (38 : Nat) ({ cls := "TreeScorer", name := "leafOf", desc := "(II)I" } : Jvm.MethodName)) ∈ lw_all := lw_g (lw_at lw_m1 94 rfl) rfl
theorem q134 : (Jvm.Cond.methodLink "TreeScorerLaw" (42 : Nat) ({ cls := "TreeScorer", name := "score", desc := "(I)I" } : Jvm.MethodName)) ∈ lw_all := lw_g (lw_at lw_m1 116 rfl) rfl
theorem q142 : (Jvm.Cond.methodLink "TreeScorerLaw" (46 : Nat) ({ cls := "TreeScorer", name := "depth", desc := "(I)I" } : Jvm.MethodName)) ∈ lw_all := lw_g (lw_at lw_m1 124 rfl) rfl
theorem q146 : (Jvm.Cond.methodLink "TreeScorerLaw" (50 : Nat) ({ cls := "TreeScorer", name := "leavesAlong", desc := "(III)I" } : Jvm.MethodName)) ∈ lw_all := lw_g (lw_at lw_m1 128 rfl) rfl
theorem q153 : (Jvm.Cond.methodLink "TreeScorerLaw" (55 : Nat) ({ cls := "TreeScorer", name := "bestValue", desc := "(II)I" } : Jvm.MethodName)) ∈ lw_all := lw_g (lw_at lw_m1 135 rfl) rfl
theorem q157 : (Jvm.Cond.methodLink "TreeScorerLaw" (59 : Nat) ({ cls := "TreeScorer", name := "reachable", desc := "(I)I" } : Jvm.MethodName)) ∈ lw_all := lw_g (lw_at lw_m1 139 rfl) rfl
theorem q173 : (Jvm.Cond.methodLink "TreeScorerLaw" (63 : Nat) ({ cls := "TreeScorer", name := "range", desc := "(IIII)I" } : Jvm.MethodName)) ∈ lw_all := lw_g (lw_at lw_m1 155 rfl) rfl
theorem q177 : (Jvm.Cond.methodLink "TreeScorerLaw" (67 : Nat) ({ cls := "TreeScorer", name := "asks", desc := "(I)I" } : Jvm.MethodName)) ∈ lw_all := lw_g (lw_at lw_m1 159 rfl) rfl
theorem q181 : (Jvm.Cond.classLink "TreeScorerLaw" (10 : Nat) "TreeScorerModel") ∈ lw_all := lw_g (lw_at lw_m1 163 rfl) rfl
theorem q183 : (Jvm.Cond.methodLink "TreeScorerLaw" (12 : Nat) ({ cls := "TreeScorerModel", name := "<init>", desc := "()V" } : Jvm.MethodName)) ∈ lw_all := lw_g (lw_at lw_m1 165 rfl) rfl
theorem q203 : (Jvm.Cond.methodLink "TreeScorerLaw" (17 : Nat) ({ cls := "TreeScorerModel", name := "split", desc := "(IIII)I" } : Jvm.MethodName)) ∈ lw_all := lw_g (lw_at lw_m1 185 rfl) rfl
theorem q219 : (Jvm.Cond.methodLink "TreeScorerLaw" (22 : Nat) ({ cls := "TreeScorerModel", name := "setValue", desc := "(III)Z" } : Jvm.MethodName)) ∈ lw_all := lw_g (lw_at lw_m1 201 rfl) rfl
theorem q223 : (Jvm.Cond.methodLink "TreeScorerLaw" (27 : Nat) ({ cls := "TreeScorerModel", name := "clear", desc := "(I)Z" } : Jvm.MethodName)) ∈ lw_all := lw_g (lw_at lw_m1 205 rfl) rfl
theorem q227 : (Jvm.Cond.methodLink "TreeScorerLaw" (32 : Nat) ({ cls := "TreeScorerModel", name := "leaves", desc := "(I)I" } : Jvm.MethodName)) ∈ lw_all := lw_g (lw_at lw_m1 209 rfl) rfl
theorem q228 : (Jvm.Cond.methodLink "TreeScorerLaw" (37 : Nat) ({ cls := "TreeScorerModel", name := "value", desc := "(II)I" } : Jvm.MethodName)) ∈ lw_all := lw_g (lw_at lw_m1 210 rfl) rfl
theorem q232 : (Jvm.Cond.methodLink "TreeScorerLaw" (41 : Nat) ({ cls := "TreeScorerModel", name := "leafOf", desc := "(II)I" } : Jvm.MethodName)) ∈ lw_all := lw_g (lw_at lw_m1 214 rfl) rfl
theorem q249 : (Jvm.Cond.methodLink "TreeScorerLaw" (45 : Nat) ({ cls := "TreeScorerModel", name := "score", desc := "(I)I" } : Jvm.MethodName)) ∈ lw_all := lw_g (lw_at lw_m1 231 rfl) rfl
theorem q254 : (Jvm.Cond.methodLink "TreeScorerLaw" (49 : Nat) ({ cls := "TreeScorerModel", name := "depth", desc := "(I)I" } : Jvm.MethodName)) ∈ lw_all := lw_g (lw_at lw_m1 236 rfl) rfl
theorem q258 : (Jvm.Cond.methodLink "TreeScorerLaw" (54 : Nat) ({ cls := "TreeScorerModel", name := "leavesAlong", desc := "(III)I" } : Jvm.MethodName)) ∈ lw_all := lw_g (lw_at lw_m2 0 rfl) rfl
theorem q266 : (Jvm.Cond.methodLink "TreeScorerLaw" (58 : Nat) ({ cls := "TreeScorerModel", name := "bestValue", desc := "(II)I" } : Jvm.MethodName)) ∈ lw_all := lw_g (lw_at lw_m2 8 rfl) rfl
theorem q271 : (Jvm.Cond.methodLink "TreeScorerLaw" (62 : Nat) ({ cls := "TreeScorerModel", name := "reachable", desc := "(I)I" } : Jvm.MethodName)) ∈ lw_all := lw_g (lw_at lw_m2 13 rfl) rfl
theorem q279 : (Jvm.Cond.methodLink "TreeScorerLaw" (66 : Nat) ({ cls := "TreeScorerModel", name := "range", desc := "(IIII)I" } : Jvm.MethodName)) ∈ lw_all := lw_g (lw_at lw_m2 21 rfl) rfl
theorem q283 : (Jvm.Cond.methodLink "TreeScorerLaw" (70 : Nat) ({ cls := "TreeScorerModel", name := "asks", desc := "(I)I" } : Jvm.MethodName)) ∈ lw_all := lw_g (lw_at lw_m2 25 rfl) rfl
/-! the law's own entry -/
abbrev cL_law : ByteArray := code
end
section
set_option maxRecDepth 100000
theorem dX0_init_0 : decode cX0_init 0 = .ok (.aload_n 0, 1) := by decide +kernel
theorem dX0_init_1 : decode cX0_init 1 = .ok (.invokespecial 1, 3) := by decide +kernel
theorem dX0_init_4 : decode cX0_init 4 = .ok (.aload_n 0, 1) := by decide +kernel
theorem dX0_init_5 : decode cX0_init 5 = .ok (.iconst 4, 1) := by decide +kernel
theorem dX0_init_6 : decode cX0_init 6 = .ok (.newarray .byte, 2) := by decide +kernel
theorem dX0_init_8 : decode cX0_init 8 = .ok (.putfield 7, 3) := by decide +kernel
theorem dX0_init_11 : decode cX0_init 11 = .ok (.aload_n 0, 1) := by decide +kernel
theorem dX0_init_12 : decode cX0_init 12 = .ok (.bipush 32, 2) := by decide +kernel
theorem dX0_init_14 : decode cX0_init 14 = .ok (.newarray .int, 2) := by decide +kernel
theorem dX0_init_16 : decode cX0_init 16 = .ok (.putfield 13, 3) := by decide +kernel
theorem dX0_init_19 : decode cX0_init 19 = .ok (.aload_n 0, 1) := by decide +kernel
theorem dX0_init_20 : decode cX0_init 20 = .ok (.bipush 28, 2) := by decide +kernel
theorem dX0_init_22 : decode cX0_init 22 = .ok (.newarray .byte, 2) := by decide +kernel
theorem dX0_init_24 : decode cX0_init 24 = .ok (.putfield 17, 3) := by decide +kernel
theorem dX0_init_27 : decode cX0_init 27 = .ok (.aload_n 0, 1) := by decide +kernel
theorem dX0_init_28 : decode cX0_init 28 = .ok (.bipush 28, 2) := by decide +kernel
theorem dX0_init_30 : decode cX0_init 30 = .ok (.newarray .byte, 2) := by decide +kernel
theorem dX0_init_32 : decode cX0_init 32 = .ok (.putfield 20, 3) := by decide +kernel
theorem dX0_init_35 : decode cX0_init 35 = .ok (.aload_n 0, 1) := by decide +kernel
theorem dX0_init_36 : decode cX0_init 36 = .ok (.bipush 28, 2) := by decide +kernel
theorem dX0_init_38 : decode cX0_init 38 = .ok (.newarray .byte, 2) := by decide +kernel
theorem dX0_init_40 : decode cX0_init 40 = .ok (.putfield 23, 3) := by decide +kernel
theorem dX0_init_43 : decode cX0_init 43 = .ok (.aload_n 0, 1) := by decide +kernel
theorem dX0_init_44 : decode cX0_init 44 = .ok (.bipush 28, 2) := by decide +kernel
theorem dX0_init_46 : decode cX0_init 46 = .ok (.newarray .byte, 2) := by decide +kernel
theorem dX0_init_48 : decode cX0_init 48 = .ok (.putfield 26, 3) := by decide +kernel
theorem dX0_init_51 : decode cX0_init 51 = .ok (.aload_n 0, 1) := by decide +kernel
theorem dX0_init_52 : decode cX0_init 52 = .ok (.bipush 28, 2) := by decide +kernel
theorem dX0_init_54 : decode cX0_init 54 = .ok (.newarray .byte, 2) := by decide +kernel
theorem dX0_init_56 : decode cX0_init 56 = .ok (.putfield 29, 3) := by decide +kernel
theorem dX0_init_59 : decode cX0_init 59 = .ok (.aload_n 0, 1) := by decide +kernel
theorem dX0_init_60 : decode cX0_init 60 = .ok (.bipush 28, 2) := by decide +kernel
theorem dX0_init_62 : decode cX0_init 62 = .ok (.newarray .byte, 2) := by decide +kernel
theorem dX0_init_64 : decode cX0_init 64 = .ok (.putfield 32, 3) := by decide +kernel
theorem dX0_init_67 : decode cX0_init 67 = .ok (.aload_n 0, 1) := by decide +kernel
theorem dX0_init_68 : decode cX0_init 68 = .ok (.iconst 5, 1) := by decide +kernel
theorem dX0_init_69 : decode cX0_init 69 = .ok (.newarray .byte, 2) := by decide +kernel
theorem dX0_init_71 : decode cX0_init 71 = .ok (.putfield 35, 3) := by decide +kernel
theorem dX0_init_74 : decode cX0_init 74 = .ok (.aload_n 0, 1) := by decide +kernel
theorem dX0_init_75 : decode cX0_init 75 = .ok (.iconst 4, 1) := by decide +kernel
theorem dX0_init_76 : decode cX0_init 76 = .ok (.newarray .short, 2) := by decide +kernel
theorem dX0_init_78 : decode cX0_init 78 = .ok (.putfield 38, 3) := by decide +kernel
theorem dX0_init_81 : decode cX0_init 81 = .ok (.iconst 0, 1) := by decide +kernel
theorem dX0_init_82 : decode cX0_init 82 = .ok (.istore_n 1, 1) := by decide +kernel
theorem dX0_init_83 : decode cX0_init 83 = .ok (.iload_n 1, 1) := by decide +kernel
theorem dX0_init_84 : decode cX0_init 84 = .ok (.iconst 4, 1) := by decide +kernel
theorem dX0_init_85 : decode cX0_init 85 = .ok (.if_icmp .ge 16, 3) := by decide +kernel
theorem dX0_init_88 : decode cX0_init 88 = .ok (.aload_n 0, 1) := by decide +kernel
theorem dX0_init_89 : decode cX0_init 89 = .ok (.getfield 7, 3) := by decide +kernel
theorem dX0_init_92 : decode cX0_init 92 = .ok (.iload_n 1, 1) := by decide +kernel
theorem dX0_init_93 : decode cX0_init 93 = .ok (.iconst 1, 1) := by decide +kernel
theorem dX0_init_94 : decode cX0_init 94 = .ok (.bastore, 1) := by decide +kernel
theorem dX0_init_95 : decode cX0_init 95 = .ok (.iinc 1 1, 3) := by decide +kernel
theorem dX0_init_98 : decode cX0_init 98 = .ok (.goto (-15), 3) := by decide +kernel
theorem dX0_init_101 : decode cX0_init 101 = .ok (.return_, 1) := by decide +kernel
theorem dX0_split_0 : decode cX0_split 0 = .ok (.aload_n 0, 1) := by decide +kernel
theorem dX0_split_1 : decode cX0_split 1 = .ok (.iload_n 1, 1) := by decide +kernel
theorem dX0_split_2 : decode cX0_split 2 = .ok (.iload_n 2, 1) := by decide +kernel
theorem dX0_split_3 : decode cX0_split 3 = .ok (.invokevirtual 47, 3) := by decide +kernel
theorem dX0_split_6 : decode cX0_split 6 = .ok (.ifCond .eq 22, 3) := by decide +kernel
theorem dX0_split_9 : decode cX0_split 9 = .ok (.iload_n 3, 1) := by decide +kernel
theorem dX0_split_10 : decode cX0_split 10 = .ok (.invokestatic 51, 3) := by decide +kernel
theorem dX0_split_13 : decode cX0_split 13 = .ok (.ifCond .eq 15, 3) := by decide +kernel
theorem dX0_split_16 : decode cX0_split 16 = .ok (.iload 4, 2) := by decide +kernel
theorem dX0_split_18 : decode cX0_split 18 = .ok (.ifCond .lt 10, 3) := by decide +kernel
theorem dX0_split_21 : decode cX0_split 21 = .ok (.iload 4, 2) := by decide +kernel
theorem dX0_split_23 : decode cX0_split 23 = .ok (.bipush 15, 2) := by decide +kernel
theorem dX0_split_25 : decode cX0_split 25 = .ok (.if_icmp .le 5, 3) := by decide +kernel
theorem dX0_split_28 : decode cX0_split 28 = .ok (.iconst (-1), 1) := by decide +kernel
theorem dX0_split_29 : decode cX0_split 29 = .ok (.ireturn, 1) := by decide +kernel
theorem dX0_split_30 : decode cX0_split 30 = .ok (.aload_n 0, 1) := by decide +kernel
theorem dX0_split_31 : decode cX0_split 31 = .ok (.getfield 7, 3) := by decide +kernel
theorem dX0_split_34 : decode cX0_split 34 = .ok (.iload_n 1, 1) := by decide +kernel
theorem dX0_split_35 : decode cX0_split 35 = .ok (.baload, 1) := by decide +kernel
theorem dX0_split_36 : decode cX0_split 36 = .ok (.bipush 8, 2) := by decide +kernel
theorem dX0_split_38 : decode cX0_split 38 = .ok (.if_icmp .lt 6, 3) := by decide +kernel
theorem dX0_split_41 : decode cX0_split 41 = .ok (.bipush (-2), 2) := by decide +kernel
theorem dX0_split_43 : decode cX0_split 43 = .ok (.ireturn, 1) := by decide +kernel
theorem dX0_split_44 : decode cX0_split 44 = .ok (.iconst 0, 1) := by decide +kernel
theorem dX0_split_45 : decode cX0_split 45 = .ok (.istore 5, 2) := by decide +kernel
theorem dX0_split_47 : decode cX0_split 47 = .ok (.iload 5, 2) := by decide +kernel
theorem dX0_split_49 : decode cX0_split 49 = .ok (.aload_n 0, 1) := by decide +kernel
theorem dX0_split_50 : decode cX0_split 50 = .ok (.getfield 54, 3) := by decide +kernel
theorem dX0_split_53 : decode cX0_split 53 = .ok (.if_icmp .ge 27, 3) := by decide +kernel
theorem dX0_split_56 : decode cX0_split 56 = .ok (.aload_n 0, 1) := by decide +kernel
theorem dX0_split_57 : decode cX0_split 57 = .ok (.getfield 17, 3) := by decide +kernel
theorem dX0_split_60 : decode cX0_split 60 = .ok (.iload 5, 2) := by decide +kernel
theorem dX0_split_62 : decode cX0_split 62 = .ok (.baload, 1) := by decide +kernel
theorem dX0_split_63 : decode cX0_split 63 = .ok (.iload_n 1, 1) := by decide +kernel
theorem dX0_split_64 : decode cX0_split 64 = .ok (.if_icmp .ne 10, 3) := by decide +kernel
theorem dX0_split_67 : decode cX0_split 67 = .ok (.aload_n 0, 1) := by decide +kernel
theorem dX0_split_68 : decode cX0_split 68 = .ok (.iload 5, 2) := by decide +kernel
theorem dX0_split_70 : decode cX0_split 70 = .ok (.iload_n 2, 1) := by decide +kernel
theorem dX0_split_71 : decode cX0_split 71 = .ok (.invokevirtual 58, 3) := by decide +kernel
theorem dX0_split_74 : decode cX0_split 74 = .ok (.iinc 5 1, 3) := by decide +kernel
theorem dX0_split_77 : decode cX0_split 77 = .ok (.goto (-30), 3) := by decide +kernel
theorem dX0_split_80 : decode cX0_split 80 = .ok (.aload_n 0, 1) := by decide +kernel
theorem dX0_split_81 : decode cX0_split 81 = .ok (.getfield 7, 3) := by decide +kernel
theorem dX0_split_84 : decode cX0_split 84 = .ok (.iload_n 1, 1) := by decide +kernel
theorem dX0_split_85 : decode cX0_split 85 = .ok (.baload, 1) := by decide +kernel
theorem dX0_split_86 : decode cX0_split 86 = .ok (.istore 5, 2) := by decide +kernel
theorem dX0_split_88 : decode cX0_split 88 = .ok (.iload 5, 2) := by decide +kernel
theorem dX0_split_90 : decode cX0_split 90 = .ok (.iload_n 2, 1) := by decide +kernel
theorem dX0_split_91 : decode cX0_split 91 = .ok (.iconst 1, 1) := by decide +kernel
theorem dX0_split_92 : decode cX0_split 92 = .ok (.iadd, 1) := by decide +kernel
theorem dX0_split_93 : decode cX0_split 93 = .ok (.if_icmp .le 35, 3) := by decide +kernel
theorem dX0_split_96 : decode cX0_split 96 = .ok (.aload_n 0, 1) := by decide +kernel
theorem dX0_split_97 : decode cX0_split 97 = .ok (.getfield 13, 3) := by decide +kernel
theorem dX0_split_100 : decode cX0_split 100 = .ok (.iload_n 1, 1) := by decide +kernel
theorem dX0_split_101 : decode cX0_split 101 = .ok (.bipush 8, 2) := by decide +kernel
theorem dX0_split_103 : decode cX0_split 103 = .ok (.imul, 1) := by decide +kernel
theorem dX0_split_104 : decode cX0_split 104 = .ok (.iload 5, 2) := by decide +kernel
theorem dX0_split_106 : decode cX0_split 106 = .ok (.iadd, 1) := by decide +kernel
theorem dX0_split_107 : decode cX0_split 107 = .ok (.aload_n 0, 1) := by decide +kernel
theorem dX0_split_108 : decode cX0_split 108 = .ok (.getfield 13, 3) := by decide +kernel
theorem dX0_split_111 : decode cX0_split 111 = .ok (.iload_n 1, 1) := by decide +kernel
theorem dX0_split_112 : decode cX0_split 112 = .ok (.bipush 8, 2) := by decide +kernel
theorem dX0_split_114 : decode cX0_split 114 = .ok (.imul, 1) := by decide +kernel
theorem dX0_split_115 : decode cX0_split 115 = .ok (.iload 5, 2) := by decide +kernel
theorem dX0_split_117 : decode cX0_split 117 = .ok (.iadd, 1) := by decide +kernel
theorem dX0_split_118 : decode cX0_split 118 = .ok (.iconst 1, 1) := by decide +kernel
theorem dX0_split_119 : decode cX0_split 119 = .ok (.isub, 1) := by decide +kernel
theorem dX0_split_120 : decode cX0_split 120 = .ok (.iaload, 1) := by decide +kernel
theorem dX0_split_121 : decode cX0_split 121 = .ok (.iastore, 1) := by decide +kernel
theorem dX0_split_122 : decode cX0_split 122 = .ok (.iinc 5 (-1), 3) := by decide +kernel
theorem dX0_split_125 : decode cX0_split 125 = .ok (.goto (-37), 3) := by decide +kernel
theorem dX0_split_128 : decode cX0_split 128 = .ok (.aload_n 0, 1) := by decide +kernel
theorem dX0_split_129 : decode cX0_split 129 = .ok (.getfield 13, 3) := by decide +kernel
theorem dX0_split_132 : decode cX0_split 132 = .ok (.iload_n 1, 1) := by decide +kernel
theorem dX0_split_133 : decode cX0_split 133 = .ok (.bipush 8, 2) := by decide +kernel
theorem dX0_split_135 : decode cX0_split 135 = .ok (.imul, 1) := by decide +kernel
theorem dX0_split_136 : decode cX0_split 136 = .ok (.iload_n 2, 1) := by decide +kernel
theorem dX0_split_137 : decode cX0_split 137 = .ok (.iadd, 1) := by decide +kernel
theorem dX0_split_138 : decode cX0_split 138 = .ok (.iconst 1, 1) := by decide +kernel
theorem dX0_split_139 : decode cX0_split 139 = .ok (.iadd, 1) := by decide +kernel
theorem dX0_split_140 : decode cX0_split 140 = .ok (.iconst 0, 1) := by decide +kernel
theorem dX0_split_141 : decode cX0_split 141 = .ok (.iastore, 1) := by decide +kernel
theorem dX0_split_142 : decode cX0_split 142 = .ok (.aload_n 0, 1) := by decide +kernel
theorem dX0_split_143 : decode cX0_split 143 = .ok (.getfield 7, 3) := by decide +kernel
theorem dX0_split_146 : decode cX0_split 146 = .ok (.iload_n 1, 1) := by decide +kernel
theorem dX0_split_147 : decode cX0_split 147 = .ok (.dup2, 1) := by decide +kernel
theorem dX0_split_148 : decode cX0_split 148 = .ok (.baload, 1) := by decide +kernel
theorem dX0_split_149 : decode cX0_split 149 = .ok (.iconst 1, 1) := by decide +kernel
theorem dX0_split_150 : decode cX0_split 150 = .ok (.iadd, 1) := by decide +kernel
theorem dX0_split_151 : decode cX0_split 151 = .ok (.i2b, 1) := by decide +kernel
theorem dX0_split_152 : decode cX0_split 152 = .ok (.bastore, 1) := by decide +kernel
theorem dX0_split_153 : decode cX0_split 153 = .ok (.aload_n 0, 1) := by decide +kernel
theorem dX0_split_154 : decode cX0_split 154 = .ok (.iload_n 1, 1) := by decide +kernel
theorem dX0_split_155 : decode cX0_split 155 = .ok (.iload_n 2, 1) := by decide +kernel
theorem dX0_split_156 : decode cX0_split 156 = .ok (.iload_n 3, 1) := by decide +kernel
theorem dX0_split_157 : decode cX0_split 157 = .ok (.iload 4, 2) := by decide +kernel
theorem dX0_split_159 : decode cX0_split 159 = .ok (.invokevirtual 62, 3) := by decide +kernel
theorem dX0_split_162 : decode cX0_split 162 = .ok (.aload_n 0, 1) := by decide +kernel
theorem dX0_split_163 : decode cX0_split 163 = .ok (.getfield 7, 3) := by decide +kernel
theorem dX0_split_166 : decode cX0_split 166 = .ok (.iload_n 1, 1) := by decide +kernel
theorem dX0_split_167 : decode cX0_split 167 = .ok (.baload, 1) := by decide +kernel
theorem dX0_split_168 : decode cX0_split 168 = .ok (.ireturn, 1) := by decide +kernel
theorem dX0_isLeaf_0 : decode cX0_isLeaf 0 = .ok (.iload_n 1, 1) := by decide +kernel
theorem dX0_isLeaf_1 : decode cX0_isLeaf 1 = .ok (.invokestatic 43, 3) := by decide +kernel
theorem dX0_isLeaf_4 : decode cX0_isLeaf 4 = .ok (.ifCond .eq 21, 3) := by decide +kernel
theorem dX0_isLeaf_7 : decode cX0_isLeaf 7 = .ok (.iload_n 2, 1) := by decide +kernel
theorem dX0_isLeaf_8 : decode cX0_isLeaf 8 = .ok (.ifCond .lt 17, 3) := by decide +kernel
theorem dX0_isLeaf_11 : decode cX0_isLeaf 11 = .ok (.iload_n 2, 1) := by decide +kernel
theorem dX0_isLeaf_12 : decode cX0_isLeaf 12 = .ok (.aload_n 0, 1) := by decide +kernel
theorem dX0_isLeaf_13 : decode cX0_isLeaf 13 = .ok (.getfield 7, 3) := by decide +kernel
theorem dX0_isLeaf_16 : decode cX0_isLeaf 16 = .ok (.iload_n 1, 1) := by decide +kernel
theorem dX0_isLeaf_17 : decode cX0_isLeaf 17 = .ok (.baload, 1) := by decide +kernel
theorem dX0_isLeaf_18 : decode cX0_isLeaf 18 = .ok (.if_icmp .ge 7, 3) := by decide +kernel
theorem dX0_isLeaf_21 : decode cX0_isLeaf 21 = .ok (.iconst 1, 1) := by decide +kernel
theorem dX0_isLeaf_22 : decode cX0_isLeaf 22 = .ok (.goto 4, 3) := by decide +kernel
theorem dX0_isLeaf_25 : decode cX0_isLeaf 25 = .ok (.iconst 0, 1) := by decide +kernel
theorem dX0_isLeaf_26 : decode cX0_isLeaf 26 = .ok (.ireturn, 1) := by decide +kernel
theorem dX0_isTree_0 : decode cX0_isTree 0 = .ok (.iload_n 0, 1) := by decide +kernel
theorem dX0_isTree_1 : decode cX0_isTree 1 = .ok (.ifCond .lt 12, 3) := by decide +kernel
theorem dX0_isTree_4 : decode cX0_isTree 4 = .ok (.iload_n 0, 1) := by decide +kernel
theorem dX0_isTree_5 : decode cX0_isTree 5 = .ok (.iconst 4, 1) := by decide +kernel
theorem dX0_isTree_6 : decode cX0_isTree 6 = .ok (.if_icmp .ge 7, 3) := by decide +kernel
theorem dX0_isTree_9 : decode cX0_isTree 9 = .ok (.iconst 1, 1) := by decide +kernel
theorem dX0_isTree_10 : decode cX0_isTree 10 = .ok (.goto 4, 3) := by decide +kernel
theorem dX0_isTree_13 : decode cX0_isTree 13 = .ok (.iconst 0, 1) := by decide +kernel
theorem dX0_isTree_14 : decode cX0_isTree 14 = .ok (.ireturn, 1) := by decide +kernel
theorem dX0_isFeature_0 : decode cX0_isFeature 0 = .ok (.iload_n 0, 1) := by decide +kernel
theorem dX0_isFeature_1 : decode cX0_isFeature 1 = .ok (.ifCond .lt 12, 3) := by decide +kernel
theorem dX0_isFeature_4 : decode cX0_isFeature 4 = .ok (.iload_n 0, 1) := by decide +kernel
theorem dX0_isFeature_5 : decode cX0_isFeature 5 = .ok (.iconst 4, 1) := by decide +kernel
theorem dX0_isFeature_6 : decode cX0_isFeature 6 = .ok (.if_icmp .ge 7, 3) := by decide +kernel
theorem dX0_isFeature_9 : decode cX0_isFeature 9 = .ok (.iconst 1, 1) := by decide +kernel
theorem dX0_isFeature_10 : decode cX0_isFeature 10 = .ok (.goto 4, 3) := by decide +kernel
theorem dX0_isFeature_13 : decode cX0_isFeature 13 = .ok (.iconst 0, 1) := by decide +kernel
theorem dX0_isFeature_14 : decode cX0_isFeature 14 = .ok (.ireturn, 1) := by decide +kernel
theorem dX0_moveUp_0 : decode cX0_moveUp 0 = .ok (.aload_n 0, 1) := by decide +kernel
theorem dX0_moveUp_1 : decode cX0_moveUp 1 = .ok (.getfield 26, 3) := by decide +kernel
theorem dX0_moveUp_4 : decode cX0_moveUp 4 = .ok (.iload_n 1, 1) := by decide +kernel
theorem dX0_moveUp_5 : decode cX0_moveUp 5 = .ok (.dup2, 1) := by decide +kernel
theorem dX0_moveUp_6 : decode cX0_moveUp 6 = .ok (.baload, 1) := by decide +kernel
theorem dX0_moveUp_7 : decode cX0_moveUp 7 = .ok (.aload_n 0, 1) := by decide +kernel
theorem dX0_moveUp_8 : decode cX0_moveUp 8 = .ok (.getfield 26, 3) := by decide +kernel
theorem dX0_moveUp_11 : decode cX0_moveUp 11 = .ok (.iload_n 1, 1) := by decide +kernel
theorem dX0_moveUp_12 : decode cX0_moveUp 12 = .ok (.baload, 1) := by decide +kernel
theorem dX0_moveUp_13 : decode cX0_moveUp 13 = .ok (.iload_n 2, 1) := by decide +kernel
theorem dX0_moveUp_14 : decode cX0_moveUp 14 = .ok (.if_icmp .le 7, 3) := by decide +kernel
theorem dX0_moveUp_17 : decode cX0_moveUp 17 = .ok (.iconst 1, 1) := by decide +kernel
theorem dX0_moveUp_18 : decode cX0_moveUp 18 = .ok (.goto 4, 3) := by decide +kernel
theorem dX0_moveUp_21 : decode cX0_moveUp 21 = .ok (.iconst 0, 1) := by decide +kernel
theorem dX0_moveUp_22 : decode cX0_moveUp 22 = .ok (.iadd, 1) := by decide +kernel
theorem dX0_moveUp_23 : decode cX0_moveUp 23 = .ok (.i2b, 1) := by decide +kernel
theorem dX0_moveUp_24 : decode cX0_moveUp 24 = .ok (.bastore, 1) := by decide +kernel
theorem dX0_moveUp_25 : decode cX0_moveUp 25 = .ok (.aload_n 0, 1) := by decide +kernel
theorem dX0_moveUp_26 : decode cX0_moveUp 26 = .ok (.getfield 29, 3) := by decide +kernel
theorem dX0_moveUp_29 : decode cX0_moveUp 29 = .ok (.iload_n 1, 1) := by decide +kernel
theorem dX0_moveUp_30 : decode cX0_moveUp 30 = .ok (.dup2, 1) := by decide +kernel
theorem dX0_moveUp_31 : decode cX0_moveUp 31 = .ok (.baload, 1) := by decide +kernel
theorem dX0_moveUp_32 : decode cX0_moveUp 32 = .ok (.aload_n 0, 1) := by decide +kernel
theorem dX0_moveUp_33 : decode cX0_moveUp 33 = .ok (.getfield 29, 3) := by decide +kernel
theorem dX0_moveUp_36 : decode cX0_moveUp 36 = .ok (.iload_n 1, 1) := by decide +kernel
theorem dX0_moveUp_37 : decode cX0_moveUp 37 = .ok (.baload, 1) := by decide +kernel
theorem dX0_moveUp_38 : decode cX0_moveUp 38 = .ok (.iload_n 2, 1) := by decide +kernel
theorem dX0_moveUp_39 : decode cX0_moveUp 39 = .ok (.if_icmp .lt 7, 3) := by decide +kernel
theorem dX0_moveUp_42 : decode cX0_moveUp 42 = .ok (.iconst 1, 1) := by decide +kernel
theorem dX0_moveUp_43 : decode cX0_moveUp 43 = .ok (.goto 4, 3) := by decide +kernel
theorem dX0_moveUp_46 : decode cX0_moveUp 46 = .ok (.iconst 0, 1) := by decide +kernel
theorem dX0_moveUp_47 : decode cX0_moveUp 47 = .ok (.iadd, 1) := by decide +kernel
theorem dX0_moveUp_48 : decode cX0_moveUp 48 = .ok (.i2b, 1) := by decide +kernel
theorem dX0_moveUp_49 : decode cX0_moveUp 49 = .ok (.bastore, 1) := by decide +kernel
theorem dX0_moveUp_50 : decode cX0_moveUp 50 = .ok (.aload_n 0, 1) := by decide +kernel
theorem dX0_moveUp_51 : decode cX0_moveUp 51 = .ok (.getfield 32, 3) := by decide +kernel
theorem dX0_moveUp_54 : decode cX0_moveUp 54 = .ok (.iload_n 1, 1) := by decide +kernel
theorem dX0_moveUp_55 : decode cX0_moveUp 55 = .ok (.dup2, 1) := by decide +kernel
theorem dX0_moveUp_56 : decode cX0_moveUp 56 = .ok (.baload, 1) := by decide +kernel
theorem dX0_moveUp_57 : decode cX0_moveUp 57 = .ok (.aload_n 0, 1) := by decide +kernel
theorem dX0_moveUp_58 : decode cX0_moveUp 58 = .ok (.getfield 32, 3) := by decide +kernel
theorem dX0_moveUp_61 : decode cX0_moveUp 61 = .ok (.iload_n 1, 1) := by decide +kernel
theorem dX0_moveUp_62 : decode cX0_moveUp 62 = .ok (.baload, 1) := by decide +kernel
theorem dX0_moveUp_63 : decode cX0_moveUp 63 = .ok (.iload_n 2, 1) := by decide +kernel
theorem dX0_moveUp_64 : decode cX0_moveUp 64 = .ok (.if_icmp .lt 7, 3) := by decide +kernel
theorem dX0_moveUp_67 : decode cX0_moveUp 67 = .ok (.iconst 1, 1) := by decide +kernel
theorem dX0_moveUp_68 : decode cX0_moveUp 68 = .ok (.goto 4, 3) := by decide +kernel
theorem dX0_moveUp_71 : decode cX0_moveUp 71 = .ok (.iconst 0, 1) := by decide +kernel
theorem dX0_moveUp_72 : decode cX0_moveUp 72 = .ok (.iadd, 1) := by decide +kernel
theorem dX0_moveUp_73 : decode cX0_moveUp 73 = .ok (.i2b, 1) := by decide +kernel
theorem dX0_moveUp_74 : decode cX0_moveUp 74 = .ok (.bastore, 1) := by decide +kernel
theorem dX0_moveUp_75 : decode cX0_moveUp 75 = .ok (.return_, 1) := by decide +kernel
theorem dX0_insert_0 : decode cX0_insert 0 = .ok (.aload_n 0, 1) := by decide +kernel
theorem dX0_insert_1 : decode cX0_insert 1 = .ok (.getfield 54, 3) := by decide +kernel
theorem dX0_insert_4 : decode cX0_insert 4 = .ok (.istore 5, 2) := by decide +kernel
theorem dX0_insert_6 : decode cX0_insert 6 = .ok (.iload 5, 2) := by decide +kernel
theorem dX0_insert_8 : decode cX0_insert 8 = .ok (.ifCond .le 59, 3) := by decide +kernel
theorem dX0_insert_11 : decode cX0_insert 11 = .ok (.aload_n 0, 1) := by decide +kernel
theorem dX0_insert_12 : decode cX0_insert 12 = .ok (.getfield 20, 3) := by decide +kernel
theorem dX0_insert_15 : decode cX0_insert 15 = .ok (.iload 5, 2) := by decide +kernel
theorem dX0_insert_17 : decode cX0_insert 17 = .ok (.iconst 1, 1) := by decide +kernel
theorem dX0_insert_18 : decode cX0_insert 18 = .ok (.isub, 1) := by decide +kernel
theorem dX0_insert_19 : decode cX0_insert 19 = .ok (.baload, 1) := by decide +kernel
theorem dX0_insert_20 : decode cX0_insert 20 = .ok (.iload_n 3, 1) := by decide +kernel
theorem dX0_insert_21 : decode cX0_insert 21 = .ok (.if_icmp .gt 30, 3) := by decide +kernel
theorem dX0_insert_24 : decode cX0_insert 24 = .ok (.aload_n 0, 1) := by decide +kernel
theorem dX0_insert_25 : decode cX0_insert 25 = .ok (.getfield 20, 3) := by decide +kernel
theorem dX0_insert_28 : decode cX0_insert 28 = .ok (.iload 5, 2) := by decide +kernel
theorem dX0_insert_30 : decode cX0_insert 30 = .ok (.iconst 1, 1) := by decide +kernel
theorem dX0_insert_31 : decode cX0_insert 31 = .ok (.isub, 1) := by decide +kernel
theorem dX0_insert_32 : decode cX0_insert 32 = .ok (.baload, 1) := by decide +kernel
theorem dX0_insert_33 : decode cX0_insert 33 = .ok (.iload_n 3, 1) := by decide +kernel
theorem dX0_insert_34 : decode cX0_insert 34 = .ok (.if_icmp .ne 33, 3) := by decide +kernel
theorem dX0_insert_37 : decode cX0_insert 37 = .ok (.aload_n 0, 1) := by decide +kernel
theorem dX0_insert_38 : decode cX0_insert 38 = .ok (.getfield 23, 3) := by decide +kernel
theorem dX0_insert_41 : decode cX0_insert 41 = .ok (.iload 5, 2) := by decide +kernel
theorem dX0_insert_43 : decode cX0_insert 43 = .ok (.iconst 1, 1) := by decide +kernel
theorem dX0_insert_44 : decode cX0_insert 44 = .ok (.isub, 1) := by decide +kernel
theorem dX0_insert_45 : decode cX0_insert 45 = .ok (.baload, 1) := by decide +kernel
theorem dX0_insert_46 : decode cX0_insert 46 = .ok (.iload 4, 2) := by decide +kernel
end
section
set_option maxRecDepth 100000
theorem dX0_insert_48 : decode cX0_insert 48 = .ok (.if_icmp .le 19, 3) := by decide +kernel
theorem dX0_insert_51 : decode cX0_insert 51 = .ok (.aload_n 0, 1) := by decide +kernel
theorem dX0_insert_52 : decode cX0_insert 52 = .ok (.iload 5, 2) := by decide +kernel
theorem dX0_insert_54 : decode cX0_insert 54 = .ok (.iconst 1, 1) := by decide +kernel
theorem dX0_insert_55 : decode cX0_insert 55 = .ok (.isub, 1) := by decide +kernel
theorem dX0_insert_56 : decode cX0_insert 56 = .ok (.iload 5, 2) := by decide +kernel
theorem dX0_insert_58 : decode cX0_insert 58 = .ok (.invokevirtual 66, 3) := by decide +kernel
theorem dX0_insert_61 : decode cX0_insert 61 = .ok (.iinc 5 (-1), 3) := by decide +kernel
theorem dX0_insert_64 : decode cX0_insert 64 = .ok (.goto (-58), 3) := by decide +kernel
theorem dX0_insert_67 : decode cX0_insert 67 = .ok (.aload_n 0, 1) := by decide +kernel
theorem dX0_insert_68 : decode cX0_insert 68 = .ok (.getfield 17, 3) := by decide +kernel
theorem dX0_insert_71 : decode cX0_insert 71 = .ok (.iload 5, 2) := by decide +kernel
theorem dX0_insert_73 : decode cX0_insert 73 = .ok (.iload_n 1, 1) := by decide +kernel
theorem dX0_insert_74 : decode cX0_insert 74 = .ok (.i2b, 1) := by decide +kernel
theorem dX0_insert_75 : decode cX0_insert 75 = .ok (.bastore, 1) := by decide +kernel
theorem dX0_insert_76 : decode cX0_insert 76 = .ok (.aload_n 0, 1) := by decide +kernel
theorem dX0_insert_77 : decode cX0_insert 77 = .ok (.getfield 20, 3) := by decide +kernel
theorem dX0_insert_80 : decode cX0_insert 80 = .ok (.iload 5, 2) := by decide +kernel
theorem dX0_insert_82 : decode cX0_insert 82 = .ok (.iload_n 3, 1) := by decide +kernel
theorem dX0_insert_83 : decode cX0_insert 83 = .ok (.i2b, 1) := by decide +kernel
theorem dX0_insert_84 : decode cX0_insert 84 = .ok (.bastore, 1) := by decide +kernel
theorem dX0_insert_85 : decode cX0_insert 85 = .ok (.aload_n 0, 1) := by decide +kernel
theorem dX0_insert_86 : decode cX0_insert 86 = .ok (.getfield 23, 3) := by decide +kernel
theorem dX0_insert_89 : decode cX0_insert 89 = .ok (.iload 5, 2) := by decide +kernel
theorem dX0_insert_91 : decode cX0_insert 91 = .ok (.iload 4, 2) := by decide +kernel
theorem dX0_insert_93 : decode cX0_insert 93 = .ok (.i2b, 1) := by decide +kernel
theorem dX0_insert_94 : decode cX0_insert 94 = .ok (.bastore, 1) := by decide +kernel
theorem dX0_insert_95 : decode cX0_insert 95 = .ok (.aload_n 0, 1) := by decide +kernel
theorem dX0_insert_96 : decode cX0_insert 96 = .ok (.getfield 26, 3) := by decide +kernel
theorem dX0_insert_99 : decode cX0_insert 99 = .ok (.iload 5, 2) := by decide +kernel
theorem dX0_insert_101 : decode cX0_insert 101 = .ok (.iload_n 2, 1) := by decide +kernel
theorem dX0_insert_102 : decode cX0_insert 102 = .ok (.i2b, 1) := by decide +kernel
theorem dX0_insert_103 : decode cX0_insert 103 = .ok (.bastore, 1) := by decide +kernel
theorem dX0_insert_104 : decode cX0_insert 104 = .ok (.aload_n 0, 1) := by decide +kernel
theorem dX0_insert_105 : decode cX0_insert 105 = .ok (.getfield 29, 3) := by decide +kernel
theorem dX0_insert_108 : decode cX0_insert 108 = .ok (.iload 5, 2) := by decide +kernel
theorem dX0_insert_110 : decode cX0_insert 110 = .ok (.iload_n 2, 1) := by decide +kernel
theorem dX0_insert_111 : decode cX0_insert 111 = .ok (.i2b, 1) := by decide +kernel
theorem dX0_insert_112 : decode cX0_insert 112 = .ok (.bastore, 1) := by decide +kernel
theorem dX0_insert_113 : decode cX0_insert 113 = .ok (.aload_n 0, 1) := by decide +kernel
theorem dX0_insert_114 : decode cX0_insert 114 = .ok (.getfield 32, 3) := by decide +kernel
theorem dX0_insert_117 : decode cX0_insert 117 = .ok (.iload 5, 2) := by decide +kernel
theorem dX0_insert_119 : decode cX0_insert 119 = .ok (.iload_n 2, 1) := by decide +kernel
theorem dX0_insert_120 : decode cX0_insert 120 = .ok (.iconst 1, 1) := by decide +kernel
theorem dX0_insert_121 : decode cX0_insert 121 = .ok (.iadd, 1) := by decide +kernel
theorem dX0_insert_122 : decode cX0_insert 122 = .ok (.i2b, 1) := by decide +kernel
theorem dX0_insert_123 : decode cX0_insert 123 = .ok (.bastore, 1) := by decide +kernel
theorem dX0_insert_124 : decode cX0_insert 124 = .ok (.aload_n 0, 1) := by decide +kernel
theorem dX0_insert_125 : decode cX0_insert 125 = .ok (.dup, 1) := by decide +kernel
theorem dX0_insert_126 : decode cX0_insert 126 = .ok (.getfield 54, 3) := by decide +kernel
theorem dX0_insert_129 : decode cX0_insert 129 = .ok (.iconst 1, 1) := by decide +kernel
theorem dX0_insert_130 : decode cX0_insert 130 = .ok (.iadd, 1) := by decide +kernel
theorem dX0_insert_131 : decode cX0_insert 131 = .ok (.putfield 54, 3) := by decide +kernel
theorem dX0_insert_134 : decode cX0_insert 134 = .ok (.aload_n 0, 1) := by decide +kernel
theorem dX0_insert_135 : decode cX0_insert 135 = .ok (.invokevirtual 69, 3) := by decide +kernel
theorem dX0_insert_138 : decode cX0_insert 138 = .ok (.return_, 1) := by decide +kernel
theorem dX0_copyFork_0 : decode cX0_copyFork 0 = .ok (.aload_n 0, 1) := by decide +kernel
theorem dX0_copyFork_1 : decode cX0_copyFork 1 = .ok (.getfield 17, 3) := by decide +kernel
theorem dX0_copyFork_4 : decode cX0_copyFork 4 = .ok (.iload_n 2, 1) := by decide +kernel
theorem dX0_copyFork_5 : decode cX0_copyFork 5 = .ok (.aload_n 0, 1) := by decide +kernel
theorem dX0_copyFork_6 : decode cX0_copyFork 6 = .ok (.getfield 17, 3) := by decide +kernel
theorem dX0_copyFork_9 : decode cX0_copyFork 9 = .ok (.iload_n 1, 1) := by decide +kernel
theorem dX0_copyFork_10 : decode cX0_copyFork 10 = .ok (.baload, 1) := by decide +kernel
theorem dX0_copyFork_11 : decode cX0_copyFork 11 = .ok (.bastore, 1) := by decide +kernel
theorem dX0_copyFork_12 : decode cX0_copyFork 12 = .ok (.aload_n 0, 1) := by decide +kernel
theorem dX0_copyFork_13 : decode cX0_copyFork 13 = .ok (.getfield 20, 3) := by decide +kernel
theorem dX0_copyFork_16 : decode cX0_copyFork 16 = .ok (.iload_n 2, 1) := by decide +kernel
theorem dX0_copyFork_17 : decode cX0_copyFork 17 = .ok (.aload_n 0, 1) := by decide +kernel
theorem dX0_copyFork_18 : decode cX0_copyFork 18 = .ok (.getfield 20, 3) := by decide +kernel
theorem dX0_copyFork_21 : decode cX0_copyFork 21 = .ok (.iload_n 1, 1) := by decide +kernel
theorem dX0_copyFork_22 : decode cX0_copyFork 22 = .ok (.baload, 1) := by decide +kernel
theorem dX0_copyFork_23 : decode cX0_copyFork 23 = .ok (.bastore, 1) := by decide +kernel
theorem dX0_copyFork_24 : decode cX0_copyFork 24 = .ok (.aload_n 0, 1) := by decide +kernel
theorem dX0_copyFork_25 : decode cX0_copyFork 25 = .ok (.getfield 23, 3) := by decide +kernel
theorem dX0_copyFork_28 : decode cX0_copyFork 28 = .ok (.iload_n 2, 1) := by decide +kernel
theorem dX0_copyFork_29 : decode cX0_copyFork 29 = .ok (.aload_n 0, 1) := by decide +kernel
theorem dX0_copyFork_30 : decode cX0_copyFork 30 = .ok (.getfield 23, 3) := by decide +kernel
theorem dX0_copyFork_33 : decode cX0_copyFork 33 = .ok (.iload_n 1, 1) := by decide +kernel
theorem dX0_copyFork_34 : decode cX0_copyFork 34 = .ok (.baload, 1) := by decide +kernel
theorem dX0_copyFork_35 : decode cX0_copyFork 35 = .ok (.bastore, 1) := by decide +kernel
theorem dX0_copyFork_36 : decode cX0_copyFork 36 = .ok (.aload_n 0, 1) := by decide +kernel
theorem dX0_copyFork_37 : decode cX0_copyFork 37 = .ok (.getfield 26, 3) := by decide +kernel
theorem dX0_copyFork_40 : decode cX0_copyFork 40 = .ok (.iload_n 2, 1) := by decide +kernel
theorem dX0_copyFork_41 : decode cX0_copyFork 41 = .ok (.aload_n 0, 1) := by decide +kernel
theorem dX0_copyFork_42 : decode cX0_copyFork 42 = .ok (.getfield 26, 3) := by decide +kernel
theorem dX0_copyFork_45 : decode cX0_copyFork 45 = .ok (.iload_n 1, 1) := by decide +kernel
theorem dX0_copyFork_46 : decode cX0_copyFork 46 = .ok (.baload, 1) := by decide +kernel
theorem dX0_copyFork_47 : decode cX0_copyFork 47 = .ok (.bastore, 1) := by decide +kernel
theorem dX0_copyFork_48 : decode cX0_copyFork 48 = .ok (.aload_n 0, 1) := by decide +kernel
theorem dX0_copyFork_49 : decode cX0_copyFork 49 = .ok (.getfield 29, 3) := by decide +kernel
theorem dX0_copyFork_52 : decode cX0_copyFork 52 = .ok (.iload_n 2, 1) := by decide +kernel
theorem dX0_copyFork_53 : decode cX0_copyFork 53 = .ok (.aload_n 0, 1) := by decide +kernel
theorem dX0_copyFork_54 : decode cX0_copyFork 54 = .ok (.getfield 29, 3) := by decide +kernel
theorem dX0_copyFork_57 : decode cX0_copyFork 57 = .ok (.iload_n 1, 1) := by decide +kernel
theorem dX0_copyFork_58 : decode cX0_copyFork 58 = .ok (.baload, 1) := by decide +kernel
theorem dX0_copyFork_59 : decode cX0_copyFork 59 = .ok (.bastore, 1) := by decide +kernel
theorem dX0_copyFork_60 : decode cX0_copyFork 60 = .ok (.aload_n 0, 1) := by decide +kernel
theorem dX0_copyFork_61 : decode cX0_copyFork 61 = .ok (.getfield 32, 3) := by decide +kernel
theorem dX0_copyFork_64 : decode cX0_copyFork 64 = .ok (.iload_n 2, 1) := by decide +kernel
theorem dX0_copyFork_65 : decode cX0_copyFork 65 = .ok (.aload_n 0, 1) := by decide +kernel
theorem dX0_copyFork_66 : decode cX0_copyFork 66 = .ok (.getfield 32, 3) := by decide +kernel
theorem dX0_copyFork_69 : decode cX0_copyFork 69 = .ok (.iload_n 1, 1) := by decide +kernel
theorem dX0_copyFork_70 : decode cX0_copyFork 70 = .ok (.baload, 1) := by decide +kernel
theorem dX0_copyFork_71 : decode cX0_copyFork 71 = .ok (.bastore, 1) := by decide +kernel
theorem dX0_copyFork_72 : decode cX0_copyFork 72 = .ok (.return_, 1) := by decide +kernel
theorem dX0_count_0 : decode cX0_count 0 = .ok (.iconst 0, 1) := by decide +kernel
theorem dX0_count_1 : decode cX0_count 1 = .ok (.istore_n 1, 1) := by decide +kernel
theorem dX0_count_2 : decode cX0_count 2 = .ok (.iload_n 1, 1) := by decide +kernel
theorem dX0_count_3 : decode cX0_count 3 = .ok (.iconst 4, 1) := by decide +kernel
theorem dX0_count_4 : decode cX0_count 4 = .ok (.if_icmp .gt 57, 3) := by decide +kernel
theorem dX0_count_7 : decode cX0_count 7 = .ok (.aload_n 0, 1) := by decide +kernel
theorem dX0_count_8 : decode cX0_count 8 = .ok (.getfield 35, 3) := by decide +kernel
theorem dX0_count_11 : decode cX0_count 11 = .ok (.iload_n 1, 1) := by decide +kernel
theorem dX0_count_12 : decode cX0_count 12 = .ok (.iconst 0, 1) := by decide +kernel
theorem dX0_count_13 : decode cX0_count 13 = .ok (.bastore, 1) := by decide +kernel
theorem dX0_count_14 : decode cX0_count 14 = .ok (.iconst 0, 1) := by decide +kernel
theorem dX0_count_15 : decode cX0_count 15 = .ok (.istore_n 2, 1) := by decide +kernel
theorem dX0_count_16 : decode cX0_count 16 = .ok (.iload_n 2, 1) := by decide +kernel
theorem dX0_count_17 : decode cX0_count 17 = .ok (.aload_n 0, 1) := by decide +kernel
theorem dX0_count_18 : decode cX0_count 18 = .ok (.getfield 54, 3) := by decide +kernel
theorem dX0_count_21 : decode cX0_count 21 = .ok (.if_icmp .ge 34, 3) := by decide +kernel
theorem dX0_count_24 : decode cX0_count 24 = .ok (.aload_n 0, 1) := by decide +kernel
theorem dX0_count_25 : decode cX0_count 25 = .ok (.getfield 35, 3) := by decide +kernel
theorem dX0_count_28 : decode cX0_count 28 = .ok (.iload_n 1, 1) := by decide +kernel
theorem dX0_count_29 : decode cX0_count 29 = .ok (.dup2, 1) := by decide +kernel
theorem dX0_count_30 : decode cX0_count 30 = .ok (.baload, 1) := by decide +kernel
theorem dX0_count_31 : decode cX0_count 31 = .ok (.aload_n 0, 1) := by decide +kernel
theorem dX0_count_32 : decode cX0_count 32 = .ok (.getfield 20, 3) := by decide +kernel
theorem dX0_count_35 : decode cX0_count 35 = .ok (.iload_n 2, 1) := by decide +kernel
theorem dX0_count_36 : decode cX0_count 36 = .ok (.baload, 1) := by decide +kernel
theorem dX0_count_37 : decode cX0_count 37 = .ok (.iload_n 1, 1) := by decide +kernel
theorem dX0_count_38 : decode cX0_count 38 = .ok (.if_icmp .ge 7, 3) := by decide +kernel
theorem dX0_count_41 : decode cX0_count 41 = .ok (.iconst 1, 1) := by decide +kernel
theorem dX0_count_42 : decode cX0_count 42 = .ok (.goto 4, 3) := by decide +kernel
theorem dX0_count_45 : decode cX0_count 45 = .ok (.iconst 0, 1) := by decide +kernel
theorem dX0_count_46 : decode cX0_count 46 = .ok (.iadd, 1) := by decide +kernel
theorem dX0_count_47 : decode cX0_count 47 = .ok (.i2b, 1) := by decide +kernel
theorem dX0_count_48 : decode cX0_count 48 = .ok (.bastore, 1) := by decide +kernel
theorem dX0_count_49 : decode cX0_count 49 = .ok (.iinc 2 1, 3) := by decide +kernel
theorem dX0_count_52 : decode cX0_count 52 = .ok (.goto (-36), 3) := by decide +kernel
theorem dX0_count_55 : decode cX0_count 55 = .ok (.iinc 1 1, 3) := by decide +kernel
theorem dX0_count_58 : decode cX0_count 58 = .ok (.goto (-56), 3) := by decide +kernel
theorem dX0_count_61 : decode cX0_count 61 = .ok (.return_, 1) := by decide +kernel
theorem dX0_setValue_0 : decode cX0_setValue 0 = .ok (.aload_n 0, 1) := by decide +kernel
theorem dX0_setValue_1 : decode cX0_setValue 1 = .ok (.iload_n 1, 1) := by decide +kernel
theorem dX0_setValue_2 : decode cX0_setValue 2 = .ok (.iload_n 2, 1) := by decide +kernel
theorem dX0_setValue_3 : decode cX0_setValue 3 = .ok (.invokevirtual 47, 3) := by decide +kernel
theorem dX0_setValue_6 : decode cX0_setValue 6 = .ok (.ifCond .ne 5, 3) := by decide +kernel
theorem dX0_setValue_9 : decode cX0_setValue 9 = .ok (.iconst 0, 1) := by decide +kernel
theorem dX0_setValue_10 : decode cX0_setValue 10 = .ok (.ireturn, 1) := by decide +kernel
theorem dX0_setValue_11 : decode cX0_setValue 11 = .ok (.aload_n 0, 1) := by decide +kernel
theorem dX0_setValue_12 : decode cX0_setValue 12 = .ok (.getfield 13, 3) := by decide +kernel
theorem dX0_setValue_15 : decode cX0_setValue 15 = .ok (.iload_n 1, 1) := by decide +kernel
theorem dX0_setValue_16 : decode cX0_setValue 16 = .ok (.bipush 8, 2) := by decide +kernel
theorem dX0_setValue_18 : decode cX0_setValue 18 = .ok (.imul, 1) := by decide +kernel
theorem dX0_setValue_19 : decode cX0_setValue 19 = .ok (.iload_n 2, 1) := by decide +kernel
theorem dX0_setValue_20 : decode cX0_setValue 20 = .ok (.iadd, 1) := by decide +kernel
theorem dX0_setValue_21 : decode cX0_setValue 21 = .ok (.iload_n 3, 1) := by decide +kernel
theorem dX0_setValue_22 : decode cX0_setValue 22 = .ok (.iastore, 1) := by decide +kernel
theorem dX0_setValue_23 : decode cX0_setValue 23 = .ok (.iconst 1, 1) := by decide +kernel
theorem dX0_setValue_24 : decode cX0_setValue 24 = .ok (.ireturn, 1) := by decide +kernel
theorem dX0_clear_0 : decode cX0_clear 0 = .ok (.iload_n 1, 1) := by decide +kernel
theorem dX0_clear_1 : decode cX0_clear 1 = .ok (.invokestatic 43, 3) := by decide +kernel
theorem dX0_clear_4 : decode cX0_clear 4 = .ok (.ifCond .ne 5, 3) := by decide +kernel
theorem dX0_clear_7 : decode cX0_clear 7 = .ok (.iconst 0, 1) := by decide +kernel
theorem dX0_clear_8 : decode cX0_clear 8 = .ok (.ireturn, 1) := by decide +kernel
theorem dX0_clear_9 : decode cX0_clear 9 = .ok (.iconst 0, 1) := by decide +kernel
theorem dX0_clear_10 : decode cX0_clear 10 = .ok (.istore_n 2, 1) := by decide +kernel
theorem dX0_clear_11 : decode cX0_clear 11 = .ok (.iconst 0, 1) := by decide +kernel
theorem dX0_clear_12 : decode cX0_clear 12 = .ok (.istore_n 3, 1) := by decide +kernel
theorem dX0_clear_13 : decode cX0_clear 13 = .ok (.iload_n 3, 1) := by decide +kernel
theorem dX0_clear_14 : decode cX0_clear 14 = .ok (.aload_n 0, 1) := by decide +kernel
theorem dX0_clear_15 : decode cX0_clear 15 = .ok (.getfield 54, 3) := by decide +kernel
theorem dX0_clear_18 : decode cX0_clear 18 = .ok (.if_icmp .ge 28, 3) := by decide +kernel
theorem dX0_clear_21 : decode cX0_clear 21 = .ok (.aload_n 0, 1) := by decide +kernel
theorem dX0_clear_22 : decode cX0_clear 22 = .ok (.getfield 17, 3) := by decide +kernel
theorem dX0_clear_25 : decode cX0_clear 25 = .ok (.iload_n 3, 1) := by decide +kernel
theorem dX0_clear_26 : decode cX0_clear 26 = .ok (.baload, 1) := by decide +kernel
theorem dX0_clear_27 : decode cX0_clear 27 = .ok (.iload_n 1, 1) := by decide +kernel
theorem dX0_clear_28 : decode cX0_clear 28 = .ok (.if_icmp .eq 12, 3) := by decide +kernel
theorem dX0_clear_31 : decode cX0_clear 31 = .ok (.aload_n 0, 1) := by decide +kernel
theorem dX0_clear_32 : decode cX0_clear 32 = .ok (.iload_n 3, 1) := by decide +kernel
theorem dX0_clear_33 : decode cX0_clear 33 = .ok (.iload_n 2, 1) := by decide +kernel
theorem dX0_clear_34 : decode cX0_clear 34 = .ok (.invokevirtual 66, 3) := by decide +kernel
theorem dX0_clear_37 : decode cX0_clear 37 = .ok (.iinc 2 1, 3) := by decide +kernel
theorem dX0_clear_40 : decode cX0_clear 40 = .ok (.iinc 3 1, 3) := by decide +kernel
theorem dX0_clear_43 : decode cX0_clear 43 = .ok (.goto (-30), 3) := by decide +kernel
theorem dX0_clear_46 : decode cX0_clear 46 = .ok (.aload_n 0, 1) := by decide +kernel
theorem dX0_clear_47 : decode cX0_clear 47 = .ok (.iload_n 2, 1) := by decide +kernel
theorem dX0_clear_48 : decode cX0_clear 48 = .ok (.putfield 54, 3) := by decide +kernel
theorem dX0_clear_51 : decode cX0_clear 51 = .ok (.aload_n 0, 1) := by decide +kernel
theorem dX0_clear_52 : decode cX0_clear 52 = .ok (.getfield 7, 3) := by decide +kernel
theorem dX0_clear_55 : decode cX0_clear 55 = .ok (.iload_n 1, 1) := by decide +kernel
theorem dX0_clear_56 : decode cX0_clear 56 = .ok (.iconst 1, 1) := by decide +kernel
theorem dX0_clear_57 : decode cX0_clear 57 = .ok (.bastore, 1) := by decide +kernel
theorem dX0_clear_58 : decode cX0_clear 58 = .ok (.aload_n 0, 1) := by decide +kernel
theorem dX0_clear_59 : decode cX0_clear 59 = .ok (.getfield 13, 3) := by decide +kernel
theorem dX0_clear_62 : decode cX0_clear 62 = .ok (.iload_n 1, 1) := by decide +kernel
theorem dX0_clear_63 : decode cX0_clear 63 = .ok (.bipush 8, 2) := by decide +kernel
theorem dX0_clear_65 : decode cX0_clear 65 = .ok (.imul, 1) := by decide +kernel
theorem dX0_clear_66 : decode cX0_clear 66 = .ok (.iconst 0, 1) := by decide +kernel
theorem dX0_clear_67 : decode cX0_clear 67 = .ok (.iastore, 1) := by decide +kernel
theorem dX0_clear_68 : decode cX0_clear 68 = .ok (.aload_n 0, 1) := by decide +kernel
theorem dX0_clear_69 : decode cX0_clear 69 = .ok (.invokevirtual 69, 3) := by decide +kernel
theorem dX0_clear_72 : decode cX0_clear 72 = .ok (.iconst 1, 1) := by decide +kernel
theorem dX0_clear_73 : decode cX0_clear 73 = .ok (.ireturn, 1) := by decide +kernel
theorem dX0_leaves_0 : decode cX0_leaves 0 = .ok (.iload_n 1, 1) := by decide +kernel
theorem dX0_leaves_1 : decode cX0_leaves 1 = .ok (.invokestatic 43, 3) := by decide +kernel
theorem dX0_leaves_4 : decode cX0_leaves 4 = .ok (.ifCond .eq 12, 3) := by decide +kernel
theorem dX0_leaves_7 : decode cX0_leaves 7 = .ok (.aload_n 0, 1) := by decide +kernel
theorem dX0_leaves_8 : decode cX0_leaves 8 = .ok (.getfield 7, 3) := by decide +kernel
theorem dX0_leaves_11 : decode cX0_leaves 11 = .ok (.iload_n 1, 1) := by decide +kernel
theorem dX0_leaves_12 : decode cX0_leaves 12 = .ok (.baload, 1) := by decide +kernel
theorem dX0_leaves_13 : decode cX0_leaves 13 = .ok (.goto 4, 3) := by decide +kernel
theorem dX0_leaves_16 : decode cX0_leaves 16 = .ok (.iconst (-1), 1) := by decide +kernel
theorem dX0_leaves_17 : decode cX0_leaves 17 = .ok (.ireturn, 1) := by decide +kernel
theorem dX0_value_0 : decode cX0_value 0 = .ok (.aload_n 0, 1) := by decide +kernel
theorem dX0_value_1 : decode cX0_value 1 = .ok (.iload_n 1, 1) := by decide +kernel
theorem dX0_value_2 : decode cX0_value 2 = .ok (.iload_n 2, 1) := by decide +kernel
theorem dX0_value_3 : decode cX0_value 3 = .ok (.invokevirtual 47, 3) := by decide +kernel
theorem dX0_value_6 : decode cX0_value 6 = .ok (.ifCond .eq 17, 3) := by decide +kernel
theorem dX0_value_9 : decode cX0_value 9 = .ok (.aload_n 0, 1) := by decide +kernel
theorem dX0_value_10 : decode cX0_value 10 = .ok (.getfield 13, 3) := by decide +kernel
theorem dX0_value_13 : decode cX0_value 13 = .ok (.iload_n 1, 1) := by decide +kernel
theorem dX0_value_14 : decode cX0_value 14 = .ok (.bipush 8, 2) := by decide +kernel
theorem dX0_value_16 : decode cX0_value 16 = .ok (.imul, 1) := by decide +kernel
theorem dX0_value_17 : decode cX0_value 17 = .ok (.iload_n 2, 1) := by decide +kernel
theorem dX0_value_18 : decode cX0_value 18 = .ok (.iadd, 1) := by decide +kernel
theorem dX0_value_19 : decode cX0_value 19 = .ok (.iaload, 1) := by decide +kernel
theorem dX0_value_20 : decode cX0_value 20 = .ok (.goto 4, 3) := by decide +kernel
theorem dX0_value_23 : decode cX0_value 23 = .ok (.iconst 0, 1) := by decide +kernel
theorem dX0_value_24 : decode cX0_value 24 = .ok (.ireturn, 1) := by decide +kernel
theorem dX0_leafOf_0 : decode cX0_leafOf 0 = .ok (.iload_n 1, 1) := by decide +kernel
theorem dX0_leafOf_1 : decode cX0_leafOf 1 = .ok (.invokestatic 43, 3) := by decide +kernel
theorem dX0_leafOf_4 : decode cX0_leafOf 4 = .ok (.ifCond .eq 10, 3) := by decide +kernel
theorem dX0_leafOf_7 : decode cX0_leafOf 7 = .ok (.iload_n 2, 1) := by decide +kernel
theorem dX0_leafOf_8 : decode cX0_leafOf 8 = .ok (.invokestatic 79, 3) := by decide +kernel
theorem dX0_leafOf_11 : decode cX0_leafOf 11 = .ok (.ifCond .ne 5, 3) := by decide +kernel
theorem dX0_leafOf_14 : decode cX0_leafOf 14 = .ok (.iconst (-1), 1) := by decide +kernel
theorem dX0_leafOf_15 : decode cX0_leafOf 15 = .ok (.ireturn, 1) := by decide +kernel
theorem dX0_leafOf_16 : decode cX0_leafOf 16 = .ok (.aload_n 0, 1) := by decide +kernel
theorem dX0_leafOf_17 : decode cX0_leafOf 17 = .ok (.iload_n 2, 1) := by decide +kernel
theorem dX0_leafOf_18 : decode cX0_leafOf 18 = .ok (.invokevirtual 82, 3) := by decide +kernel
theorem dX0_leafOf_21 : decode cX0_leafOf 21 = .ok (.aload_n 0, 1) := by decide +kernel
theorem dX0_leafOf_22 : decode cX0_leafOf 22 = .ok (.iload_n 1, 1) := by decide +kernel
theorem dX0_leafOf_23 : decode cX0_leafOf 23 = .ok (.invokevirtual 86, 3) := by decide +kernel
theorem dX0_leafOf_26 : decode cX0_leafOf 26 = .ok (.ireturn, 1) := by decide +kernel
theorem dX0_isPoint_0 : decode cX0_isPoint 0 = .ok (.iload_n 0, 1) := by decide +kernel
theorem dX0_isPoint_1 : decode cX0_isPoint 1 = .ok (.ifCond .lt 13, 3) := by decide +kernel
theorem dX0_isPoint_4 : decode cX0_isPoint 4 = .ok (.iload_n 0, 1) := by decide +kernel
theorem dX0_isPoint_5 : decode cX0_isPoint 5 = .ok (.ldc 42, 2) := by decide +kernel
theorem dX0_isPoint_7 : decode cX0_isPoint 7 = .ok (.if_icmp .gt 7, 3) := by decide +kernel
theorem dX0_isPoint_10 : decode cX0_isPoint 10 = .ok (.iconst 1, 1) := by decide +kernel
theorem dX0_isPoint_11 : decode cX0_isPoint 11 = .ok (.goto 4, 3) := by decide +kernel
theorem dX0_isPoint_14 : decode cX0_isPoint 14 = .ok (.iconst 0, 1) := by decide +kernel
theorem dX0_isPoint_15 : decode cX0_isPoint 15 = .ok (.ireturn, 1) := by decide +kernel
theorem dX0_sift_0 : decode cX0_sift 0 = .ok (.iconst 0, 1) := by decide +kernel
theorem dX0_sift_1 : decode cX0_sift 1 = .ok (.istore_n 2, 1) := by decide +kernel
theorem dX0_sift_2 : decode cX0_sift 2 = .ok (.iload_n 2, 1) := by decide +kernel
theorem dX0_sift_3 : decode cX0_sift 3 = .ok (.iconst 4, 1) := by decide +kernel
theorem dX0_sift_4 : decode cX0_sift 4 = .ok (.if_icmp .ge 26, 3) := by decide +kernel
theorem dX0_sift_7 : decode cX0_sift 7 = .ok (.aload_n 0, 1) := by decide +kernel
theorem dX0_sift_8 : decode cX0_sift 8 = .ok (.getfield 38, 3) := by decide +kernel
theorem dX0_sift_11 : decode cX0_sift 11 = .ok (.iload_n 2, 1) := by decide +kernel
theorem dX0_sift_12 : decode cX0_sift 12 = .ok (.iconst 1, 1) := by decide +kernel
theorem dX0_sift_13 : decode cX0_sift 13 = .ok (.aload_n 0, 1) := by decide +kernel
theorem dX0_sift_14 : decode cX0_sift 14 = .ok (.getfield 7, 3) := by decide +kernel
theorem dX0_sift_17 : decode cX0_sift 17 = .ok (.iload_n 2, 1) := by decide +kernel
theorem dX0_sift_18 : decode cX0_sift 18 = .ok (.baload, 1) := by decide +kernel
theorem dX0_sift_19 : decode cX0_sift 19 = .ok (.ishl, 1) := by decide +kernel
end
section
set_option maxRecDepth 100000
theorem dX0_sift_20 : decode cX0_sift 20 = .ok (.iconst 1, 1) := by decide +kernel
theorem dX0_sift_21 : decode cX0_sift 21 = .ok (.isub, 1) := by decide +kernel
theorem dX0_sift_22 : decode cX0_sift 22 = .ok (.i2s, 1) := by decide +kernel
theorem dX0_sift_23 : decode cX0_sift 23 = .ok (.sastore, 1) := by decide +kernel
theorem dX0_sift_24 : decode cX0_sift 24 = .ok (.iinc 2 1, 3) := by decide +kernel
theorem dX0_sift_27 : decode cX0_sift 27 = .ok (.goto (-25), 3) := by decide +kernel
theorem dX0_sift_30 : decode cX0_sift 30 = .ok (.iconst 0, 1) := by decide +kernel
theorem dX0_sift_31 : decode cX0_sift 31 = .ok (.istore_n 2, 1) := by decide +kernel
theorem dX0_sift_32 : decode cX0_sift 32 = .ok (.iload_n 2, 1) := by decide +kernel
theorem dX0_sift_33 : decode cX0_sift 33 = .ok (.iconst 4, 1) := by decide +kernel
theorem dX0_sift_34 : decode cX0_sift 34 = .ok (.if_icmp .ge 106, 3) := by decide +kernel
theorem dX0_sift_37 : decode cX0_sift 37 = .ok (.iload_n 1, 1) := by decide +kernel
theorem dX0_sift_38 : decode cX0_sift 38 = .ok (.iload_n 2, 1) := by decide +kernel
theorem dX0_sift_39 : decode cX0_sift 39 = .ok (.invokestatic 72, 3) := by decide +kernel
theorem dX0_sift_42 : decode cX0_sift 42 = .ok (.istore_n 3, 1) := by decide +kernel
theorem dX0_sift_43 : decode cX0_sift 43 = .ok (.aload_n 0, 1) := by decide +kernel
theorem dX0_sift_44 : decode cX0_sift 44 = .ok (.getfield 35, 3) := by decide +kernel
theorem dX0_sift_47 : decode cX0_sift 47 = .ok (.iload_n 2, 1) := by decide +kernel
theorem dX0_sift_48 : decode cX0_sift 48 = .ok (.iconst 1, 1) := by decide +kernel
theorem dX0_sift_49 : decode cX0_sift 49 = .ok (.iadd, 1) := by decide +kernel
theorem dX0_sift_50 : decode cX0_sift 50 = .ok (.baload, 1) := by decide +kernel
theorem dX0_sift_51 : decode cX0_sift 51 = .ok (.istore 4, 2) := by decide +kernel
theorem dX0_sift_53 : decode cX0_sift 53 = .ok (.aload_n 0, 1) := by decide +kernel
theorem dX0_sift_54 : decode cX0_sift 54 = .ok (.getfield 35, 3) := by decide +kernel
theorem dX0_sift_57 : decode cX0_sift 57 = .ok (.iload_n 2, 1) := by decide +kernel
theorem dX0_sift_58 : decode cX0_sift 58 = .ok (.baload, 1) := by decide +kernel
theorem dX0_sift_59 : decode cX0_sift 59 = .ok (.istore 5, 2) := by decide +kernel
theorem dX0_sift_61 : decode cX0_sift 61 = .ok (.iload 5, 2) := by decide +kernel
theorem dX0_sift_63 : decode cX0_sift 63 = .ok (.iload 4, 2) := by decide +kernel
theorem dX0_sift_65 : decode cX0_sift 65 = .ok (.if_icmp .ge 69, 3) := by decide +kernel
theorem dX0_sift_68 : decode cX0_sift 68 = .ok (.aload_n 0, 1) := by decide +kernel
theorem dX0_sift_69 : decode cX0_sift 69 = .ok (.getfield 23, 3) := by decide +kernel
theorem dX0_sift_72 : decode cX0_sift 72 = .ok (.iload 5, 2) := by decide +kernel
theorem dX0_sift_74 : decode cX0_sift 74 = .ok (.baload, 1) := by decide +kernel
theorem dX0_sift_75 : decode cX0_sift 75 = .ok (.iload_n 3, 1) := by decide +kernel
theorem dX0_sift_76 : decode cX0_sift 76 = .ok (.if_icmp .ge 58, 3) := by decide +kernel
theorem dX0_sift_79 : decode cX0_sift 79 = .ok (.aload_n 0, 1) := by decide +kernel
theorem dX0_sift_80 : decode cX0_sift 80 = .ok (.getfield 26, 3) := by decide +kernel
theorem dX0_sift_83 : decode cX0_sift 83 = .ok (.iload 5, 2) := by decide +kernel
theorem dX0_sift_85 : decode cX0_sift 85 = .ok (.baload, 1) := by decide +kernel
theorem dX0_sift_86 : decode cX0_sift 86 = .ok (.aload_n 0, 1) := by decide +kernel
theorem dX0_sift_87 : decode cX0_sift 87 = .ok (.getfield 29, 3) := by decide +kernel
theorem dX0_sift_90 : decode cX0_sift 90 = .ok (.iload 5, 2) := by decide +kernel
theorem dX0_sift_92 : decode cX0_sift 92 = .ok (.baload, 1) := by decide +kernel
theorem dX0_sift_93 : decode cX0_sift 93 = .ok (.invokestatic 76, 3) := by decide +kernel
theorem dX0_sift_96 : decode cX0_sift 96 = .ok (.istore 6, 2) := by decide +kernel
theorem dX0_sift_98 : decode cX0_sift 98 = .ok (.aload_n 0, 1) := by decide +kernel
theorem dX0_sift_99 : decode cX0_sift 99 = .ok (.getfield 38, 3) := by decide +kernel
theorem dX0_sift_102 : decode cX0_sift 102 = .ok (.aload_n 0, 1) := by decide +kernel
theorem dX0_sift_103 : decode cX0_sift 103 = .ok (.getfield 17, 3) := by decide +kernel
theorem dX0_sift_106 : decode cX0_sift 106 = .ok (.iload 5, 2) := by decide +kernel
theorem dX0_sift_108 : decode cX0_sift 108 = .ok (.baload, 1) := by decide +kernel
theorem dX0_sift_109 : decode cX0_sift 109 = .ok (.aload_n 0, 1) := by decide +kernel
theorem dX0_sift_110 : decode cX0_sift 110 = .ok (.getfield 38, 3) := by decide +kernel
theorem dX0_sift_113 : decode cX0_sift 113 = .ok (.aload_n 0, 1) := by decide +kernel
theorem dX0_sift_114 : decode cX0_sift 114 = .ok (.getfield 17, 3) := by decide +kernel
theorem dX0_sift_117 : decode cX0_sift 117 = .ok (.iload 5, 2) := by decide +kernel
theorem dX0_sift_119 : decode cX0_sift 119 = .ok (.baload, 1) := by decide +kernel
theorem dX0_sift_120 : decode cX0_sift 120 = .ok (.saload, 1) := by decide +kernel
theorem dX0_sift_121 : decode cX0_sift 121 = .ok (.iload 6, 2) := by decide +kernel
theorem dX0_sift_123 : decode cX0_sift 123 = .ok (.iconst (-1), 1) := by decide +kernel
theorem dX0_sift_124 : decode cX0_sift 124 = .ok (.ixor, 1) := by decide +kernel
theorem dX0_sift_125 : decode cX0_sift 125 = .ok (.iand, 1) := by decide +kernel
theorem dX0_sift_126 : decode cX0_sift 126 = .ok (.i2s, 1) := by decide +kernel
theorem dX0_sift_127 : decode cX0_sift 127 = .ok (.sastore, 1) := by decide +kernel
theorem dX0_sift_128 : decode cX0_sift 128 = .ok (.iinc 5 1, 3) := by decide +kernel
theorem dX0_sift_131 : decode cX0_sift 131 = .ok (.goto (-70), 3) := by decide +kernel
theorem dX0_sift_134 : decode cX0_sift 134 = .ok (.iinc 2 1, 3) := by decide +kernel
theorem dX0_sift_137 : decode cX0_sift 137 = .ok (.goto (-105), 3) := by decide +kernel
theorem dX0_sift_140 : decode cX0_sift 140 = .ok (.return_, 1) := by decide +kernel
theorem dX0_featureIn_0 : decode cX0_featureIn 0 = .ok (.iload_n 0, 1) := by decide +kernel
theorem dX0_featureIn_1 : decode cX0_featureIn 1 = .ok (.iconst 4, 1) := by decide +kernel
theorem dX0_featureIn_2 : decode cX0_featureIn 2 = .ok (.iload_n 1, 1) := by decide +kernel
theorem dX0_featureIn_3 : decode cX0_featureIn 3 = .ok (.imul, 1) := by decide +kernel
theorem dX0_featureIn_4 : decode cX0_featureIn 4 = .ok (.ishr, 1) := by decide +kernel
theorem dX0_featureIn_5 : decode cX0_featureIn 5 = .ok (.bipush 15, 2) := by decide +kernel
theorem dX0_featureIn_7 : decode cX0_featureIn 7 = .ok (.iand, 1) := by decide +kernel
theorem dX0_featureIn_8 : decode cX0_featureIn 8 = .ok (.ireturn, 1) := by decide +kernel
theorem dX0_span_0 : decode cX0_span 0 = .ok (.iconst 1, 1) := by decide +kernel
theorem dX0_span_1 : decode cX0_span 1 = .ok (.iload_n 1, 1) := by decide +kernel
theorem dX0_span_2 : decode cX0_span 2 = .ok (.iconst 1, 1) := by decide +kernel
theorem dX0_span_3 : decode cX0_span 3 = .ok (.iadd, 1) := by decide +kernel
theorem dX0_span_4 : decode cX0_span 4 = .ok (.ishl, 1) := by decide +kernel
theorem dX0_span_5 : decode cX0_span 5 = .ok (.iconst 1, 1) := by decide +kernel
theorem dX0_span_6 : decode cX0_span 6 = .ok (.isub, 1) := by decide +kernel
theorem dX0_span_7 : decode cX0_span 7 = .ok (.iconst 1, 1) := by decide +kernel
theorem dX0_span_8 : decode cX0_span 8 = .ok (.iload_n 0, 1) := by decide +kernel
theorem dX0_span_9 : decode cX0_span 9 = .ok (.ishl, 1) := by decide +kernel
theorem dX0_span_10 : decode cX0_span 10 = .ok (.iconst 1, 1) := by decide +kernel
theorem dX0_span_11 : decode cX0_span 11 = .ok (.isub, 1) := by decide +kernel
theorem dX0_span_12 : decode cX0_span 12 = .ok (.iconst (-1), 1) := by decide +kernel
theorem dX0_span_13 : decode cX0_span 13 = .ok (.ixor, 1) := by decide +kernel
theorem dX0_span_14 : decode cX0_span 14 = .ok (.iand, 1) := by decide +kernel
theorem dX0_span_15 : decode cX0_span 15 = .ok (.ireturn, 1) := by decide +kernel
theorem dX0_firstLeft_0 : decode cX0_firstLeft 0 = .ok (.iconst 0, 1) := by decide +kernel
theorem dX0_firstLeft_1 : decode cX0_firstLeft 1 = .ok (.istore_n 2, 1) := by decide +kernel
theorem dX0_firstLeft_2 : decode cX0_firstLeft 2 = .ok (.iload_n 2, 1) := by decide +kernel
theorem dX0_firstLeft_3 : decode cX0_firstLeft 3 = .ok (.bipush 7, 2) := by decide +kernel
theorem dX0_firstLeft_5 : decode cX0_firstLeft 5 = .ok (.if_icmp .ge 22, 3) := by decide +kernel
theorem dX0_firstLeft_8 : decode cX0_firstLeft 8 = .ok (.aload_n 0, 1) := by decide +kernel
theorem dX0_firstLeft_9 : decode cX0_firstLeft 9 = .ok (.getfield 38, 3) := by decide +kernel
theorem dX0_firstLeft_12 : decode cX0_firstLeft 12 = .ok (.iload_n 1, 1) := by decide +kernel
theorem dX0_firstLeft_13 : decode cX0_firstLeft 13 = .ok (.saload, 1) := by decide +kernel
theorem dX0_firstLeft_14 : decode cX0_firstLeft 14 = .ok (.iload_n 2, 1) := by decide +kernel
theorem dX0_firstLeft_15 : decode cX0_firstLeft 15 = .ok (.ishr, 1) := by decide +kernel
theorem dX0_firstLeft_16 : decode cX0_firstLeft 16 = .ok (.iconst 1, 1) := by decide +kernel
theorem dX0_firstLeft_17 : decode cX0_firstLeft 17 = .ok (.iand, 1) := by decide +kernel
theorem dX0_firstLeft_18 : decode cX0_firstLeft 18 = .ok (.ifCond .ne 9, 3) := by decide +kernel
theorem dX0_firstLeft_21 : decode cX0_firstLeft 21 = .ok (.iinc 2 1, 3) := by decide +kernel
theorem dX0_firstLeft_24 : decode cX0_firstLeft 24 = .ok (.goto (-22), 3) := by decide +kernel
theorem dX0_firstLeft_27 : decode cX0_firstLeft 27 = .ok (.iload_n 2, 1) := by decide +kernel
theorem dX0_firstLeft_28 : decode cX0_firstLeft 28 = .ok (.ireturn, 1) := by decide +kernel
theorem dX0_score_0 : decode cX0_score 0 = .ok (.iload_n 1, 1) := by decide +kernel
theorem dX0_score_1 : decode cX0_score 1 = .ok (.invokestatic 79, 3) := by decide +kernel
theorem dX0_score_4 : decode cX0_score 4 = .ok (.ifCond .eq 11, 3) := by decide +kernel
theorem dX0_score_7 : decode cX0_score 7 = .ok (.aload_n 0, 1) := by decide +kernel
theorem dX0_score_8 : decode cX0_score 8 = .ok (.iload_n 1, 1) := by decide +kernel
theorem dX0_score_9 : decode cX0_score 9 = .ok (.invokevirtual 90, 3) := by decide +kernel
theorem dX0_score_12 : decode cX0_score 12 = .ok (.goto 4, 3) := by decide +kernel
theorem dX0_score_15 : decode cX0_score 15 = .ok (.iconst 0, 1) := by decide +kernel
theorem dX0_score_16 : decode cX0_score 16 = .ok (.ireturn, 1) := by decide +kernel
theorem dX0_scoreOf_0 : decode cX0_scoreOf 0 = .ok (.aload_n 0, 1) := by decide +kernel
theorem dX0_scoreOf_1 : decode cX0_scoreOf 1 = .ok (.iload_n 1, 1) := by decide +kernel
theorem dX0_scoreOf_2 : decode cX0_scoreOf 2 = .ok (.invokevirtual 82, 3) := by decide +kernel
theorem dX0_scoreOf_5 : decode cX0_scoreOf 5 = .ok (.iconst 0, 1) := by decide +kernel
theorem dX0_scoreOf_6 : decode cX0_scoreOf 6 = .ok (.istore_n 2, 1) := by decide +kernel
theorem dX0_scoreOf_7 : decode cX0_scoreOf 7 = .ok (.iconst 0, 1) := by decide +kernel
theorem dX0_scoreOf_8 : decode cX0_scoreOf 8 = .ok (.istore_n 3, 1) := by decide +kernel
theorem dX0_scoreOf_9 : decode cX0_scoreOf 9 = .ok (.iload_n 3, 1) := by decide +kernel
theorem dX0_scoreOf_10 : decode cX0_scoreOf 10 = .ok (.iconst 4, 1) := by decide +kernel
theorem dX0_scoreOf_11 : decode cX0_scoreOf 11 = .ok (.if_icmp .ge 31, 3) := by decide +kernel
theorem dX0_scoreOf_14 : decode cX0_scoreOf 14 = .ok (.aload_n 0, 1) := by decide +kernel
theorem dX0_scoreOf_15 : decode cX0_scoreOf 15 = .ok (.iload_n 3, 1) := by decide +kernel
theorem dX0_scoreOf_16 : decode cX0_scoreOf 16 = .ok (.invokevirtual 86, 3) := by decide +kernel
theorem dX0_scoreOf_19 : decode cX0_scoreOf 19 = .ok (.istore 4, 2) := by decide +kernel
theorem dX0_scoreOf_21 : decode cX0_scoreOf 21 = .ok (.iload_n 2, 1) := by decide +kernel
theorem dX0_scoreOf_22 : decode cX0_scoreOf 22 = .ok (.aload_n 0, 1) := by decide +kernel
theorem dX0_scoreOf_23 : decode cX0_scoreOf 23 = .ok (.getfield 13, 3) := by decide +kernel
theorem dX0_scoreOf_26 : decode cX0_scoreOf 26 = .ok (.iload_n 3, 1) := by decide +kernel
theorem dX0_scoreOf_27 : decode cX0_scoreOf 27 = .ok (.bipush 8, 2) := by decide +kernel
theorem dX0_scoreOf_29 : decode cX0_scoreOf 29 = .ok (.imul, 1) := by decide +kernel
theorem dX0_scoreOf_30 : decode cX0_scoreOf 30 = .ok (.iload 4, 2) := by decide +kernel
theorem dX0_scoreOf_32 : decode cX0_scoreOf 32 = .ok (.iadd, 1) := by decide +kernel
theorem dX0_scoreOf_33 : decode cX0_scoreOf 33 = .ok (.iaload, 1) := by decide +kernel
theorem dX0_scoreOf_34 : decode cX0_scoreOf 34 = .ok (.iadd, 1) := by decide +kernel
theorem dX0_scoreOf_35 : decode cX0_scoreOf 35 = .ok (.istore_n 2, 1) := by decide +kernel
theorem dX0_scoreOf_36 : decode cX0_scoreOf 36 = .ok (.iinc 3 1, 3) := by decide +kernel
theorem dX0_scoreOf_39 : decode cX0_scoreOf 39 = .ok (.goto (-30), 3) := by decide +kernel
theorem dX0_scoreOf_42 : decode cX0_scoreOf 42 = .ok (.iload_n 2, 1) := by decide +kernel
theorem dX0_scoreOf_43 : decode cX0_scoreOf 43 = .ok (.ireturn, 1) := by decide +kernel
theorem dX0_depth_0 : decode cX0_depth 0 = .ok (.iload_n 1, 1) := by decide +kernel
theorem dX0_depth_1 : decode cX0_depth 1 = .ok (.invokestatic 79, 3) := by decide +kernel
theorem dX0_depth_4 : decode cX0_depth 4 = .ok (.ifCond .ne 5, 3) := by decide +kernel
theorem dX0_depth_7 : decode cX0_depth 7 = .ok (.iconst (-1), 1) := by decide +kernel
theorem dX0_depth_8 : decode cX0_depth 8 = .ok (.ireturn, 1) := by decide +kernel
theorem dX0_depth_9 : decode cX0_depth 9 = .ok (.aload_n 0, 1) := by decide +kernel
theorem dX0_depth_10 : decode cX0_depth 10 = .ok (.iload_n 1, 1) := by decide +kernel
theorem dX0_depth_11 : decode cX0_depth 11 = .ok (.invokevirtual 82, 3) := by decide +kernel
theorem dX0_depth_14 : decode cX0_depth 14 = .ok (.iconst 0, 1) := by decide +kernel
theorem dX0_depth_15 : decode cX0_depth 15 = .ok (.istore_n 2, 1) := by decide +kernel
theorem dX0_depth_16 : decode cX0_depth 16 = .ok (.iconst 0, 1) := by decide +kernel
theorem dX0_depth_17 : decode cX0_depth 17 = .ok (.istore_n 3, 1) := by decide +kernel
theorem dX0_depth_18 : decode cX0_depth 18 = .ok (.iload_n 3, 1) := by decide +kernel
theorem dX0_depth_19 : decode cX0_depth 19 = .ok (.aload_n 0, 1) := by decide +kernel
theorem dX0_depth_20 : decode cX0_depth 20 = .ok (.getfield 54, 3) := by decide +kernel
theorem dX0_depth_23 : decode cX0_depth 23 = .ok (.if_icmp .ge 51, 3) := by decide +kernel
theorem dX0_depth_26 : decode cX0_depth 26 = .ok (.aload_n 0, 1) := by decide +kernel
theorem dX0_depth_27 : decode cX0_depth 27 = .ok (.aload_n 0, 1) := by decide +kernel
theorem dX0_depth_28 : decode cX0_depth 28 = .ok (.getfield 17, 3) := by decide +kernel
theorem dX0_depth_31 : decode cX0_depth 31 = .ok (.iload_n 3, 1) := by decide +kernel
theorem dX0_depth_32 : decode cX0_depth 32 = .ok (.baload, 1) := by decide +kernel
theorem dX0_depth_33 : decode cX0_depth 33 = .ok (.invokevirtual 86, 3) := by decide +kernel
theorem dX0_depth_36 : decode cX0_depth 36 = .ok (.istore 4, 2) := by decide +kernel
theorem dX0_depth_38 : decode cX0_depth 38 = .ok (.iload_n 2, 1) := by decide +kernel
theorem dX0_depth_39 : decode cX0_depth 39 = .ok (.iload 4, 2) := by decide +kernel
theorem dX0_depth_41 : decode cX0_depth 41 = .ok (.aload_n 0, 1) := by decide +kernel
theorem dX0_depth_42 : decode cX0_depth 42 = .ok (.getfield 26, 3) := by decide +kernel
theorem dX0_depth_45 : decode cX0_depth 45 = .ok (.iload_n 3, 1) := by decide +kernel
theorem dX0_depth_46 : decode cX0_depth 46 = .ok (.baload, 1) := by decide +kernel
theorem dX0_depth_47 : decode cX0_depth 47 = .ok (.if_icmp .lt 18, 3) := by decide +kernel
theorem dX0_depth_50 : decode cX0_depth 50 = .ok (.iload 4, 2) := by decide +kernel
theorem dX0_depth_52 : decode cX0_depth 52 = .ok (.aload_n 0, 1) := by decide +kernel
theorem dX0_depth_53 : decode cX0_depth 53 = .ok (.getfield 32, 3) := by decide +kernel
theorem dX0_depth_56 : decode cX0_depth 56 = .ok (.iload_n 3, 1) := by decide +kernel
theorem dX0_depth_57 : decode cX0_depth 57 = .ok (.baload, 1) := by decide +kernel
theorem dX0_depth_58 : decode cX0_depth 58 = .ok (.if_icmp .gt 7, 3) := by decide +kernel
theorem dX0_depth_61 : decode cX0_depth 61 = .ok (.iconst 1, 1) := by decide +kernel
theorem dX0_depth_62 : decode cX0_depth 62 = .ok (.goto 4, 3) := by decide +kernel
theorem dX0_depth_65 : decode cX0_depth 65 = .ok (.iconst 0, 1) := by decide +kernel
theorem dX0_depth_66 : decode cX0_depth 66 = .ok (.iadd, 1) := by decide +kernel
theorem dX0_depth_67 : decode cX0_depth 67 = .ok (.istore_n 2, 1) := by decide +kernel
theorem dX0_depth_68 : decode cX0_depth 68 = .ok (.iinc 3 1, 3) := by decide +kernel
theorem dX0_depth_71 : decode cX0_depth 71 = .ok (.goto (-53), 3) := by decide +kernel
theorem dX0_depth_74 : decode cX0_depth 74 = .ok (.iload_n 2, 1) := by decide +kernel
theorem dX0_depth_75 : decode cX0_depth 75 = .ok (.ireturn, 1) := by decide +kernel
theorem dX0_leavesAlong_0 : decode cX0_leavesAlong 0 = .ok (.iload_n 1, 1) := by decide +kernel
theorem dX0_leavesAlong_1 : decode cX0_leavesAlong 1 = .ok (.invokestatic 43, 3) := by decide +kernel
theorem dX0_leavesAlong_4 : decode cX0_leavesAlong 4 = .ok (.ifCond .eq 17, 3) := by decide +kernel
theorem dX0_leavesAlong_7 : decode cX0_leavesAlong 7 = .ok (.iload_n 2, 1) := by decide +kernel
theorem dX0_leavesAlong_8 : decode cX0_leavesAlong 8 = .ok (.invokestatic 79, 3) := by decide +kernel
theorem dX0_leavesAlong_11 : decode cX0_leavesAlong 11 = .ok (.ifCond .eq 10, 3) := by decide +kernel
theorem dX0_leavesAlong_14 : decode cX0_leavesAlong 14 = .ok (.iload_n 3, 1) := by decide +kernel
theorem dX0_leavesAlong_15 : decode cX0_leavesAlong 15 = .ok (.invokestatic 51, 3) := by decide +kernel
theorem dX0_leavesAlong_18 : decode cX0_leavesAlong 18 = .ok (.ifCond .ne 5, 3) := by decide +kernel
theorem dX0_leavesAlong_21 : decode cX0_leavesAlong 21 = .ok (.iconst 0, 1) := by decide +kernel
theorem dX0_leavesAlong_22 : decode cX0_leavesAlong 22 = .ok (.ireturn, 1) := by decide +kernel
theorem dX0_leavesAlong_23 : decode cX0_leavesAlong 23 = .ok (.iconst 0, 1) := by decide +kernel
theorem dX0_leavesAlong_24 : decode cX0_leavesAlong 24 = .ok (.istore 4, 2) := by decide +kernel
theorem dX0_leavesAlong_26 : decode cX0_leavesAlong 26 = .ok (.iconst 0, 1) := by decide +kernel
theorem dX0_leavesAlong_27 : decode cX0_leavesAlong 27 = .ok (.istore 5, 2) := by decide +kernel
theorem dX0_leavesAlong_29 : decode cX0_leavesAlong 29 = .ok (.iload 5, 2) := by decide +kernel
theorem dX0_leavesAlong_31 : decode cX0_leavesAlong 31 = .ok (.bipush 16, 2) := by decide +kernel
theorem dX0_leavesAlong_33 : decode cX0_leavesAlong 33 = .ok (.if_icmp .ge 36, 3) := by decide +kernel
theorem dX0_leavesAlong_36 : decode cX0_leavesAlong 36 = .ok (.iload_n 2, 1) := by decide +kernel
theorem dX0_leavesAlong_37 : decode cX0_leavesAlong 37 = .ok (.iload_n 3, 1) := by decide +kernel
theorem dX0_leavesAlong_38 : decode cX0_leavesAlong 38 = .ok (.iload 5, 2) := by decide +kernel
theorem dX0_leavesAlong_40 : decode cX0_leavesAlong 40 = .ok (.invokestatic 93, 3) := by decide +kernel
theorem dX0_leavesAlong_43 : decode cX0_leavesAlong 43 = .ok (.istore 6, 2) := by decide +kernel
theorem dX0_leavesAlong_45 : decode cX0_leavesAlong 45 = .ok (.aload_n 0, 1) := by decide +kernel
theorem dX0_leavesAlong_46 : decode cX0_leavesAlong 46 = .ok (.iload 6, 2) := by decide +kernel
theorem dX0_leavesAlong_48 : decode cX0_leavesAlong 48 = .ok (.invokevirtual 82, 3) := by decide +kernel
theorem dX0_leavesAlong_51 : decode cX0_leavesAlong 51 = .ok (.iload 4, 2) := by decide +kernel
theorem dX0_leavesAlong_53 : decode cX0_leavesAlong 53 = .ok (.iconst 1, 1) := by decide +kernel
theorem dX0_leavesAlong_54 : decode cX0_leavesAlong 54 = .ok (.aload_n 0, 1) := by decide +kernel
theorem dX0_leavesAlong_55 : decode cX0_leavesAlong 55 = .ok (.iload_n 1, 1) := by decide +kernel
theorem dX0_leavesAlong_56 : decode cX0_leavesAlong 56 = .ok (.invokevirtual 86, 3) := by decide +kernel
theorem dX0_leavesAlong_59 : decode cX0_leavesAlong 59 = .ok (.ishl, 1) := by decide +kernel
theorem dX0_leavesAlong_60 : decode cX0_leavesAlong 60 = .ok (.ior, 1) := by decide +kernel
theorem dX0_leavesAlong_61 : decode cX0_leavesAlong 61 = .ok (.istore 4, 2) := by decide +kernel
theorem dX0_leavesAlong_63 : decode cX0_leavesAlong 63 = .ok (.iinc 5 1, 3) := by decide +kernel
theorem dX0_leavesAlong_66 : decode cX0_leavesAlong 66 = .ok (.goto (-37), 3) := by decide +kernel
theorem dX0_leavesAlong_69 : decode cX0_leavesAlong 69 = .ok (.iload 4, 2) := by decide +kernel
theorem dX0_leavesAlong_71 : decode cX0_leavesAlong 71 = .ok (.ireturn, 1) := by decide +kernel
theorem dX0_withFeature_0 : decode cX0_withFeature 0 = .ok (.iload_n 0, 1) := by decide +kernel
theorem dX0_withFeature_1 : decode cX0_withFeature 1 = .ok (.bipush 15, 2) := by decide +kernel
theorem dX0_withFeature_3 : decode cX0_withFeature 3 = .ok (.iconst 4, 1) := by decide +kernel
theorem dX0_withFeature_4 : decode cX0_withFeature 4 = .ok (.iload_n 1, 1) := by decide +kernel
theorem dX0_withFeature_5 : decode cX0_withFeature 5 = .ok (.imul, 1) := by decide +kernel
theorem dX0_withFeature_6 : decode cX0_withFeature 6 = .ok (.ishl, 1) := by decide +kernel
theorem dX0_withFeature_7 : decode cX0_withFeature 7 = .ok (.iconst (-1), 1) := by decide +kernel
theorem dX0_withFeature_8 : decode cX0_withFeature 8 = .ok (.ixor, 1) := by decide +kernel
theorem dX0_withFeature_9 : decode cX0_withFeature 9 = .ok (.iand, 1) := by decide +kernel
theorem dX0_withFeature_10 : decode cX0_withFeature 10 = .ok (.iload_n 2, 1) := by decide +kernel
theorem dX0_withFeature_11 : decode cX0_withFeature 11 = .ok (.iconst 4, 1) := by decide +kernel
theorem dX0_withFeature_12 : decode cX0_withFeature 12 = .ok (.iload_n 1, 1) := by decide +kernel
theorem dX0_withFeature_13 : decode cX0_withFeature 13 = .ok (.imul, 1) := by decide +kernel
theorem dX0_withFeature_14 : decode cX0_withFeature 14 = .ok (.ishl, 1) := by decide +kernel
theorem dX0_withFeature_15 : decode cX0_withFeature 15 = .ok (.ior, 1) := by decide +kernel
theorem dX0_withFeature_16 : decode cX0_withFeature 16 = .ok (.ireturn, 1) := by decide +kernel
theorem dX0_bestValue_0 : decode cX0_bestValue 0 = .ok (.iload_n 1, 1) := by decide +kernel
theorem dX0_bestValue_1 : decode cX0_bestValue 1 = .ok (.invokestatic 79, 3) := by decide +kernel
theorem dX0_bestValue_4 : decode cX0_bestValue 4 = .ok (.ifCond .eq 10, 3) := by decide +kernel
theorem dX0_bestValue_7 : decode cX0_bestValue 7 = .ok (.iload_n 2, 1) := by decide +kernel
theorem dX0_bestValue_8 : decode cX0_bestValue 8 = .ok (.invokestatic 51, 3) := by decide +kernel
theorem dX0_bestValue_11 : decode cX0_bestValue 11 = .ok (.ifCond .ne 5, 3) := by decide +kernel
theorem dX0_bestValue_14 : decode cX0_bestValue 14 = .ok (.iconst (-1), 1) := by decide +kernel
theorem dX0_bestValue_15 : decode cX0_bestValue 15 = .ok (.ireturn, 1) := by decide +kernel
theorem dX0_bestValue_16 : decode cX0_bestValue 16 = .ok (.iconst 0, 1) := by decide +kernel
theorem dX0_bestValue_17 : decode cX0_bestValue 17 = .ok (.istore_n 3, 1) := by decide +kernel
theorem dX0_bestValue_18 : decode cX0_bestValue 18 = .ok (.iconst 0, 1) := by decide +kernel
theorem dX0_bestValue_19 : decode cX0_bestValue 19 = .ok (.istore 4, 2) := by decide +kernel
theorem dX0_bestValue_21 : decode cX0_bestValue 21 = .ok (.iconst 0, 1) := by decide +kernel
theorem dX0_bestValue_22 : decode cX0_bestValue 22 = .ok (.istore 5, 2) := by decide +kernel
theorem dX0_bestValue_24 : decode cX0_bestValue 24 = .ok (.iload 5, 2) := by decide +kernel
theorem dX0_bestValue_26 : decode cX0_bestValue 26 = .ok (.bipush 16, 2) := by decide +kernel
theorem dX0_bestValue_28 : decode cX0_bestValue 28 = .ok (.if_icmp .ge 45, 3) := by decide +kernel
theorem dX0_bestValue_31 : decode cX0_bestValue 31 = .ok (.iload_n 1, 1) := by decide +kernel
theorem dX0_bestValue_32 : decode cX0_bestValue 32 = .ok (.iload_n 2, 1) := by decide +kernel
theorem dX0_bestValue_33 : decode cX0_bestValue 33 = .ok (.iload 5, 2) := by decide +kernel
theorem dX0_bestValue_35 : decode cX0_bestValue 35 = .ok (.invokestatic 93, 3) := by decide +kernel
end
section
set_option maxRecDepth 100000
theorem dX0_bestValue_38 : decode cX0_bestValue 38 = .ok (.istore 6, 2) := by decide +kernel
theorem dX0_bestValue_40 : decode cX0_bestValue 40 = .ok (.aload_n 0, 1) := by decide +kernel
theorem dX0_bestValue_41 : decode cX0_bestValue 41 = .ok (.iload 6, 2) := by decide +kernel
theorem dX0_bestValue_43 : decode cX0_bestValue 43 = .ok (.invokevirtual 90, 3) := by decide +kernel
theorem dX0_bestValue_46 : decode cX0_bestValue 46 = .ok (.istore 7, 2) := by decide +kernel
theorem dX0_bestValue_48 : decode cX0_bestValue 48 = .ok (.iload 5, 2) := by decide +kernel
theorem dX0_bestValue_50 : decode cX0_bestValue 50 = .ok (.ifCond .eq 10, 3) := by decide +kernel
theorem dX0_bestValue_53 : decode cX0_bestValue 53 = .ok (.iload 7, 2) := by decide +kernel
theorem dX0_bestValue_55 : decode cX0_bestValue 55 = .ok (.iload 4, 2) := by decide +kernel
theorem dX0_bestValue_57 : decode cX0_bestValue 57 = .ok (.if_icmp .le 10, 3) := by decide +kernel
theorem dX0_bestValue_60 : decode cX0_bestValue 60 = .ok (.iload 5, 2) := by decide +kernel
theorem dX0_bestValue_62 : decode cX0_bestValue 62 = .ok (.istore_n 3, 1) := by decide +kernel
theorem dX0_bestValue_63 : decode cX0_bestValue 63 = .ok (.iload 7, 2) := by decide +kernel
theorem dX0_bestValue_65 : decode cX0_bestValue 65 = .ok (.istore 4, 2) := by decide +kernel
theorem dX0_bestValue_67 : decode cX0_bestValue 67 = .ok (.iinc 5 1, 3) := by decide +kernel
theorem dX0_bestValue_70 : decode cX0_bestValue 70 = .ok (.goto (-46), 3) := by decide +kernel
theorem dX0_bestValue_73 : decode cX0_bestValue 73 = .ok (.iload_n 3, 1) := by decide +kernel
theorem dX0_bestValue_74 : decode cX0_bestValue 74 = .ok (.ireturn, 1) := by decide +kernel
theorem dX0_reachable_0 : decode cX0_reachable 0 = .ok (.iload_n 1, 1) := by decide +kernel
theorem dX0_reachable_1 : decode cX0_reachable 1 = .ok (.invokestatic 43, 3) := by decide +kernel
theorem dX0_reachable_4 : decode cX0_reachable 4 = .ok (.ifCond .ne 5, 3) := by decide +kernel
theorem dX0_reachable_7 : decode cX0_reachable 7 = .ok (.iconst 0, 1) := by decide +kernel
theorem dX0_reachable_8 : decode cX0_reachable 8 = .ok (.ireturn, 1) := by decide +kernel
theorem dX0_reachable_9 : decode cX0_reachable 9 = .ok (.iconst 0, 1) := by decide +kernel
theorem dX0_reachable_10 : decode cX0_reachable 10 = .ok (.istore_n 2, 1) := by decide +kernel
theorem dX0_reachable_11 : decode cX0_reachable 11 = .ok (.iconst 0, 1) := by decide +kernel
theorem dX0_reachable_12 : decode cX0_reachable 12 = .ok (.istore_n 3, 1) := by decide +kernel
theorem dX0_reachable_13 : decode cX0_reachable 13 = .ok (.iload_n 3, 1) := by decide +kernel
theorem dX0_reachable_14 : decode cX0_reachable 14 = .ok (.aload_n 0, 1) := by decide +kernel
theorem dX0_reachable_15 : decode cX0_reachable 15 = .ok (.getfield 7, 3) := by decide +kernel
theorem dX0_reachable_18 : decode cX0_reachable 18 = .ok (.iload_n 1, 1) := by decide +kernel
theorem dX0_reachable_19 : decode cX0_reachable 19 = .ok (.baload, 1) := by decide +kernel
theorem dX0_reachable_20 : decode cX0_reachable 20 = .ok (.if_icmp .ge 28, 3) := by decide +kernel
theorem dX0_reachable_23 : decode cX0_reachable 23 = .ok (.iload_n 2, 1) := by decide +kernel
theorem dX0_reachable_24 : decode cX0_reachable 24 = .ok (.aload_n 0, 1) := by decide +kernel
theorem dX0_reachable_25 : decode cX0_reachable 25 = .ok (.iload_n 1, 1) := by decide +kernel
theorem dX0_reachable_26 : decode cX0_reachable 26 = .ok (.iload_n 3, 1) := by decide +kernel
theorem dX0_reachable_27 : decode cX0_reachable 27 = .ok (.invokevirtual 103, 3) := by decide +kernel
theorem dX0_reachable_30 : decode cX0_reachable 30 = .ok (.ifCond .eq 9, 3) := by decide +kernel
theorem dX0_reachable_33 : decode cX0_reachable 33 = .ok (.iconst 1, 1) := by decide +kernel
theorem dX0_reachable_34 : decode cX0_reachable 34 = .ok (.iload_n 3, 1) := by decide +kernel
theorem dX0_reachable_35 : decode cX0_reachable 35 = .ok (.ishl, 1) := by decide +kernel
theorem dX0_reachable_36 : decode cX0_reachable 36 = .ok (.goto 4, 3) := by decide +kernel
theorem dX0_reachable_39 : decode cX0_reachable 39 = .ok (.iconst 0, 1) := by decide +kernel
theorem dX0_reachable_40 : decode cX0_reachable 40 = .ok (.ior, 1) := by decide +kernel
theorem dX0_reachable_41 : decode cX0_reachable 41 = .ok (.istore_n 2, 1) := by decide +kernel
theorem dX0_reachable_42 : decode cX0_reachable 42 = .ok (.iinc 3 1, 3) := by decide +kernel
theorem dX0_reachable_45 : decode cX0_reachable 45 = .ok (.goto (-32), 3) := by decide +kernel
theorem dX0_reachable_48 : decode cX0_reachable 48 = .ok (.iload_n 2, 1) := by decide +kernel
theorem dX0_reachable_49 : decode cX0_reachable 49 = .ok (.ireturn, 1) := by decide +kernel
theorem dX0_canReach_0 : decode cX0_canReach 0 = .ok (.iconst 0, 1) := by decide +kernel
theorem dX0_canReach_1 : decode cX0_canReach 1 = .ok (.istore_n 3, 1) := by decide +kernel
theorem dX0_canReach_2 : decode cX0_canReach 2 = .ok (.iload_n 3, 1) := by decide +kernel
theorem dX0_canReach_3 : decode cX0_canReach 3 = .ok (.iconst 4, 1) := by decide +kernel
theorem dX0_canReach_4 : decode cX0_canReach 4 = .ok (.if_icmp .ge 32, 3) := by decide +kernel
theorem dX0_canReach_7 : decode cX0_canReach 7 = .ok (.aload_n 0, 1) := by decide +kernel
theorem dX0_canReach_8 : decode cX0_canReach 8 = .ok (.iload_n 1, 1) := by decide +kernel
theorem dX0_canReach_9 : decode cX0_canReach 9 = .ok (.iload_n 2, 1) := by decide +kernel
theorem dX0_canReach_10 : decode cX0_canReach 10 = .ok (.iload_n 3, 1) := by decide +kernel
theorem dX0_canReach_11 : decode cX0_canReach 11 = .ok (.invokevirtual 97, 3) := by decide +kernel
theorem dX0_canReach_14 : decode cX0_canReach 14 = .ok (.istore 4, 2) := by decide +kernel
theorem dX0_canReach_16 : decode cX0_canReach 16 = .ok (.iload 4, 2) := by decide +kernel
theorem dX0_canReach_18 : decode cX0_canReach 18 = .ok (.aload_n 0, 1) := by decide +kernel
theorem dX0_canReach_19 : decode cX0_canReach 19 = .ok (.iload_n 1, 1) := by decide +kernel
theorem dX0_canReach_20 : decode cX0_canReach 20 = .ok (.iload_n 2, 1) := by decide +kernel
theorem dX0_canReach_21 : decode cX0_canReach 21 = .ok (.iload_n 3, 1) := by decide +kernel
theorem dX0_canReach_22 : decode cX0_canReach 22 = .ok (.invokevirtual 100, 3) := by decide +kernel
theorem dX0_canReach_25 : decode cX0_canReach 25 = .ok (.if_icmp .le 5, 3) := by decide +kernel
theorem dX0_canReach_28 : decode cX0_canReach 28 = .ok (.iconst 0, 1) := by decide +kernel
theorem dX0_canReach_29 : decode cX0_canReach 29 = .ok (.ireturn, 1) := by decide +kernel
theorem dX0_canReach_30 : decode cX0_canReach 30 = .ok (.iinc 3 1, 3) := by decide +kernel
theorem dX0_canReach_33 : decode cX0_canReach 33 = .ok (.goto (-31), 3) := by decide +kernel
theorem dX0_canReach_36 : decode cX0_canReach 36 = .ok (.iconst 1, 1) := by decide +kernel
theorem dX0_canReach_37 : decode cX0_canReach 37 = .ok (.ireturn, 1) := by decide +kernel
theorem dX0_lowEnd_0 : decode cX0_lowEnd 0 = .ok (.iconst 0, 1) := by decide +kernel
theorem dX0_lowEnd_1 : decode cX0_lowEnd 1 = .ok (.istore 4, 2) := by decide +kernel
theorem dX0_lowEnd_3 : decode cX0_lowEnd 3 = .ok (.aload_n 0, 1) := by decide +kernel
theorem dX0_lowEnd_4 : decode cX0_lowEnd 4 = .ok (.getfield 35, 3) := by decide +kernel
theorem dX0_lowEnd_7 : decode cX0_lowEnd 7 = .ok (.iload_n 3, 1) := by decide +kernel
theorem dX0_lowEnd_8 : decode cX0_lowEnd 8 = .ok (.baload, 1) := by decide +kernel
theorem dX0_lowEnd_9 : decode cX0_lowEnd 9 = .ok (.istore 5, 2) := by decide +kernel
theorem dX0_lowEnd_11 : decode cX0_lowEnd 11 = .ok (.iload 5, 2) := by decide +kernel
theorem dX0_lowEnd_13 : decode cX0_lowEnd 13 = .ok (.aload_n 0, 1) := by decide +kernel
theorem dX0_lowEnd_14 : decode cX0_lowEnd 14 = .ok (.getfield 35, 3) := by decide +kernel
theorem dX0_lowEnd_17 : decode cX0_lowEnd 17 = .ok (.iload_n 3, 1) := by decide +kernel
theorem dX0_lowEnd_18 : decode cX0_lowEnd 18 = .ok (.iconst 1, 1) := by decide +kernel
theorem dX0_lowEnd_19 : decode cX0_lowEnd 19 = .ok (.iadd, 1) := by decide +kernel
theorem dX0_lowEnd_20 : decode cX0_lowEnd 20 = .ok (.baload, 1) := by decide +kernel
theorem dX0_lowEnd_21 : decode cX0_lowEnd 21 = .ok (.if_icmp .ge 84, 3) := by decide +kernel
theorem dX0_lowEnd_24 : decode cX0_lowEnd 24 = .ok (.aload_n 0, 1) := by decide +kernel
theorem dX0_lowEnd_25 : decode cX0_lowEnd 25 = .ok (.getfield 17, 3) := by decide +kernel
theorem dX0_lowEnd_28 : decode cX0_lowEnd 28 = .ok (.iload 5, 2) := by decide +kernel
theorem dX0_lowEnd_30 : decode cX0_lowEnd 30 = .ok (.baload, 1) := by decide +kernel
theorem dX0_lowEnd_31 : decode cX0_lowEnd 31 = .ok (.iload_n 1, 1) := by decide +kernel
theorem dX0_lowEnd_32 : decode cX0_lowEnd 32 = .ok (.if_icmp .ne 29, 3) := by decide +kernel
theorem dX0_lowEnd_35 : decode cX0_lowEnd 35 = .ok (.iload_n 2, 1) := by decide +kernel
theorem dX0_lowEnd_36 : decode cX0_lowEnd 36 = .ok (.aload_n 0, 1) := by decide +kernel
theorem dX0_lowEnd_37 : decode cX0_lowEnd 37 = .ok (.getfield 29, 3) := by decide +kernel
theorem dX0_lowEnd_40 : decode cX0_lowEnd 40 = .ok (.iload 5, 2) := by decide +kernel
theorem dX0_lowEnd_42 : decode cX0_lowEnd 42 = .ok (.baload, 1) := by decide +kernel
theorem dX0_lowEnd_43 : decode cX0_lowEnd 43 = .ok (.if_icmp .le 18, 3) := by decide +kernel
theorem dX0_lowEnd_46 : decode cX0_lowEnd 46 = .ok (.iload_n 2, 1) := by decide +kernel
theorem dX0_lowEnd_47 : decode cX0_lowEnd 47 = .ok (.aload_n 0, 1) := by decide +kernel
theorem dX0_lowEnd_48 : decode cX0_lowEnd 48 = .ok (.getfield 32, 3) := by decide +kernel
theorem dX0_lowEnd_51 : decode cX0_lowEnd 51 = .ok (.iload 5, 2) := by decide +kernel
theorem dX0_lowEnd_53 : decode cX0_lowEnd 53 = .ok (.baload, 1) := by decide +kernel
theorem dX0_lowEnd_54 : decode cX0_lowEnd 54 = .ok (.if_icmp .gt 7, 3) := by decide +kernel
theorem dX0_lowEnd_57 : decode cX0_lowEnd 57 = .ok (.iconst 1, 1) := by decide +kernel
theorem dX0_lowEnd_58 : decode cX0_lowEnd 58 = .ok (.goto 4, 3) := by decide +kernel
theorem dX0_lowEnd_61 : decode cX0_lowEnd 61 = .ok (.iconst 0, 1) := by decide +kernel
theorem dX0_lowEnd_62 : decode cX0_lowEnd 62 = .ok (.istore 6, 2) := by decide +kernel
theorem dX0_lowEnd_64 : decode cX0_lowEnd 64 = .ok (.iload 6, 2) := by decide +kernel
theorem dX0_lowEnd_66 : decode cX0_lowEnd 66 = .ok (.ifCond .eq 29, 3) := by decide +kernel
theorem dX0_lowEnd_69 : decode cX0_lowEnd 69 = .ok (.aload_n 0, 1) := by decide +kernel
theorem dX0_lowEnd_70 : decode cX0_lowEnd 70 = .ok (.getfield 23, 3) := by decide +kernel
theorem dX0_lowEnd_73 : decode cX0_lowEnd 73 = .ok (.iload 5, 2) := by decide +kernel
theorem dX0_lowEnd_75 : decode cX0_lowEnd 75 = .ok (.baload, 1) := by decide +kernel
theorem dX0_lowEnd_76 : decode cX0_lowEnd 76 = .ok (.iconst 1, 1) := by decide +kernel
theorem dX0_lowEnd_77 : decode cX0_lowEnd 77 = .ok (.iadd, 1) := by decide +kernel
theorem dX0_lowEnd_78 : decode cX0_lowEnd 78 = .ok (.iload 4, 2) := by decide +kernel
theorem dX0_lowEnd_80 : decode cX0_lowEnd 80 = .ok (.if_icmp .le 15, 3) := by decide +kernel
theorem dX0_lowEnd_83 : decode cX0_lowEnd 83 = .ok (.aload_n 0, 1) := by decide +kernel
theorem dX0_lowEnd_84 : decode cX0_lowEnd 84 = .ok (.getfield 23, 3) := by decide +kernel
theorem dX0_lowEnd_87 : decode cX0_lowEnd 87 = .ok (.iload 5, 2) := by decide +kernel
theorem dX0_lowEnd_89 : decode cX0_lowEnd 89 = .ok (.baload, 1) := by decide +kernel
theorem dX0_lowEnd_90 : decode cX0_lowEnd 90 = .ok (.iconst 1, 1) := by decide +kernel
theorem dX0_lowEnd_91 : decode cX0_lowEnd 91 = .ok (.iadd, 1) := by decide +kernel
theorem dX0_lowEnd_92 : decode cX0_lowEnd 92 = .ok (.goto 5, 3) := by decide +kernel
theorem dX0_lowEnd_95 : decode cX0_lowEnd 95 = .ok (.iload 4, 2) := by decide +kernel
theorem dX0_lowEnd_97 : decode cX0_lowEnd 97 = .ok (.istore 4, 2) := by decide +kernel
theorem dX0_lowEnd_99 : decode cX0_lowEnd 99 = .ok (.iinc 5 1, 3) := by decide +kernel
theorem dX0_lowEnd_102 : decode cX0_lowEnd 102 = .ok (.goto (-91), 3) := by decide +kernel
theorem dX0_lowEnd_105 : decode cX0_lowEnd 105 = .ok (.iload 4, 2) := by decide +kernel
theorem dX0_lowEnd_107 : decode cX0_lowEnd 107 = .ok (.ireturn, 1) := by decide +kernel
theorem dX0_highEnd_0 : decode cX0_highEnd 0 = .ok (.bipush 15, 2) := by decide +kernel
theorem dX0_highEnd_2 : decode cX0_highEnd 2 = .ok (.istore 4, 2) := by decide +kernel
theorem dX0_highEnd_4 : decode cX0_highEnd 4 = .ok (.aload_n 0, 1) := by decide +kernel
theorem dX0_highEnd_5 : decode cX0_highEnd 5 = .ok (.getfield 35, 3) := by decide +kernel
theorem dX0_highEnd_8 : decode cX0_highEnd 8 = .ok (.iload_n 3, 1) := by decide +kernel
theorem dX0_highEnd_9 : decode cX0_highEnd 9 = .ok (.baload, 1) := by decide +kernel
theorem dX0_highEnd_10 : decode cX0_highEnd 10 = .ok (.istore 5, 2) := by decide +kernel
theorem dX0_highEnd_12 : decode cX0_highEnd 12 = .ok (.iload 5, 2) := by decide +kernel
theorem dX0_highEnd_14 : decode cX0_highEnd 14 = .ok (.aload_n 0, 1) := by decide +kernel
theorem dX0_highEnd_15 : decode cX0_highEnd 15 = .ok (.getfield 35, 3) := by decide +kernel
theorem dX0_highEnd_18 : decode cX0_highEnd 18 = .ok (.iload_n 3, 1) := by decide +kernel
theorem dX0_highEnd_19 : decode cX0_highEnd 19 = .ok (.iconst 1, 1) := by decide +kernel
theorem dX0_highEnd_20 : decode cX0_highEnd 20 = .ok (.iadd, 1) := by decide +kernel
theorem dX0_highEnd_21 : decode cX0_highEnd 21 = .ok (.baload, 1) := by decide +kernel
theorem dX0_highEnd_22 : decode cX0_highEnd 22 = .ok (.if_icmp .ge 80, 3) := by decide +kernel
theorem dX0_highEnd_25 : decode cX0_highEnd 25 = .ok (.aload_n 0, 1) := by decide +kernel
theorem dX0_highEnd_26 : decode cX0_highEnd 26 = .ok (.getfield 17, 3) := by decide +kernel
theorem dX0_highEnd_29 : decode cX0_highEnd 29 = .ok (.iload 5, 2) := by decide +kernel
theorem dX0_highEnd_31 : decode cX0_highEnd 31 = .ok (.baload, 1) := by decide +kernel
theorem dX0_highEnd_32 : decode cX0_highEnd 32 = .ok (.iload_n 1, 1) := by decide +kernel
theorem dX0_highEnd_33 : decode cX0_highEnd 33 = .ok (.if_icmp .ne 29, 3) := by decide +kernel
theorem dX0_highEnd_36 : decode cX0_highEnd 36 = .ok (.iload_n 2, 1) := by decide +kernel
theorem dX0_highEnd_37 : decode cX0_highEnd 37 = .ok (.aload_n 0, 1) := by decide +kernel
theorem dX0_highEnd_38 : decode cX0_highEnd 38 = .ok (.getfield 26, 3) := by decide +kernel
theorem dX0_highEnd_41 : decode cX0_highEnd 41 = .ok (.iload 5, 2) := by decide +kernel
theorem dX0_highEnd_43 : decode cX0_highEnd 43 = .ok (.baload, 1) := by decide +kernel
theorem dX0_highEnd_44 : decode cX0_highEnd 44 = .ok (.if_icmp .lt 18, 3) := by decide +kernel
theorem dX0_highEnd_47 : decode cX0_highEnd 47 = .ok (.iload_n 2, 1) := by decide +kernel
theorem dX0_highEnd_48 : decode cX0_highEnd 48 = .ok (.aload_n 0, 1) := by decide +kernel
theorem dX0_highEnd_49 : decode cX0_highEnd 49 = .ok (.getfield 29, 3) := by decide +kernel
theorem dX0_highEnd_52 : decode cX0_highEnd 52 = .ok (.iload 5, 2) := by decide +kernel
theorem dX0_highEnd_54 : decode cX0_highEnd 54 = .ok (.baload, 1) := by decide +kernel
theorem dX0_highEnd_55 : decode cX0_highEnd 55 = .ok (.if_icmp .gt 7, 3) := by decide +kernel
theorem dX0_highEnd_58 : decode cX0_highEnd 58 = .ok (.iconst 1, 1) := by decide +kernel
theorem dX0_highEnd_59 : decode cX0_highEnd 59 = .ok (.goto 4, 3) := by decide +kernel
theorem dX0_highEnd_62 : decode cX0_highEnd 62 = .ok (.iconst 0, 1) := by decide +kernel
theorem dX0_highEnd_63 : decode cX0_highEnd 63 = .ok (.istore 6, 2) := by decide +kernel
theorem dX0_highEnd_65 : decode cX0_highEnd 65 = .ok (.iload 6, 2) := by decide +kernel
theorem dX0_highEnd_67 : decode cX0_highEnd 67 = .ok (.ifCond .eq 25, 3) := by decide +kernel
theorem dX0_highEnd_70 : decode cX0_highEnd 70 = .ok (.aload_n 0, 1) := by decide +kernel
theorem dX0_highEnd_71 : decode cX0_highEnd 71 = .ok (.getfield 23, 3) := by decide +kernel
theorem dX0_highEnd_74 : decode cX0_highEnd 74 = .ok (.iload 5, 2) := by decide +kernel
theorem dX0_highEnd_76 : decode cX0_highEnd 76 = .ok (.baload, 1) := by decide +kernel
theorem dX0_highEnd_77 : decode cX0_highEnd 77 = .ok (.iload 4, 2) := by decide +kernel
theorem dX0_highEnd_79 : decode cX0_highEnd 79 = .ok (.if_icmp .ge 13, 3) := by decide +kernel
theorem dX0_highEnd_82 : decode cX0_highEnd 82 = .ok (.aload_n 0, 1) := by decide +kernel
theorem dX0_highEnd_83 : decode cX0_highEnd 83 = .ok (.getfield 23, 3) := by decide +kernel
theorem dX0_highEnd_86 : decode cX0_highEnd 86 = .ok (.iload 5, 2) := by decide +kernel
theorem dX0_highEnd_88 : decode cX0_highEnd 88 = .ok (.baload, 1) := by decide +kernel
theorem dX0_highEnd_89 : decode cX0_highEnd 89 = .ok (.goto 5, 3) := by decide +kernel
theorem dX0_highEnd_92 : decode cX0_highEnd 92 = .ok (.iload 4, 2) := by decide +kernel
theorem dX0_highEnd_94 : decode cX0_highEnd 94 = .ok (.istore 4, 2) := by decide +kernel
theorem dX0_highEnd_96 : decode cX0_highEnd 96 = .ok (.iinc 5 1, 3) := by decide +kernel
theorem dX0_highEnd_99 : decode cX0_highEnd 99 = .ok (.goto (-87), 3) := by decide +kernel
theorem dX0_highEnd_102 : decode cX0_highEnd 102 = .ok (.iload 4, 2) := by decide +kernel
theorem dX0_highEnd_104 : decode cX0_highEnd 104 = .ok (.ireturn, 1) := by decide +kernel
theorem dX0_range_0 : decode cX0_range 0 = .ok (.aload_n 0, 1) := by decide +kernel
theorem dX0_range_1 : decode cX0_range 1 = .ok (.iload_n 1, 1) := by decide +kernel
theorem dX0_range_2 : decode cX0_range 2 = .ok (.iload_n 2, 1) := by decide +kernel
theorem dX0_range_3 : decode cX0_range 3 = .ok (.invokevirtual 47, 3) := by decide +kernel
theorem dX0_range_6 : decode cX0_range 6 = .ok (.ifCond .eq 30, 3) := by decide +kernel
theorem dX0_range_9 : decode cX0_range 9 = .ok (.iload_n 3, 1) := by decide +kernel
theorem dX0_range_10 : decode cX0_range 10 = .ok (.invokestatic 51, 3) := by decide +kernel
theorem dX0_range_13 : decode cX0_range 13 = .ok (.ifCond .eq 23, 3) := by decide +kernel
theorem dX0_range_16 : decode cX0_range 16 = .ok (.iload 4, 2) := by decide +kernel
theorem dX0_range_18 : decode cX0_range 18 = .ok (.ifCond .lt 18, 3) := by decide +kernel
theorem dX0_range_21 : decode cX0_range 21 = .ok (.iload 4, 2) := by decide +kernel
theorem dX0_range_23 : decode cX0_range 23 = .ok (.iconst 1, 1) := by decide +kernel
theorem dX0_range_24 : decode cX0_range 24 = .ok (.if_icmp .gt 12, 3) := by decide +kernel
theorem dX0_range_27 : decode cX0_range 27 = .ok (.aload_n 0, 1) := by decide +kernel
theorem dX0_range_28 : decode cX0_range 28 = .ok (.iload_n 1, 1) := by decide +kernel
theorem dX0_range_29 : decode cX0_range 29 = .ok (.iload_n 2, 1) := by decide +kernel
theorem dX0_range_30 : decode cX0_range 30 = .ok (.invokevirtual 103, 3) := by decide +kernel
theorem dX0_range_33 : decode cX0_range 33 = .ok (.ifCond .ne 5, 3) := by decide +kernel
theorem dX0_range_36 : decode cX0_range 36 = .ok (.iconst (-1), 1) := by decide +kernel
theorem dX0_range_37 : decode cX0_range 37 = .ok (.ireturn, 1) := by decide +kernel
theorem dX0_range_38 : decode cX0_range 38 = .ok (.iload 4, 2) := by decide +kernel
theorem dX0_range_40 : decode cX0_range 40 = .ok (.ifCond .ne 13, 3) := by decide +kernel
theorem dX0_range_43 : decode cX0_range 43 = .ok (.aload_n 0, 1) := by decide +kernel
theorem dX0_range_44 : decode cX0_range 44 = .ok (.iload_n 1, 1) := by decide +kernel
theorem dX0_range_45 : decode cX0_range 45 = .ok (.iload_n 2, 1) := by decide +kernel
theorem dX0_range_46 : decode cX0_range 46 = .ok (.iload_n 3, 1) := by decide +kernel
theorem dX0_range_47 : decode cX0_range 47 = .ok (.invokevirtual 97, 3) := by decide +kernel
theorem dX0_range_50 : decode cX0_range 50 = .ok (.goto 10, 3) := by decide +kernel
theorem dX0_range_53 : decode cX0_range 53 = .ok (.aload_n 0, 1) := by decide +kernel
theorem dX0_range_54 : decode cX0_range 54 = .ok (.iload_n 1, 1) := by decide +kernel
theorem dX0_range_55 : decode cX0_range 55 = .ok (.iload_n 2, 1) := by decide +kernel
theorem dX0_range_56 : decode cX0_range 56 = .ok (.iload_n 3, 1) := by decide +kernel
theorem dX0_range_57 : decode cX0_range 57 = .ok (.invokevirtual 100, 3) := by decide +kernel
theorem dX0_range_60 : decode cX0_range 60 = .ok (.ireturn, 1) := by decide +kernel
theorem dX0_asks_0 : decode cX0_asks 0 = .ok (.iload_n 1, 1) := by decide +kernel
theorem dX0_asks_1 : decode cX0_asks 1 = .ok (.invokestatic 51, 3) := by decide +kernel
theorem dX0_asks_4 : decode cX0_asks 4 = .ok (.ifCond .eq 21, 3) := by decide +kernel
theorem dX0_asks_7 : decode cX0_asks 7 = .ok (.aload_n 0, 1) := by decide +kernel
theorem dX0_asks_8 : decode cX0_asks 8 = .ok (.getfield 35, 3) := by decide +kernel
theorem dX0_asks_11 : decode cX0_asks 11 = .ok (.iload_n 1, 1) := by decide +kernel
theorem dX0_asks_12 : decode cX0_asks 12 = .ok (.iconst 1, 1) := by decide +kernel
theorem dX0_asks_13 : decode cX0_asks 13 = .ok (.iadd, 1) := by decide +kernel
theorem dX0_asks_14 : decode cX0_asks 14 = .ok (.baload, 1) := by decide +kernel
theorem dX0_asks_15 : decode cX0_asks 15 = .ok (.aload_n 0, 1) := by decide +kernel
theorem dX0_asks_16 : decode cX0_asks 16 = .ok (.getfield 35, 3) := by decide +kernel
theorem dX0_asks_19 : decode cX0_asks 19 = .ok (.iload_n 1, 1) := by decide +kernel
theorem dX0_asks_20 : decode cX0_asks 20 = .ok (.baload, 1) := by decide +kernel
theorem dX0_asks_21 : decode cX0_asks 21 = .ok (.isub, 1) := by decide +kernel
theorem dX0_asks_22 : decode cX0_asks 22 = .ok (.goto 4, 3) := by decide +kernel
theorem dX0_asks_25 : decode cX0_asks 25 = .ok (.iconst (-1), 1) := by decide +kernel
theorem dX0_asks_26 : decode cX0_asks 26 = .ok (.ireturn, 1) := by decide +kernel
end
section
set_option maxRecDepth 100000
theorem dX1_init_0 : decode cX1_init 0 = .ok (.aload_n 0, 1) := by decide +kernel
theorem dX1_init_1 : decode cX1_init 1 = .ok (.invokespecial 1, 3) := by decide +kernel
theorem dX1_init_4 : decode cX1_init 4 = .ok (.aload_n 0, 1) := by decide +kernel
theorem dX1_init_5 : decode cX1_init 5 = .ok (.iconst 4, 1) := by decide +kernel
theorem dX1_init_6 : decode cX1_init 6 = .ok (.newarray .int, 2) := by decide +kernel
theorem dX1_init_8 : decode cX1_init 8 = .ok (.putfield 7, 3) := by decide +kernel
theorem dX1_init_11 : decode cX1_init 11 = .ok (.aload_n 0, 1) := by decide +kernel
theorem dX1_init_12 : decode cX1_init 12 = .ok (.bipush 60, 2) := by decide +kernel
theorem dX1_init_14 : decode cX1_init 14 = .ok (.newarray .int, 2) := by decide +kernel
theorem dX1_init_16 : decode cX1_init 16 = .ok (.putfield 13, 3) := by decide +kernel
theorem dX1_init_19 : decode cX1_init 19 = .ok (.aload_n 0, 1) := by decide +kernel
theorem dX1_init_20 : decode cX1_init 20 = .ok (.bipush 60, 2) := by decide +kernel
theorem dX1_init_22 : decode cX1_init 22 = .ok (.newarray .int, 2) := by decide +kernel
theorem dX1_init_24 : decode cX1_init 24 = .ok (.putfield 16, 3) := by decide +kernel
theorem dX1_init_27 : decode cX1_init 27 = .ok (.aload_n 0, 1) := by decide +kernel
theorem dX1_init_28 : decode cX1_init 28 = .ok (.iconst 4, 1) := by decide +kernel
theorem dX1_init_29 : decode cX1_init 29 = .ok (.newarray .int, 2) := by decide +kernel
theorem dX1_init_31 : decode cX1_init 31 = .ok (.putfield 19, 3) := by decide +kernel
theorem dX1_init_34 : decode cX1_init 34 = .ok (.aload_n 0, 1) := by decide +kernel
theorem dX1_init_35 : decode cX1_init 35 = .ok (.iconst 4, 1) := by decide +kernel
theorem dX1_init_36 : decode cX1_init 36 = .ok (.newarray .int, 2) := by decide +kernel
theorem dX1_init_38 : decode cX1_init 38 = .ok (.putfield 22, 3) := by decide +kernel
theorem dX1_init_41 : decode cX1_init 41 = .ok (.iconst 0, 1) := by decide +kernel
theorem dX1_init_42 : decode cX1_init 42 = .ok (.istore_n 1, 1) := by decide +kernel
theorem dX1_init_43 : decode cX1_init 43 = .ok (.iload_n 1, 1) := by decide +kernel
theorem dX1_init_44 : decode cX1_init 44 = .ok (.iconst 4, 1) := by decide +kernel
theorem dX1_init_45 : decode cX1_init 45 = .ok (.if_icmp .ge 26, 3) := by decide +kernel
theorem dX1_init_48 : decode cX1_init 48 = .ok (.aload_n 0, 1) := by decide +kernel
theorem dX1_init_49 : decode cX1_init 49 = .ok (.getfield 7, 3) := by decide +kernel
theorem dX1_init_52 : decode cX1_init 52 = .ok (.iload_n 1, 1) := by decide +kernel
theorem dX1_init_53 : decode cX1_init 53 = .ok (.iconst 1, 1) := by decide +kernel
theorem dX1_init_54 : decode cX1_init 54 = .ok (.iastore, 1) := by decide +kernel
theorem dX1_init_55 : decode cX1_init 55 = .ok (.aload_n 0, 1) := by decide +kernel
theorem dX1_init_56 : decode cX1_init 56 = .ok (.getfield 13, 3) := by decide +kernel
theorem dX1_init_59 : decode cX1_init 59 = .ok (.bipush 15, 2) := by decide +kernel
theorem dX1_init_61 : decode cX1_init 61 = .ok (.iload_n 1, 1) := by decide +kernel
theorem dX1_init_62 : decode cX1_init 62 = .ok (.imul, 1) := by decide +kernel
theorem dX1_init_63 : decode cX1_init 63 = .ok (.iconst (-1), 1) := by decide +kernel
theorem dX1_init_64 : decode cX1_init 64 = .ok (.iastore, 1) := by decide +kernel
theorem dX1_init_65 : decode cX1_init 65 = .ok (.iinc 1 1, 3) := by decide +kernel
theorem dX1_init_68 : decode cX1_init 68 = .ok (.goto (-25), 3) := by decide +kernel
theorem dX1_init_71 : decode cX1_init 71 = .ok (.return_, 1) := by decide +kernel
theorem dX1_split_0 : decode cX1_split 0 = .ok (.aload_n 0, 1) := by decide +kernel
theorem dX1_split_1 : decode cX1_split 1 = .ok (.iload_n 1, 1) := by decide +kernel
theorem dX1_split_2 : decode cX1_split 2 = .ok (.iload_n 2, 1) := by decide +kernel
theorem dX1_split_3 : decode cX1_split 3 = .ok (.invokevirtual 29, 3) := by decide +kernel
theorem dX1_split_6 : decode cX1_split 6 = .ok (.istore 5, 2) := by decide +kernel
theorem dX1_split_8 : decode cX1_split 8 = .ok (.iload 5, 2) := by decide +kernel
theorem dX1_split_10 : decode cX1_split 10 = .ok (.ifCond .lt 24, 3) := by decide +kernel
theorem dX1_split_13 : decode cX1_split 13 = .ok (.iload_n 3, 1) := by decide +kernel
theorem dX1_split_14 : decode cX1_split 14 = .ok (.ifCond .lt 20, 3) := by decide +kernel
theorem dX1_split_17 : decode cX1_split 17 = .ok (.iload_n 3, 1) := by decide +kernel
theorem dX1_split_18 : decode cX1_split 18 = .ok (.iconst 3, 1) := by decide +kernel
theorem dX1_split_19 : decode cX1_split 19 = .ok (.if_icmp .gt 15, 3) := by decide +kernel
theorem dX1_split_22 : decode cX1_split 22 = .ok (.iload 4, 2) := by decide +kernel
theorem dX1_split_24 : decode cX1_split 24 = .ok (.ifCond .lt 10, 3) := by decide +kernel
theorem dX1_split_27 : decode cX1_split 27 = .ok (.iload 4, 2) := by decide +kernel
theorem dX1_split_29 : decode cX1_split 29 = .ok (.bipush 15, 2) := by decide +kernel
theorem dX1_split_31 : decode cX1_split 31 = .ok (.if_icmp .le 5, 3) := by decide +kernel
theorem dX1_split_34 : decode cX1_split 34 = .ok (.iconst (-1), 1) := by decide +kernel
theorem dX1_split_35 : decode cX1_split 35 = .ok (.ireturn, 1) := by decide +kernel
theorem dX1_split_36 : decode cX1_split 36 = .ok (.aload_n 0, 1) := by decide +kernel
theorem dX1_split_37 : decode cX1_split 37 = .ok (.getfield 7, 3) := by decide +kernel
theorem dX1_split_40 : decode cX1_split 40 = .ok (.iload_n 1, 1) := by decide +kernel
theorem dX1_split_41 : decode cX1_split 41 = .ok (.iaload, 1) := by decide +kernel
theorem dX1_split_42 : decode cX1_split 42 = .ok (.bipush 15, 2) := by decide +kernel
theorem dX1_split_44 : decode cX1_split 44 = .ok (.if_icmp .lt 6, 3) := by decide +kernel
theorem dX1_split_47 : decode cX1_split 47 = .ok (.bipush (-2), 2) := by decide +kernel
theorem dX1_split_49 : decode cX1_split 49 = .ok (.ireturn, 1) := by decide +kernel
theorem dX1_split_50 : decode cX1_split 50 = .ok (.aload_n 0, 1) := by decide +kernel
theorem dX1_split_51 : decode cX1_split 51 = .ok (.getfield 7, 3) := by decide +kernel
theorem dX1_split_54 : decode cX1_split 54 = .ok (.iload_n 1, 1) := by decide +kernel
theorem dX1_split_55 : decode cX1_split 55 = .ok (.iaload, 1) := by decide +kernel
theorem dX1_split_56 : decode cX1_split 56 = .ok (.iconst 1, 1) := by decide +kernel
theorem dX1_split_57 : decode cX1_split 57 = .ok (.isub, 1) := by decide +kernel
theorem dX1_split_58 : decode cX1_split 58 = .ok (.istore 6, 2) := by decide +kernel
theorem dX1_split_60 : decode cX1_split 60 = .ok (.iload 6, 2) := by decide +kernel
theorem dX1_split_62 : decode cX1_split 62 = .ok (.iload 5, 2) := by decide +kernel
theorem dX1_split_64 : decode cX1_split 64 = .ok (.if_icmp .le 61, 3) := by decide +kernel
theorem dX1_split_67 : decode cX1_split 67 = .ok (.aload_n 0, 1) := by decide +kernel
theorem dX1_split_68 : decode cX1_split 68 = .ok (.getfield 13, 3) := by decide +kernel
theorem dX1_split_71 : decode cX1_split 71 = .ok (.bipush 15, 2) := by decide +kernel
theorem dX1_split_73 : decode cX1_split 73 = .ok (.iload_n 1, 1) := by decide +kernel
theorem dX1_split_74 : decode cX1_split 74 = .ok (.imul, 1) := by decide +kernel
theorem dX1_split_75 : decode cX1_split 75 = .ok (.iload 6, 2) := by decide +kernel
theorem dX1_split_77 : decode cX1_split 77 = .ok (.iadd, 1) := by decide +kernel
theorem dX1_split_78 : decode cX1_split 78 = .ok (.iconst 2, 1) := by decide +kernel
theorem dX1_split_79 : decode cX1_split 79 = .ok (.iadd, 1) := by decide +kernel
theorem dX1_split_80 : decode cX1_split 80 = .ok (.aload_n 0, 1) := by decide +kernel
theorem dX1_split_81 : decode cX1_split 81 = .ok (.getfield 13, 3) := by decide +kernel
theorem dX1_split_84 : decode cX1_split 84 = .ok (.bipush 15, 2) := by decide +kernel
theorem dX1_split_86 : decode cX1_split 86 = .ok (.iload_n 1, 1) := by decide +kernel
theorem dX1_split_87 : decode cX1_split 87 = .ok (.imul, 1) := by decide +kernel
theorem dX1_split_88 : decode cX1_split 88 = .ok (.iload 6, 2) := by decide +kernel
theorem dX1_split_90 : decode cX1_split 90 = .ok (.iadd, 1) := by decide +kernel
theorem dX1_split_91 : decode cX1_split 91 = .ok (.iaload, 1) := by decide +kernel
theorem dX1_split_92 : decode cX1_split 92 = .ok (.iastore, 1) := by decide +kernel
theorem dX1_split_93 : decode cX1_split 93 = .ok (.aload_n 0, 1) := by decide +kernel
theorem dX1_split_94 : decode cX1_split 94 = .ok (.getfield 16, 3) := by decide +kernel
theorem dX1_split_97 : decode cX1_split 97 = .ok (.bipush 15, 2) := by decide +kernel
theorem dX1_split_99 : decode cX1_split 99 = .ok (.iload_n 1, 1) := by decide +kernel
theorem dX1_split_100 : decode cX1_split 100 = .ok (.imul, 1) := by decide +kernel
theorem dX1_split_101 : decode cX1_split 101 = .ok (.iload 6, 2) := by decide +kernel
theorem dX1_split_103 : decode cX1_split 103 = .ok (.iadd, 1) := by decide +kernel
theorem dX1_split_104 : decode cX1_split 104 = .ok (.iconst 2, 1) := by decide +kernel
theorem dX1_split_105 : decode cX1_split 105 = .ok (.iadd, 1) := by decide +kernel
theorem dX1_split_106 : decode cX1_split 106 = .ok (.aload_n 0, 1) := by decide +kernel
theorem dX1_split_107 : decode cX1_split 107 = .ok (.getfield 16, 3) := by decide +kernel
theorem dX1_split_110 : decode cX1_split 110 = .ok (.bipush 15, 2) := by decide +kernel
theorem dX1_split_112 : decode cX1_split 112 = .ok (.iload_n 1, 1) := by decide +kernel
theorem dX1_split_113 : decode cX1_split 113 = .ok (.imul, 1) := by decide +kernel
theorem dX1_split_114 : decode cX1_split 114 = .ok (.iload 6, 2) := by decide +kernel
theorem dX1_split_116 : decode cX1_split 116 = .ok (.iadd, 1) := by decide +kernel
theorem dX1_split_117 : decode cX1_split 117 = .ok (.iaload, 1) := by decide +kernel
theorem dX1_split_118 : decode cX1_split 118 = .ok (.iastore, 1) := by decide +kernel
theorem dX1_split_119 : decode cX1_split 119 = .ok (.iinc 6 (-1), 3) := by decide +kernel
theorem dX1_split_122 : decode cX1_split 122 = .ok (.goto (-62), 3) := by decide +kernel
theorem dX1_split_125 : decode cX1_split 125 = .ok (.aload_n 0, 1) := by decide +kernel
theorem dX1_split_126 : decode cX1_split 126 = .ok (.getfield 13, 3) := by decide +kernel
theorem dX1_split_129 : decode cX1_split 129 = .ok (.bipush 15, 2) := by decide +kernel
theorem dX1_split_131 : decode cX1_split 131 = .ok (.iload_n 1, 1) := by decide +kernel
theorem dX1_split_132 : decode cX1_split 132 = .ok (.imul, 1) := by decide +kernel
theorem dX1_split_133 : decode cX1_split 133 = .ok (.iload 5, 2) := by decide +kernel
theorem dX1_split_135 : decode cX1_split 135 = .ok (.iadd, 1) := by decide +kernel
theorem dX1_split_136 : decode cX1_split 136 = .ok (.iconst 1, 1) := by decide +kernel
theorem dX1_split_137 : decode cX1_split 137 = .ok (.iadd, 1) := by decide +kernel
theorem dX1_split_138 : decode cX1_split 138 = .ok (.iconst (-1), 1) := by decide +kernel
theorem dX1_split_139 : decode cX1_split 139 = .ok (.iastore, 1) := by decide +kernel
theorem dX1_split_140 : decode cX1_split 140 = .ok (.aload_n 0, 1) := by decide +kernel
theorem dX1_split_141 : decode cX1_split 141 = .ok (.getfield 16, 3) := by decide +kernel
theorem dX1_split_144 : decode cX1_split 144 = .ok (.bipush 15, 2) := by decide +kernel
theorem dX1_split_146 : decode cX1_split 146 = .ok (.iload_n 1, 1) := by decide +kernel
theorem dX1_split_147 : decode cX1_split 147 = .ok (.imul, 1) := by decide +kernel
theorem dX1_split_148 : decode cX1_split 148 = .ok (.iload 5, 2) := by decide +kernel
theorem dX1_split_150 : decode cX1_split 150 = .ok (.iadd, 1) := by decide +kernel
theorem dX1_split_151 : decode cX1_split 151 = .ok (.iconst 1, 1) := by decide +kernel
theorem dX1_split_152 : decode cX1_split 152 = .ok (.iadd, 1) := by decide +kernel
theorem dX1_split_153 : decode cX1_split 153 = .ok (.aload_n 0, 1) := by decide +kernel
theorem dX1_split_154 : decode cX1_split 154 = .ok (.getfield 16, 3) := by decide +kernel
theorem dX1_split_157 : decode cX1_split 157 = .ok (.bipush 15, 2) := by decide +kernel
theorem dX1_split_159 : decode cX1_split 159 = .ok (.iload_n 1, 1) := by decide +kernel
theorem dX1_split_160 : decode cX1_split 160 = .ok (.imul, 1) := by decide +kernel
theorem dX1_split_161 : decode cX1_split 161 = .ok (.iload 5, 2) := by decide +kernel
theorem dX1_split_163 : decode cX1_split 163 = .ok (.iadd, 1) := by decide +kernel
theorem dX1_split_164 : decode cX1_split 164 = .ok (.iaload, 1) := by decide +kernel
theorem dX1_split_165 : decode cX1_split 165 = .ok (.iastore, 1) := by decide +kernel
theorem dX1_split_166 : decode cX1_split 166 = .ok (.aload_n 0, 1) := by decide +kernel
theorem dX1_split_167 : decode cX1_split 167 = .ok (.getfield 13, 3) := by decide +kernel
theorem dX1_split_170 : decode cX1_split 170 = .ok (.bipush 15, 2) := by decide +kernel
theorem dX1_split_172 : decode cX1_split 172 = .ok (.iload_n 1, 1) := by decide +kernel
theorem dX1_split_173 : decode cX1_split 173 = .ok (.imul, 1) := by decide +kernel
theorem dX1_split_174 : decode cX1_split 174 = .ok (.iload 5, 2) := by decide +kernel
theorem dX1_split_176 : decode cX1_split 176 = .ok (.iadd, 1) := by decide +kernel
theorem dX1_split_177 : decode cX1_split 177 = .ok (.iconst 2, 1) := by decide +kernel
theorem dX1_split_178 : decode cX1_split 178 = .ok (.iadd, 1) := by decide +kernel
theorem dX1_split_179 : decode cX1_split 179 = .ok (.iconst (-1), 1) := by decide +kernel
theorem dX1_split_180 : decode cX1_split 180 = .ok (.iastore, 1) := by decide +kernel
theorem dX1_split_181 : decode cX1_split 181 = .ok (.aload_n 0, 1) := by decide +kernel
theorem dX1_split_182 : decode cX1_split 182 = .ok (.getfield 16, 3) := by decide +kernel
theorem dX1_split_185 : decode cX1_split 185 = .ok (.bipush 15, 2) := by decide +kernel
theorem dX1_split_187 : decode cX1_split 187 = .ok (.iload_n 1, 1) := by decide +kernel
theorem dX1_split_188 : decode cX1_split 188 = .ok (.imul, 1) := by decide +kernel
theorem dX1_split_189 : decode cX1_split 189 = .ok (.iload 5, 2) := by decide +kernel
theorem dX1_split_191 : decode cX1_split 191 = .ok (.iadd, 1) := by decide +kernel
theorem dX1_split_192 : decode cX1_split 192 = .ok (.iconst 2, 1) := by decide +kernel
theorem dX1_split_193 : decode cX1_split 193 = .ok (.iadd, 1) := by decide +kernel
theorem dX1_split_194 : decode cX1_split 194 = .ok (.iconst 0, 1) := by decide +kernel
theorem dX1_split_195 : decode cX1_split 195 = .ok (.iastore, 1) := by decide +kernel
theorem dX1_split_196 : decode cX1_split 196 = .ok (.aload_n 0, 1) := by decide +kernel
theorem dX1_split_197 : decode cX1_split 197 = .ok (.getfield 13, 3) := by decide +kernel
theorem dX1_split_200 : decode cX1_split 200 = .ok (.bipush 15, 2) := by decide +kernel
theorem dX1_split_202 : decode cX1_split 202 = .ok (.iload_n 1, 1) := by decide +kernel
theorem dX1_split_203 : decode cX1_split 203 = .ok (.imul, 1) := by decide +kernel
theorem dX1_split_204 : decode cX1_split 204 = .ok (.iload 5, 2) := by decide +kernel
theorem dX1_split_206 : decode cX1_split 206 = .ok (.iadd, 1) := by decide +kernel
theorem dX1_split_207 : decode cX1_split 207 = .ok (.iload_n 3, 1) := by decide +kernel
theorem dX1_split_208 : decode cX1_split 208 = .ok (.iastore, 1) := by decide +kernel
theorem dX1_split_209 : decode cX1_split 209 = .ok (.aload_n 0, 1) := by decide +kernel
theorem dX1_split_210 : decode cX1_split 210 = .ok (.getfield 16, 3) := by decide +kernel
theorem dX1_split_213 : decode cX1_split 213 = .ok (.bipush 15, 2) := by decide +kernel
theorem dX1_split_215 : decode cX1_split 215 = .ok (.iload_n 1, 1) := by decide +kernel
theorem dX1_split_216 : decode cX1_split 216 = .ok (.imul, 1) := by decide +kernel
theorem dX1_split_217 : decode cX1_split 217 = .ok (.iload 5, 2) := by decide +kernel
theorem dX1_split_219 : decode cX1_split 219 = .ok (.iadd, 1) := by decide +kernel
theorem dX1_split_220 : decode cX1_split 220 = .ok (.iload 4, 2) := by decide +kernel
theorem dX1_split_222 : decode cX1_split 222 = .ok (.iastore, 1) := by decide +kernel
theorem dX1_split_223 : decode cX1_split 223 = .ok (.aload_n 0, 1) := by decide +kernel
theorem dX1_split_224 : decode cX1_split 224 = .ok (.getfield 7, 3) := by decide +kernel
theorem dX1_split_227 : decode cX1_split 227 = .ok (.iload_n 1, 1) := by decide +kernel
theorem dX1_split_228 : decode cX1_split 228 = .ok (.aload_n 0, 1) := by decide +kernel
theorem dX1_split_229 : decode cX1_split 229 = .ok (.getfield 7, 3) := by decide +kernel
theorem dX1_split_232 : decode cX1_split 232 = .ok (.iload_n 1, 1) := by decide +kernel
theorem dX1_split_233 : decode cX1_split 233 = .ok (.iaload, 1) := by decide +kernel
theorem dX1_split_234 : decode cX1_split 234 = .ok (.iconst 2, 1) := by decide +kernel
theorem dX1_split_235 : decode cX1_split 235 = .ok (.iadd, 1) := by decide +kernel
theorem dX1_split_236 : decode cX1_split 236 = .ok (.iastore, 1) := by decide +kernel
theorem dX1_split_237 : decode cX1_split 237 = .ok (.aload_n 0, 1) := by decide +kernel
theorem dX1_split_238 : decode cX1_split 238 = .ok (.iload_n 1, 1) := by decide +kernel
theorem dX1_split_239 : decode cX1_split 239 = .ok (.invokevirtual 33, 3) := by decide +kernel
theorem dX1_split_242 : decode cX1_split 242 = .ok (.ireturn, 1) := by decide +kernel
theorem dX1_find_0 : decode cX1_find 0 = .ok (.iconst 0, 1) := by decide +kernel
theorem dX1_find_1 : decode cX1_find 1 = .ok (.istore_n 3, 1) := by decide +kernel
theorem dX1_find_2 : decode cX1_find 2 = .ok (.iconst 0, 1) := by decide +kernel
theorem dX1_find_3 : decode cX1_find 3 = .ok (.istore 4, 2) := by decide +kernel
theorem dX1_find_5 : decode cX1_find 5 = .ok (.aload_n 0, 1) := by decide +kernel
theorem dX1_find_6 : decode cX1_find 6 = .ok (.iload_n 1, 1) := by decide +kernel
theorem dX1_find_7 : decode cX1_find 7 = .ok (.invokevirtual 25, 3) := by decide +kernel
theorem dX1_find_10 : decode cX1_find 10 = .ok (.ifCond .eq 46, 3) := by decide +kernel
theorem dX1_find_13 : decode cX1_find 13 = .ok (.iload 4, 2) := by decide +kernel
theorem dX1_find_15 : decode cX1_find 15 = .ok (.aload_n 0, 1) := by decide +kernel
theorem dX1_find_16 : decode cX1_find 16 = .ok (.getfield 7, 3) := by decide +kernel
theorem dX1_find_19 : decode cX1_find 19 = .ok (.iload_n 1, 1) := by decide +kernel
theorem dX1_find_20 : decode cX1_find 20 = .ok (.iaload, 1) := by decide +kernel
theorem dX1_find_21 : decode cX1_find 21 = .ok (.if_icmp .ge 35, 3) := by decide +kernel
theorem dX1_find_24 : decode cX1_find 24 = .ok (.aload_n 0, 1) := by decide +kernel
theorem dX1_find_25 : decode cX1_find 25 = .ok (.getfield 13, 3) := by decide +kernel
theorem dX1_find_28 : decode cX1_find 28 = .ok (.bipush 15, 2) := by decide +kernel
theorem dX1_find_30 : decode cX1_find 30 = .ok (.iload_n 1, 1) := by decide +kernel
theorem dX1_find_31 : decode cX1_find 31 = .ok (.imul, 1) := by decide +kernel
theorem dX1_find_32 : decode cX1_find 32 = .ok (.iload 4, 2) := by decide +kernel
theorem dX1_find_34 : decode cX1_find 34 = .ok (.iadd, 1) := by decide +kernel
theorem dX1_find_35 : decode cX1_find 35 = .ok (.iaload, 1) := by decide +kernel
theorem dX1_find_36 : decode cX1_find 36 = .ok (.ifCond .ge 14, 3) := by decide +kernel
theorem dX1_find_39 : decode cX1_find 39 = .ok (.iload_n 3, 1) := by decide +kernel
theorem dX1_find_40 : decode cX1_find 40 = .ok (.iload_n 2, 1) := by decide +kernel
theorem dX1_find_41 : decode cX1_find 41 = .ok (.if_icmp .ne 6, 3) := by decide +kernel
theorem dX1_find_44 : decode cX1_find 44 = .ok (.iload 4, 2) := by decide +kernel
theorem dX1_find_46 : decode cX1_find 46 = .ok (.ireturn, 1) := by decide +kernel
theorem dX1_find_47 : decode cX1_find 47 = .ok (.iinc 3 1, 3) := by decide +kernel
theorem dX1_find_50 : decode cX1_find 50 = .ok (.iinc 4 1, 3) := by decide +kernel
theorem dX1_find_53 : decode cX1_find 53 = .ok (.goto (-48), 3) := by decide +kernel
theorem dX1_find_56 : decode cX1_find 56 = .ok (.iconst (-1), 1) := by decide +kernel
theorem dX1_find_57 : decode cX1_find 57 = .ok (.ireturn, 1) := by decide +kernel
theorem dX1_tree_0 : decode cX1_tree 0 = .ok (.iload_n 1, 1) := by decide +kernel
theorem dX1_tree_1 : decode cX1_tree 1 = .ok (.ifCond .lt 12, 3) := by decide +kernel
theorem dX1_tree_4 : decode cX1_tree 4 = .ok (.iload_n 1, 1) := by decide +kernel
theorem dX1_tree_5 : decode cX1_tree 5 = .ok (.iconst 3, 1) := by decide +kernel
theorem dX1_tree_6 : decode cX1_tree 6 = .ok (.if_icmp .gt 7, 3) := by decide +kernel
theorem dX1_tree_9 : decode cX1_tree 9 = .ok (.iconst 1, 1) := by decide +kernel
theorem dX1_tree_10 : decode cX1_tree 10 = .ok (.goto 4, 3) := by decide +kernel
theorem dX1_tree_13 : decode cX1_tree 13 = .ok (.iconst 0, 1) := by decide +kernel
theorem dX1_tree_14 : decode cX1_tree 14 = .ok (.ireturn, 1) := by decide +kernel
theorem dX1_leaves_0 : decode cX1_leaves 0 = .ok (.aload_n 0, 1) := by decide +kernel
theorem dX1_leaves_1 : decode cX1_leaves 1 = .ok (.iload_n 1, 1) := by decide +kernel
theorem dX1_leaves_2 : decode cX1_leaves 2 = .ok (.invokevirtual 25, 3) := by decide +kernel
theorem dX1_leaves_5 : decode cX1_leaves 5 = .ok (.ifCond .eq 16, 3) := by decide +kernel
theorem dX1_leaves_8 : decode cX1_leaves 8 = .ok (.aload_n 0, 1) := by decide +kernel
theorem dX1_leaves_9 : decode cX1_leaves 9 = .ok (.getfield 7, 3) := by decide +kernel
theorem dX1_leaves_12 : decode cX1_leaves 12 = .ok (.iload_n 1, 1) := by decide +kernel
theorem dX1_leaves_13 : decode cX1_leaves 13 = .ok (.iaload, 1) := by decide +kernel
theorem dX1_leaves_14 : decode cX1_leaves 14 = .ok (.iconst 1, 1) := by decide +kernel
theorem dX1_leaves_15 : decode cX1_leaves 15 = .ok (.iadd, 1) := by decide +kernel
theorem dX1_leaves_16 : decode cX1_leaves 16 = .ok (.iconst 2, 1) := by decide +kernel
theorem dX1_leaves_17 : decode cX1_leaves 17 = .ok (.idiv, 1) := by decide +kernel
theorem dX1_leaves_18 : decode cX1_leaves 18 = .ok (.goto 4, 3) := by decide +kernel
theorem dX1_leaves_21 : decode cX1_leaves 21 = .ok (.iconst (-1), 1) := by decide +kernel
theorem dX1_leaves_22 : decode cX1_leaves 22 = .ok (.ireturn, 1) := by decide +kernel
theorem dX1_setValue_0 : decode cX1_setValue 0 = .ok (.aload_n 0, 1) := by decide +kernel
theorem dX1_setValue_1 : decode cX1_setValue 1 = .ok (.iload_n 1, 1) := by decide +kernel
theorem dX1_setValue_2 : decode cX1_setValue 2 = .ok (.iload_n 2, 1) := by decide +kernel
theorem dX1_setValue_3 : decode cX1_setValue 3 = .ok (.invokevirtual 29, 3) := by decide +kernel
theorem dX1_setValue_6 : decode cX1_setValue 6 = .ok (.istore 4, 2) := by decide +kernel
theorem dX1_setValue_8 : decode cX1_setValue 8 = .ok (.iload 4, 2) := by decide +kernel
theorem dX1_setValue_10 : decode cX1_setValue 10 = .ok (.ifCond .ge 5, 3) := by decide +kernel
theorem dX1_setValue_13 : decode cX1_setValue 13 = .ok (.iconst 0, 1) := by decide +kernel
theorem dX1_setValue_14 : decode cX1_setValue 14 = .ok (.ireturn, 1) := by decide +kernel
theorem dX1_setValue_15 : decode cX1_setValue 15 = .ok (.aload_n 0, 1) := by decide +kernel
theorem dX1_setValue_16 : decode cX1_setValue 16 = .ok (.getfield 16, 3) := by decide +kernel
theorem dX1_setValue_19 : decode cX1_setValue 19 = .ok (.bipush 15, 2) := by decide +kernel
theorem dX1_setValue_21 : decode cX1_setValue 21 = .ok (.iload_n 1, 1) := by decide +kernel
end
section
set_option maxRecDepth 100000
theorem dX1_setValue_22 : decode cX1_setValue 22 = .ok (.imul, 1) := by decide +kernel
theorem dX1_setValue_23 : decode cX1_setValue 23 = .ok (.iload 4, 2) := by decide +kernel
theorem dX1_setValue_25 : decode cX1_setValue 25 = .ok (.iadd, 1) := by decide +kernel
theorem dX1_setValue_26 : decode cX1_setValue 26 = .ok (.iload_n 3, 1) := by decide +kernel
theorem dX1_setValue_27 : decode cX1_setValue 27 = .ok (.iastore, 1) := by decide +kernel
theorem dX1_setValue_28 : decode cX1_setValue 28 = .ok (.iconst 1, 1) := by decide +kernel
theorem dX1_setValue_29 : decode cX1_setValue 29 = .ok (.ireturn, 1) := by decide +kernel
theorem dX1_clear_0 : decode cX1_clear 0 = .ok (.aload_n 0, 1) := by decide +kernel
theorem dX1_clear_1 : decode cX1_clear 1 = .ok (.iload_n 1, 1) := by decide +kernel
theorem dX1_clear_2 : decode cX1_clear 2 = .ok (.invokevirtual 25, 3) := by decide +kernel
theorem dX1_clear_5 : decode cX1_clear 5 = .ok (.ifCond .ne 5, 3) := by decide +kernel
theorem dX1_clear_8 : decode cX1_clear 8 = .ok (.iconst 0, 1) := by decide +kernel
theorem dX1_clear_9 : decode cX1_clear 9 = .ok (.ireturn, 1) := by decide +kernel
theorem dX1_clear_10 : decode cX1_clear 10 = .ok (.aload_n 0, 1) := by decide +kernel
theorem dX1_clear_11 : decode cX1_clear 11 = .ok (.getfield 7, 3) := by decide +kernel
theorem dX1_clear_14 : decode cX1_clear 14 = .ok (.iload_n 1, 1) := by decide +kernel
theorem dX1_clear_15 : decode cX1_clear 15 = .ok (.iconst 1, 1) := by decide +kernel
theorem dX1_clear_16 : decode cX1_clear 16 = .ok (.iastore, 1) := by decide +kernel
theorem dX1_clear_17 : decode cX1_clear 17 = .ok (.aload_n 0, 1) := by decide +kernel
theorem dX1_clear_18 : decode cX1_clear 18 = .ok (.getfield 13, 3) := by decide +kernel
theorem dX1_clear_21 : decode cX1_clear 21 = .ok (.bipush 15, 2) := by decide +kernel
theorem dX1_clear_23 : decode cX1_clear 23 = .ok (.iload_n 1, 1) := by decide +kernel
theorem dX1_clear_24 : decode cX1_clear 24 = .ok (.imul, 1) := by decide +kernel
theorem dX1_clear_25 : decode cX1_clear 25 = .ok (.iconst (-1), 1) := by decide +kernel
theorem dX1_clear_26 : decode cX1_clear 26 = .ok (.iastore, 1) := by decide +kernel
theorem dX1_clear_27 : decode cX1_clear 27 = .ok (.aload_n 0, 1) := by decide +kernel
theorem dX1_clear_28 : decode cX1_clear 28 = .ok (.getfield 16, 3) := by decide +kernel
theorem dX1_clear_31 : decode cX1_clear 31 = .ok (.bipush 15, 2) := by decide +kernel
theorem dX1_clear_33 : decode cX1_clear 33 = .ok (.iload_n 1, 1) := by decide +kernel
theorem dX1_clear_34 : decode cX1_clear 34 = .ok (.imul, 1) := by decide +kernel
theorem dX1_clear_35 : decode cX1_clear 35 = .ok (.iconst 0, 1) := by decide +kernel
theorem dX1_clear_36 : decode cX1_clear 36 = .ok (.iastore, 1) := by decide +kernel
theorem dX1_clear_37 : decode cX1_clear 37 = .ok (.iconst 1, 1) := by decide +kernel
theorem dX1_clear_38 : decode cX1_clear 38 = .ok (.ireturn, 1) := by decide +kernel
theorem dX1_value_0 : decode cX1_value 0 = .ok (.aload_n 0, 1) := by decide +kernel
theorem dX1_value_1 : decode cX1_value 1 = .ok (.iload_n 1, 1) := by decide +kernel
theorem dX1_value_2 : decode cX1_value 2 = .ok (.iload_n 2, 1) := by decide +kernel
theorem dX1_value_3 : decode cX1_value 3 = .ok (.invokevirtual 29, 3) := by decide +kernel
theorem dX1_value_6 : decode cX1_value 6 = .ok (.istore_n 3, 1) := by decide +kernel
theorem dX1_value_7 : decode cX1_value 7 = .ok (.iload_n 3, 1) := by decide +kernel
theorem dX1_value_8 : decode cX1_value 8 = .ok (.ifCond .ge 7, 3) := by decide +kernel
theorem dX1_value_11 : decode cX1_value 11 = .ok (.iconst 0, 1) := by decide +kernel
theorem dX1_value_12 : decode cX1_value 12 = .ok (.goto 14, 3) := by decide +kernel
theorem dX1_value_15 : decode cX1_value 15 = .ok (.aload_n 0, 1) := by decide +kernel
theorem dX1_value_16 : decode cX1_value 16 = .ok (.getfield 16, 3) := by decide +kernel
theorem dX1_value_19 : decode cX1_value 19 = .ok (.bipush 15, 2) := by decide +kernel
theorem dX1_value_21 : decode cX1_value 21 = .ok (.iload_n 1, 1) := by decide +kernel
theorem dX1_value_22 : decode cX1_value 22 = .ok (.imul, 1) := by decide +kernel
theorem dX1_value_23 : decode cX1_value 23 = .ok (.iload_n 3, 1) := by decide +kernel
theorem dX1_value_24 : decode cX1_value 24 = .ok (.iadd, 1) := by decide +kernel
theorem dX1_value_25 : decode cX1_value 25 = .ok (.iaload, 1) := by decide +kernel
theorem dX1_value_26 : decode cX1_value 26 = .ok (.ireturn, 1) := by decide +kernel
theorem dX1_leafOf_0 : decode cX1_leafOf 0 = .ok (.aload_n 0, 1) := by decide +kernel
theorem dX1_leafOf_1 : decode cX1_leafOf 1 = .ok (.iload_n 1, 1) := by decide +kernel
theorem dX1_leafOf_2 : decode cX1_leafOf 2 = .ok (.invokevirtual 25, 3) := by decide +kernel
theorem dX1_leafOf_5 : decode cX1_leafOf 5 = .ok (.ifCond .eq 23, 3) := by decide +kernel
theorem dX1_leafOf_8 : decode cX1_leafOf 8 = .ok (.aload_n 0, 1) := by decide +kernel
theorem dX1_leafOf_9 : decode cX1_leafOf 9 = .ok (.iload_n 2, 1) := by decide +kernel
theorem dX1_leafOf_10 : decode cX1_leafOf 10 = .ok (.invokevirtual 41, 3) := by decide +kernel
theorem dX1_leafOf_13 : decode cX1_leafOf 13 = .ok (.ifCond .eq 15, 3) := by decide +kernel
theorem dX1_leafOf_16 : decode cX1_leafOf 16 = .ok (.aload_n 0, 1) := by decide +kernel
theorem dX1_leafOf_17 : decode cX1_leafOf 17 = .ok (.iload_n 1, 1) := by decide +kernel
theorem dX1_leafOf_18 : decode cX1_leafOf 18 = .ok (.iload_n 2, 1) := by decide +kernel
theorem dX1_leafOf_19 : decode cX1_leafOf 19 = .ok (.invokevirtual 44, 3) := by decide +kernel
theorem dX1_leafOf_22 : decode cX1_leafOf 22 = .ok (.bipush 16, 2) := by decide +kernel
theorem dX1_leafOf_24 : decode cX1_leafOf 24 = .ok (.irem, 1) := by decide +kernel
theorem dX1_leafOf_25 : decode cX1_leafOf 25 = .ok (.goto 4, 3) := by decide +kernel
theorem dX1_leafOf_28 : decode cX1_leafOf 28 = .ok (.iconst (-1), 1) := by decide +kernel
theorem dX1_leafOf_29 : decode cX1_leafOf 29 = .ok (.ireturn, 1) := by decide +kernel
theorem dX1_point_0 : decode cX1_point 0 = .ok (.iload_n 1, 1) := by decide +kernel
theorem dX1_point_1 : decode cX1_point 1 = .ok (.ifCond .lt 13, 3) := by decide +kernel
theorem dX1_point_4 : decode cX1_point 4 = .ok (.iload_n 1, 1) := by decide +kernel
theorem dX1_point_5 : decode cX1_point 5 = .ok (.ldc 37, 2) := by decide +kernel
theorem dX1_point_7 : decode cX1_point 7 = .ok (.if_icmp .gt 7, 3) := by decide +kernel
theorem dX1_point_10 : decode cX1_point 10 = .ok (.iconst 1, 1) := by decide +kernel
theorem dX1_point_11 : decode cX1_point 11 = .ok (.goto 4, 3) := by decide +kernel
theorem dX1_point_14 : decode cX1_point 14 = .ok (.iconst 0, 1) := by decide +kernel
theorem dX1_point_15 : decode cX1_point 15 = .ok (.ireturn, 1) := by decide +kernel
theorem dX1_walk_0 : decode cX1_walk 0 = .ok (.iconst 0, 1) := by decide +kernel
theorem dX1_walk_1 : decode cX1_walk 1 = .ok (.istore_n 3, 1) := by decide +kernel
theorem dX1_walk_2 : decode cX1_walk 2 = .ok (.iconst 0, 1) := by decide +kernel
theorem dX1_walk_3 : decode cX1_walk 3 = .ok (.istore 4, 2) := by decide +kernel
theorem dX1_walk_5 : decode cX1_walk 5 = .ok (.aload_n 0, 1) := by decide +kernel
theorem dX1_walk_6 : decode cX1_walk 6 = .ok (.getfield 13, 3) := by decide +kernel
theorem dX1_walk_9 : decode cX1_walk 9 = .ok (.bipush 15, 2) := by decide +kernel
theorem dX1_walk_11 : decode cX1_walk 11 = .ok (.iload_n 1, 1) := by decide +kernel
theorem dX1_walk_12 : decode cX1_walk 12 = .ok (.imul, 1) := by decide +kernel
theorem dX1_walk_13 : decode cX1_walk 13 = .ok (.iload_n 3, 1) := by decide +kernel
theorem dX1_walk_14 : decode cX1_walk 14 = .ok (.iadd, 1) := by decide +kernel
theorem dX1_walk_15 : decode cX1_walk 15 = .ok (.iaload, 1) := by decide +kernel
theorem dX1_walk_16 : decode cX1_walk 16 = .ok (.ifCond .lt 79, 3) := by decide +kernel
theorem dX1_walk_19 : decode cX1_walk 19 = .ok (.iload 4, 2) := by decide +kernel
theorem dX1_walk_21 : decode cX1_walk 21 = .ok (.bipush 7, 2) := by decide +kernel
theorem dX1_walk_23 : decode cX1_walk 23 = .ok (.if_icmp .ge 72, 3) := by decide +kernel
theorem dX1_walk_26 : decode cX1_walk 26 = .ok (.aload_n 0, 1) := by decide +kernel
theorem dX1_walk_27 : decode cX1_walk 27 = .ok (.getfield 13, 3) := by decide +kernel
theorem dX1_walk_30 : decode cX1_walk 30 = .ok (.bipush 15, 2) := by decide +kernel
theorem dX1_walk_32 : decode cX1_walk 32 = .ok (.iload_n 1, 1) := by decide +kernel
theorem dX1_walk_33 : decode cX1_walk 33 = .ok (.imul, 1) := by decide +kernel
theorem dX1_walk_34 : decode cX1_walk 34 = .ok (.iload_n 3, 1) := by decide +kernel
theorem dX1_walk_35 : decode cX1_walk 35 = .ok (.iadd, 1) := by decide +kernel
theorem dX1_walk_36 : decode cX1_walk 36 = .ok (.iaload, 1) := by decide +kernel
theorem dX1_walk_37 : decode cX1_walk 37 = .ok (.istore 5, 2) := by decide +kernel
theorem dX1_walk_39 : decode cX1_walk 39 = .ok (.iload_n 2, 1) := by decide +kernel
theorem dX1_walk_40 : decode cX1_walk 40 = .ok (.iconst 4, 1) := by decide +kernel
theorem dX1_walk_41 : decode cX1_walk 41 = .ok (.iload 5, 2) := by decide +kernel
theorem dX1_walk_43 : decode cX1_walk 43 = .ok (.imul, 1) := by decide +kernel
theorem dX1_walk_44 : decode cX1_walk 44 = .ok (.ishr, 1) := by decide +kernel
theorem dX1_walk_45 : decode cX1_walk 45 = .ok (.bipush 15, 2) := by decide +kernel
theorem dX1_walk_47 : decode cX1_walk 47 = .ok (.iand, 1) := by decide +kernel
theorem dX1_walk_48 : decode cX1_walk 48 = .ok (.aload_n 0, 1) := by decide +kernel
theorem dX1_walk_49 : decode cX1_walk 49 = .ok (.getfield 16, 3) := by decide +kernel
theorem dX1_walk_52 : decode cX1_walk 52 = .ok (.bipush 15, 2) := by decide +kernel
theorem dX1_walk_54 : decode cX1_walk 54 = .ok (.iload_n 1, 1) := by decide +kernel
theorem dX1_walk_55 : decode cX1_walk 55 = .ok (.imul, 1) := by decide +kernel
theorem dX1_walk_56 : decode cX1_walk 56 = .ok (.iload_n 3, 1) := by decide +kernel
theorem dX1_walk_57 : decode cX1_walk 57 = .ok (.iadd, 1) := by decide +kernel
theorem dX1_walk_58 : decode cX1_walk 58 = .ok (.iaload, 1) := by decide +kernel
theorem dX1_walk_59 : decode cX1_walk 59 = .ok (.if_icmp .gt 7, 3) := by decide +kernel
theorem dX1_walk_62 : decode cX1_walk 62 = .ok (.iconst 1, 1) := by decide +kernel
theorem dX1_walk_63 : decode cX1_walk 63 = .ok (.goto 4, 3) := by decide +kernel
theorem dX1_walk_66 : decode cX1_walk 66 = .ok (.iconst 0, 1) := by decide +kernel
theorem dX1_walk_67 : decode cX1_walk 67 = .ok (.istore 6, 2) := by decide +kernel
theorem dX1_walk_69 : decode cX1_walk 69 = .ok (.iload 6, 2) := by decide +kernel
theorem dX1_walk_71 : decode cX1_walk 71 = .ok (.ifCond .eq 9, 3) := by decide +kernel
theorem dX1_walk_74 : decode cX1_walk 74 = .ok (.iload_n 3, 1) := by decide +kernel
theorem dX1_walk_75 : decode cX1_walk 75 = .ok (.iconst 1, 1) := by decide +kernel
theorem dX1_walk_76 : decode cX1_walk 76 = .ok (.iadd, 1) := by decide +kernel
theorem dX1_walk_77 : decode cX1_walk 77 = .ok (.goto 11, 3) := by decide +kernel
theorem dX1_walk_80 : decode cX1_walk 80 = .ok (.aload_n 0, 1) := by decide +kernel
theorem dX1_walk_81 : decode cX1_walk 81 = .ok (.iload_n 1, 1) := by decide +kernel
theorem dX1_walk_82 : decode cX1_walk 82 = .ok (.iload_n 3, 1) := by decide +kernel
theorem dX1_walk_83 : decode cX1_walk 83 = .ok (.iconst 1, 1) := by decide +kernel
theorem dX1_walk_84 : decode cX1_walk 84 = .ok (.iadd, 1) := by decide +kernel
theorem dX1_walk_85 : decode cX1_walk 85 = .ok (.invokevirtual 38, 3) := by decide +kernel
theorem dX1_walk_88 : decode cX1_walk 88 = .ok (.istore_n 3, 1) := by decide +kernel
theorem dX1_walk_89 : decode cX1_walk 89 = .ok (.iinc 4 1, 3) := by decide +kernel
theorem dX1_walk_92 : decode cX1_walk 92 = .ok (.goto (-87), 3) := by decide +kernel
theorem dX1_walk_95 : decode cX1_walk 95 = .ok (.iconst 0, 1) := by decide +kernel
theorem dX1_walk_96 : decode cX1_walk 96 = .ok (.istore 5, 2) := by decide +kernel
theorem dX1_walk_98 : decode cX1_walk 98 = .ok (.iconst 0, 1) := by decide +kernel
theorem dX1_walk_99 : decode cX1_walk 99 = .ok (.istore 6, 2) := by decide +kernel
theorem dX1_walk_101 : decode cX1_walk 101 = .ok (.iload 6, 2) := by decide +kernel
theorem dX1_walk_103 : decode cX1_walk 103 = .ok (.iload_n 3, 1) := by decide +kernel
theorem dX1_walk_104 : decode cX1_walk 104 = .ok (.if_icmp .ge 35, 3) := by decide +kernel
theorem dX1_walk_107 : decode cX1_walk 107 = .ok (.aload_n 0, 1) := by decide +kernel
theorem dX1_walk_108 : decode cX1_walk 108 = .ok (.getfield 13, 3) := by decide +kernel
theorem dX1_walk_111 : decode cX1_walk 111 = .ok (.bipush 15, 2) := by decide +kernel
theorem dX1_walk_113 : decode cX1_walk 113 = .ok (.iload_n 1, 1) := by decide +kernel
theorem dX1_walk_114 : decode cX1_walk 114 = .ok (.imul, 1) := by decide +kernel
theorem dX1_walk_115 : decode cX1_walk 115 = .ok (.iload 6, 2) := by decide +kernel
theorem dX1_walk_117 : decode cX1_walk 117 = .ok (.iadd, 1) := by decide +kernel
theorem dX1_walk_118 : decode cX1_walk 118 = .ok (.iaload, 1) := by decide +kernel
theorem dX1_walk_119 : decode cX1_walk 119 = .ok (.ifCond .ge 10, 3) := by decide +kernel
theorem dX1_walk_122 : decode cX1_walk 122 = .ok (.iload 5, 2) := by decide +kernel
theorem dX1_walk_124 : decode cX1_walk 124 = .ok (.iconst 1, 1) := by decide +kernel
theorem dX1_walk_125 : decode cX1_walk 125 = .ok (.iadd, 1) := by decide +kernel
theorem dX1_walk_126 : decode cX1_walk 126 = .ok (.goto 5, 3) := by decide +kernel
theorem dX1_walk_129 : decode cX1_walk 129 = .ok (.iload 5, 2) := by decide +kernel
theorem dX1_walk_131 : decode cX1_walk 131 = .ok (.istore 5, 2) := by decide +kernel
theorem dX1_walk_133 : decode cX1_walk 133 = .ok (.iinc 6 1, 3) := by decide +kernel
theorem dX1_walk_136 : decode cX1_walk 136 = .ok (.goto (-35), 3) := by decide +kernel
theorem dX1_walk_139 : decode cX1_walk 139 = .ok (.iload 5, 2) := by decide +kernel
theorem dX1_walk_141 : decode cX1_walk 141 = .ok (.bipush 16, 2) := by decide +kernel
theorem dX1_walk_143 : decode cX1_walk 143 = .ok (.iload 4, 2) := by decide +kernel
theorem dX1_walk_145 : decode cX1_walk 145 = .ok (.imul, 1) := by decide +kernel
theorem dX1_walk_146 : decode cX1_walk 146 = .ok (.iadd, 1) := by decide +kernel
theorem dX1_walk_147 : decode cX1_walk 147 = .ok (.ireturn, 1) := by decide +kernel
theorem dX1_behind_0 : decode cX1_behind 0 = .ok (.iconst 1, 1) := by decide +kernel
theorem dX1_behind_1 : decode cX1_behind 1 = .ok (.istore_n 3, 1) := by decide +kernel
theorem dX1_behind_2 : decode cX1_behind 2 = .ok (.iload_n 2, 1) := by decide +kernel
theorem dX1_behind_3 : decode cX1_behind 3 = .ok (.istore 4, 2) := by decide +kernel
theorem dX1_behind_5 : decode cX1_behind 5 = .ok (.iload_n 3, 1) := by decide +kernel
theorem dX1_behind_6 : decode cX1_behind 6 = .ok (.ifCond .le 41, 3) := by decide +kernel
theorem dX1_behind_9 : decode cX1_behind 9 = .ok (.iload 4, 2) := by decide +kernel
theorem dX1_behind_11 : decode cX1_behind 11 = .ok (.bipush 15, 2) := by decide +kernel
theorem dX1_behind_13 : decode cX1_behind 13 = .ok (.if_icmp .ge 34, 3) := by decide +kernel
theorem dX1_behind_16 : decode cX1_behind 16 = .ok (.aload_n 0, 1) := by decide +kernel
theorem dX1_behind_17 : decode cX1_behind 17 = .ok (.getfield 13, 3) := by decide +kernel
theorem dX1_behind_20 : decode cX1_behind 20 = .ok (.bipush 15, 2) := by decide +kernel
theorem dX1_behind_22 : decode cX1_behind 22 = .ok (.iload_n 1, 1) := by decide +kernel
theorem dX1_behind_23 : decode cX1_behind 23 = .ok (.imul, 1) := by decide +kernel
theorem dX1_behind_24 : decode cX1_behind 24 = .ok (.iload 4, 2) := by decide +kernel
theorem dX1_behind_26 : decode cX1_behind 26 = .ok (.iadd, 1) := by decide +kernel
theorem dX1_behind_27 : decode cX1_behind 27 = .ok (.iaload, 1) := by decide +kernel
theorem dX1_behind_28 : decode cX1_behind 28 = .ok (.ifCond .ge 9, 3) := by decide +kernel
theorem dX1_behind_31 : decode cX1_behind 31 = .ok (.iload_n 3, 1) := by decide +kernel
theorem dX1_behind_32 : decode cX1_behind 32 = .ok (.iconst 1, 1) := by decide +kernel
theorem dX1_behind_33 : decode cX1_behind 33 = .ok (.isub, 1) := by decide +kernel
theorem dX1_behind_34 : decode cX1_behind 34 = .ok (.goto 6, 3) := by decide +kernel
theorem dX1_behind_37 : decode cX1_behind 37 = .ok (.iload_n 3, 1) := by decide +kernel
theorem dX1_behind_38 : decode cX1_behind 38 = .ok (.iconst 1, 1) := by decide +kernel
theorem dX1_behind_39 : decode cX1_behind 39 = .ok (.iadd, 1) := by decide +kernel
theorem dX1_behind_40 : decode cX1_behind 40 = .ok (.istore_n 3, 1) := by decide +kernel
theorem dX1_behind_41 : decode cX1_behind 41 = .ok (.iinc 4 1, 3) := by decide +kernel
theorem dX1_behind_44 : decode cX1_behind 44 = .ok (.goto (-39), 3) := by decide +kernel
theorem dX1_behind_47 : decode cX1_behind 47 = .ok (.iload 4, 2) := by decide +kernel
theorem dX1_behind_49 : decode cX1_behind 49 = .ok (.bipush 15, 2) := by decide +kernel
theorem dX1_behind_51 : decode cX1_behind 51 = .ok (.if_icmp .ge 8, 3) := by decide +kernel
theorem dX1_behind_54 : decode cX1_behind 54 = .ok (.iload 4, 2) := by decide +kernel
theorem dX1_behind_56 : decode cX1_behind 56 = .ok (.goto 5, 3) := by decide +kernel
theorem dX1_behind_59 : decode cX1_behind 59 = .ok (.bipush 14, 2) := by decide +kernel
theorem dX1_behind_61 : decode cX1_behind 61 = .ok (.ireturn, 1) := by decide +kernel
theorem dX1_score_0 : decode cX1_score 0 = .ok (.iconst 0, 1) := by decide +kernel
theorem dX1_score_1 : decode cX1_score 1 = .ok (.istore_n 2, 1) := by decide +kernel
theorem dX1_score_2 : decode cX1_score 2 = .ok (.iconst 0, 1) := by decide +kernel
theorem dX1_score_3 : decode cX1_score 3 = .ok (.istore_n 3, 1) := by decide +kernel
theorem dX1_score_4 : decode cX1_score 4 = .ok (.iload_n 3, 1) := by decide +kernel
theorem dX1_score_5 : decode cX1_score 5 = .ok (.iconst 4, 1) := by decide +kernel
theorem dX1_score_6 : decode cX1_score 6 = .ok (.if_icmp .ge 38, 3) := by decide +kernel
theorem dX1_score_9 : decode cX1_score 9 = .ok (.aload_n 0, 1) := by decide +kernel
theorem dX1_score_10 : decode cX1_score 10 = .ok (.iload_n 1, 1) := by decide +kernel
theorem dX1_score_11 : decode cX1_score 11 = .ok (.invokevirtual 41, 3) := by decide +kernel
theorem dX1_score_14 : decode cX1_score 14 = .ok (.ifCond .eq 30, 3) := by decide +kernel
theorem dX1_score_17 : decode cX1_score 17 = .ok (.aload_n 0, 1) := by decide +kernel
theorem dX1_score_18 : decode cX1_score 18 = .ok (.iload_n 3, 1) := by decide +kernel
theorem dX1_score_19 : decode cX1_score 19 = .ok (.iload_n 1, 1) := by decide +kernel
theorem dX1_score_20 : decode cX1_score 20 = .ok (.invokevirtual 44, 3) := by decide +kernel
theorem dX1_score_23 : decode cX1_score 23 = .ok (.bipush 16, 2) := by decide +kernel
theorem dX1_score_25 : decode cX1_score 25 = .ok (.irem, 1) := by decide +kernel
theorem dX1_score_26 : decode cX1_score 26 = .ok (.istore 4, 2) := by decide +kernel
theorem dX1_score_28 : decode cX1_score 28 = .ok (.iload_n 2, 1) := by decide +kernel
theorem dX1_score_29 : decode cX1_score 29 = .ok (.aload_n 0, 1) := by decide +kernel
theorem dX1_score_30 : decode cX1_score 30 = .ok (.iload_n 3, 1) := by decide +kernel
theorem dX1_score_31 : decode cX1_score 31 = .ok (.iload 4, 2) := by decide +kernel
theorem dX1_score_33 : decode cX1_score 33 = .ok (.invokevirtual 47, 3) := by decide +kernel
theorem dX1_score_36 : decode cX1_score 36 = .ok (.iadd, 1) := by decide +kernel
theorem dX1_score_37 : decode cX1_score 37 = .ok (.istore_n 2, 1) := by decide +kernel
theorem dX1_score_38 : decode cX1_score 38 = .ok (.iinc 3 1, 3) := by decide +kernel
theorem dX1_score_41 : decode cX1_score 41 = .ok (.goto (-37), 3) := by decide +kernel
theorem dX1_score_44 : decode cX1_score 44 = .ok (.iload_n 2, 1) := by decide +kernel
theorem dX1_score_45 : decode cX1_score 45 = .ok (.ireturn, 1) := by decide +kernel
theorem dX1_depth_0 : decode cX1_depth 0 = .ok (.iconst 0, 1) := by decide +kernel
theorem dX1_depth_1 : decode cX1_depth 1 = .ok (.istore_n 2, 1) := by decide +kernel
theorem dX1_depth_2 : decode cX1_depth 2 = .ok (.iconst 0, 1) := by decide +kernel
theorem dX1_depth_3 : decode cX1_depth 3 = .ok (.istore_n 3, 1) := by decide +kernel
theorem dX1_depth_4 : decode cX1_depth 4 = .ok (.iload_n 3, 1) := by decide +kernel
theorem dX1_depth_5 : decode cX1_depth 5 = .ok (.iconst 4, 1) := by decide +kernel
theorem dX1_depth_6 : decode cX1_depth 6 = .ok (.if_icmp .ge 29, 3) := by decide +kernel
theorem dX1_depth_9 : decode cX1_depth 9 = .ok (.aload_n 0, 1) := by decide +kernel
theorem dX1_depth_10 : decode cX1_depth 10 = .ok (.iload_n 1, 1) := by decide +kernel
theorem dX1_depth_11 : decode cX1_depth 11 = .ok (.invokevirtual 41, 3) := by decide +kernel
theorem dX1_depth_14 : decode cX1_depth 14 = .ok (.ifCond .eq 21, 3) := by decide +kernel
theorem dX1_depth_17 : decode cX1_depth 17 = .ok (.iload_n 2, 1) := by decide +kernel
theorem dX1_depth_18 : decode cX1_depth 18 = .ok (.aload_n 0, 1) := by decide +kernel
theorem dX1_depth_19 : decode cX1_depth 19 = .ok (.iload_n 3, 1) := by decide +kernel
theorem dX1_depth_20 : decode cX1_depth 20 = .ok (.iload_n 1, 1) := by decide +kernel
theorem dX1_depth_21 : decode cX1_depth 21 = .ok (.invokevirtual 44, 3) := by decide +kernel
theorem dX1_depth_24 : decode cX1_depth 24 = .ok (.bipush 16, 2) := by decide +kernel
theorem dX1_depth_26 : decode cX1_depth 26 = .ok (.idiv, 1) := by decide +kernel
theorem dX1_depth_27 : decode cX1_depth 27 = .ok (.iadd, 1) := by decide +kernel
theorem dX1_depth_28 : decode cX1_depth 28 = .ok (.istore_n 2, 1) := by decide +kernel
theorem dX1_depth_29 : decode cX1_depth 29 = .ok (.iinc 3 1, 3) := by decide +kernel
theorem dX1_depth_32 : decode cX1_depth 32 = .ok (.goto (-28), 3) := by decide +kernel
theorem dX1_depth_35 : decode cX1_depth 35 = .ok (.aload_n 0, 1) := by decide +kernel
theorem dX1_depth_36 : decode cX1_depth 36 = .ok (.iload_n 1, 1) := by decide +kernel
theorem dX1_depth_37 : decode cX1_depth 37 = .ok (.invokevirtual 41, 3) := by decide +kernel
theorem dX1_depth_40 : decode cX1_depth 40 = .ok (.ifCond .eq 7, 3) := by decide +kernel
theorem dX1_depth_43 : decode cX1_depth 43 = .ok (.iload_n 2, 1) := by decide +kernel
theorem dX1_depth_44 : decode cX1_depth 44 = .ok (.goto 4, 3) := by decide +kernel
theorem dX1_depth_47 : decode cX1_depth 47 = .ok (.iconst (-1), 1) := by decide +kernel
theorem dX1_depth_48 : decode cX1_depth 48 = .ok (.ireturn, 1) := by decide +kernel
theorem dX1_leavesAlong_0 : decode cX1_leavesAlong 0 = .ok (.iconst 0, 1) := by decide +kernel
theorem dX1_leavesAlong_1 : decode cX1_leavesAlong 1 = .ok (.istore 4, 2) := by decide +kernel
theorem dX1_leavesAlong_3 : decode cX1_leavesAlong 3 = .ok (.iconst 0, 1) := by decide +kernel
theorem dX1_leavesAlong_4 : decode cX1_leavesAlong 4 = .ok (.istore 5, 2) := by decide +kernel
theorem dX1_leavesAlong_6 : decode cX1_leavesAlong 6 = .ok (.iload 5, 2) := by decide +kernel
theorem dX1_leavesAlong_8 : decode cX1_leavesAlong 8 = .ok (.bipush 16, 2) := by decide +kernel
theorem dX1_leavesAlong_10 : decode cX1_leavesAlong 10 = .ok (.if_icmp .ge 61, 3) := by decide +kernel
theorem dX1_leavesAlong_13 : decode cX1_leavesAlong 13 = .ok (.aload_n 0, 1) := by decide +kernel
end
section
set_option maxRecDepth 100000
theorem dX1_leavesAlong_14 : decode cX1_leavesAlong 14 = .ok (.iload_n 1, 1) := by decide +kernel
theorem dX1_leavesAlong_15 : decode cX1_leavesAlong 15 = .ok (.invokevirtual 25, 3) := by decide +kernel
theorem dX1_leavesAlong_18 : decode cX1_leavesAlong 18 = .ok (.ifCond .eq 53, 3) := by decide +kernel
theorem dX1_leavesAlong_21 : decode cX1_leavesAlong 21 = .ok (.aload_n 0, 1) := by decide +kernel
theorem dX1_leavesAlong_22 : decode cX1_leavesAlong 22 = .ok (.iload_n 2, 1) := by decide +kernel
theorem dX1_leavesAlong_23 : decode cX1_leavesAlong 23 = .ok (.invokevirtual 41, 3) := by decide +kernel
theorem dX1_leavesAlong_26 : decode cX1_leavesAlong 26 = .ok (.ifCond .eq 45, 3) := by decide +kernel
theorem dX1_leavesAlong_29 : decode cX1_leavesAlong 29 = .ok (.iload_n 3, 1) := by decide +kernel
theorem dX1_leavesAlong_30 : decode cX1_leavesAlong 30 = .ok (.ifCond .lt 41, 3) := by decide +kernel
theorem dX1_leavesAlong_33 : decode cX1_leavesAlong 33 = .ok (.iload_n 3, 1) := by decide +kernel
theorem dX1_leavesAlong_34 : decode cX1_leavesAlong 34 = .ok (.iconst 3, 1) := by decide +kernel
theorem dX1_leavesAlong_35 : decode cX1_leavesAlong 35 = .ok (.if_icmp .gt 36, 3) := by decide +kernel
theorem dX1_leavesAlong_38 : decode cX1_leavesAlong 38 = .ok (.aload_n 0, 1) := by decide +kernel
theorem dX1_leavesAlong_39 : decode cX1_leavesAlong 39 = .ok (.iload_n 2, 1) := by decide +kernel
theorem dX1_leavesAlong_40 : decode cX1_leavesAlong 40 = .ok (.iload_n 3, 1) := by decide +kernel
theorem dX1_leavesAlong_41 : decode cX1_leavesAlong 41 = .ok (.iload 5, 2) := by decide +kernel
theorem dX1_leavesAlong_43 : decode cX1_leavesAlong 43 = .ok (.invokevirtual 50, 3) := by decide +kernel
theorem dX1_leavesAlong_46 : decode cX1_leavesAlong 46 = .ok (.istore 6, 2) := by decide +kernel
theorem dX1_leavesAlong_48 : decode cX1_leavesAlong 48 = .ok (.iload 4, 2) := by decide +kernel
theorem dX1_leavesAlong_50 : decode cX1_leavesAlong 50 = .ok (.iconst 1, 1) := by decide +kernel
theorem dX1_leavesAlong_51 : decode cX1_leavesAlong 51 = .ok (.aload_n 0, 1) := by decide +kernel
theorem dX1_leavesAlong_52 : decode cX1_leavesAlong 52 = .ok (.iload_n 1, 1) := by decide +kernel
theorem dX1_leavesAlong_53 : decode cX1_leavesAlong 53 = .ok (.iload 6, 2) := by decide +kernel
theorem dX1_leavesAlong_55 : decode cX1_leavesAlong 55 = .ok (.invokevirtual 44, 3) := by decide +kernel
theorem dX1_leavesAlong_58 : decode cX1_leavesAlong 58 = .ok (.bipush 16, 2) := by decide +kernel
theorem dX1_leavesAlong_60 : decode cX1_leavesAlong 60 = .ok (.irem, 1) := by decide +kernel
theorem dX1_leavesAlong_61 : decode cX1_leavesAlong 61 = .ok (.ishl, 1) := by decide +kernel
theorem dX1_leavesAlong_62 : decode cX1_leavesAlong 62 = .ok (.ior, 1) := by decide +kernel
theorem dX1_leavesAlong_63 : decode cX1_leavesAlong 63 = .ok (.istore 4, 2) := by decide +kernel
theorem dX1_leavesAlong_65 : decode cX1_leavesAlong 65 = .ok (.iinc 5 1, 3) := by decide +kernel
theorem dX1_leavesAlong_68 : decode cX1_leavesAlong 68 = .ok (.goto (-62), 3) := by decide +kernel
theorem dX1_leavesAlong_71 : decode cX1_leavesAlong 71 = .ok (.iload 4, 2) := by decide +kernel
theorem dX1_leavesAlong_73 : decode cX1_leavesAlong 73 = .ok (.ireturn, 1) := by decide +kernel
theorem dX1_with_0 : decode cX1_with 0 = .ok (.iload_n 1, 1) := by decide +kernel
theorem dX1_with_1 : decode cX1_with 1 = .ok (.bipush 15, 2) := by decide +kernel
theorem dX1_with_3 : decode cX1_with 3 = .ok (.iconst 4, 1) := by decide +kernel
theorem dX1_with_4 : decode cX1_with 4 = .ok (.iload_n 2, 1) := by decide +kernel
theorem dX1_with_5 : decode cX1_with 5 = .ok (.imul, 1) := by decide +kernel
theorem dX1_with_6 : decode cX1_with 6 = .ok (.ishl, 1) := by decide +kernel
theorem dX1_with_7 : decode cX1_with 7 = .ok (.iconst (-1), 1) := by decide +kernel
theorem dX1_with_8 : decode cX1_with 8 = .ok (.ixor, 1) := by decide +kernel
theorem dX1_with_9 : decode cX1_with 9 = .ok (.iand, 1) := by decide +kernel
theorem dX1_with_10 : decode cX1_with 10 = .ok (.iload_n 3, 1) := by decide +kernel
theorem dX1_with_11 : decode cX1_with 11 = .ok (.iconst 4, 1) := by decide +kernel
theorem dX1_with_12 : decode cX1_with 12 = .ok (.iload_n 2, 1) := by decide +kernel
theorem dX1_with_13 : decode cX1_with 13 = .ok (.imul, 1) := by decide +kernel
theorem dX1_with_14 : decode cX1_with 14 = .ok (.ishl, 1) := by decide +kernel
theorem dX1_with_15 : decode cX1_with 15 = .ok (.ior, 1) := by decide +kernel
theorem dX1_with_16 : decode cX1_with 16 = .ok (.ireturn, 1) := by decide +kernel
theorem dX1_bestValue_0 : decode cX1_bestValue 0 = .ok (.aload_n 0, 1) := by decide +kernel
theorem dX1_bestValue_1 : decode cX1_bestValue 1 = .ok (.iload_n 1, 1) := by decide +kernel
theorem dX1_bestValue_2 : decode cX1_bestValue 2 = .ok (.invokevirtual 41, 3) := by decide +kernel
theorem dX1_bestValue_5 : decode cX1_bestValue 5 = .ok (.ifCond .eq 12, 3) := by decide +kernel
theorem dX1_bestValue_8 : decode cX1_bestValue 8 = .ok (.iload_n 2, 1) := by decide +kernel
theorem dX1_bestValue_9 : decode cX1_bestValue 9 = .ok (.ifCond .lt 8, 3) := by decide +kernel
theorem dX1_bestValue_12 : decode cX1_bestValue 12 = .ok (.iload_n 2, 1) := by decide +kernel
theorem dX1_bestValue_13 : decode cX1_bestValue 13 = .ok (.iconst 3, 1) := by decide +kernel
theorem dX1_bestValue_14 : decode cX1_bestValue 14 = .ok (.if_icmp .le 5, 3) := by decide +kernel
theorem dX1_bestValue_17 : decode cX1_bestValue 17 = .ok (.iconst (-1), 1) := by decide +kernel
theorem dX1_bestValue_18 : decode cX1_bestValue 18 = .ok (.ireturn, 1) := by decide +kernel
theorem dX1_bestValue_19 : decode cX1_bestValue 19 = .ok (.iconst 0, 1) := by decide +kernel
theorem dX1_bestValue_20 : decode cX1_bestValue 20 = .ok (.istore_n 3, 1) := by decide +kernel
theorem dX1_bestValue_21 : decode cX1_bestValue 21 = .ok (.aload_n 0, 1) := by decide +kernel
theorem dX1_bestValue_22 : decode cX1_bestValue 22 = .ok (.iload_n 1, 1) := by decide +kernel
theorem dX1_bestValue_23 : decode cX1_bestValue 23 = .ok (.iload_n 2, 1) := by decide +kernel
theorem dX1_bestValue_24 : decode cX1_bestValue 24 = .ok (.iconst 0, 1) := by decide +kernel
theorem dX1_bestValue_25 : decode cX1_bestValue 25 = .ok (.invokevirtual 50, 3) := by decide +kernel
theorem dX1_bestValue_28 : decode cX1_bestValue 28 = .ok (.istore 4, 2) := by decide +kernel
theorem dX1_bestValue_30 : decode cX1_bestValue 30 = .ok (.aload_n 0, 1) := by decide +kernel
theorem dX1_bestValue_31 : decode cX1_bestValue 31 = .ok (.iload 4, 2) := by decide +kernel
theorem dX1_bestValue_33 : decode cX1_bestValue 33 = .ok (.invokevirtual 54, 3) := by decide +kernel
theorem dX1_bestValue_36 : decode cX1_bestValue 36 = .ok (.istore 5, 2) := by decide +kernel
theorem dX1_bestValue_38 : decode cX1_bestValue 38 = .ok (.iconst 1, 1) := by decide +kernel
theorem dX1_bestValue_39 : decode cX1_bestValue 39 = .ok (.istore 6, 2) := by decide +kernel
theorem dX1_bestValue_41 : decode cX1_bestValue 41 = .ok (.iload 6, 2) := by decide +kernel
theorem dX1_bestValue_43 : decode cX1_bestValue 43 = .ok (.bipush 16, 2) := by decide +kernel
theorem dX1_bestValue_45 : decode cX1_bestValue 45 = .ok (.if_icmp .ge 57, 3) := by decide +kernel
theorem dX1_bestValue_48 : decode cX1_bestValue 48 = .ok (.aload_n 0, 1) := by decide +kernel
theorem dX1_bestValue_49 : decode cX1_bestValue 49 = .ok (.iload_n 1, 1) := by decide +kernel
theorem dX1_bestValue_50 : decode cX1_bestValue 50 = .ok (.iload_n 2, 1) := by decide +kernel
theorem dX1_bestValue_51 : decode cX1_bestValue 51 = .ok (.iload 6, 2) := by decide +kernel
theorem dX1_bestValue_53 : decode cX1_bestValue 53 = .ok (.invokevirtual 50, 3) := by decide +kernel
theorem dX1_bestValue_56 : decode cX1_bestValue 56 = .ok (.istore 7, 2) := by decide +kernel
theorem dX1_bestValue_58 : decode cX1_bestValue 58 = .ok (.aload_n 0, 1) := by decide +kernel
theorem dX1_bestValue_59 : decode cX1_bestValue 59 = .ok (.iload 7, 2) := by decide +kernel
theorem dX1_bestValue_61 : decode cX1_bestValue 61 = .ok (.invokevirtual 54, 3) := by decide +kernel
theorem dX1_bestValue_64 : decode cX1_bestValue 64 = .ok (.istore 8, 2) := by decide +kernel
theorem dX1_bestValue_66 : decode cX1_bestValue 66 = .ok (.iload 8, 2) := by decide +kernel
theorem dX1_bestValue_68 : decode cX1_bestValue 68 = .ok (.iload 5, 2) := by decide +kernel
theorem dX1_bestValue_70 : decode cX1_bestValue 70 = .ok (.if_icmp .le 8, 3) := by decide +kernel
theorem dX1_bestValue_73 : decode cX1_bestValue 73 = .ok (.iload 6, 2) := by decide +kernel
theorem dX1_bestValue_75 : decode cX1_bestValue 75 = .ok (.goto 4, 3) := by decide +kernel
theorem dX1_bestValue_78 : decode cX1_bestValue 78 = .ok (.iload_n 3, 1) := by decide +kernel
theorem dX1_bestValue_79 : decode cX1_bestValue 79 = .ok (.istore_n 3, 1) := by decide +kernel
theorem dX1_bestValue_80 : decode cX1_bestValue 80 = .ok (.iload 8, 2) := by decide +kernel
theorem dX1_bestValue_82 : decode cX1_bestValue 82 = .ok (.iload 5, 2) := by decide +kernel
theorem dX1_bestValue_84 : decode cX1_bestValue 84 = .ok (.if_icmp .le 8, 3) := by decide +kernel
theorem dX1_bestValue_87 : decode cX1_bestValue 87 = .ok (.iload 8, 2) := by decide +kernel
theorem dX1_bestValue_89 : decode cX1_bestValue 89 = .ok (.goto 5, 3) := by decide +kernel
theorem dX1_bestValue_92 : decode cX1_bestValue 92 = .ok (.iload 5, 2) := by decide +kernel
theorem dX1_bestValue_94 : decode cX1_bestValue 94 = .ok (.istore 5, 2) := by decide +kernel
theorem dX1_bestValue_96 : decode cX1_bestValue 96 = .ok (.iinc 6 1, 3) := by decide +kernel
theorem dX1_bestValue_99 : decode cX1_bestValue 99 = .ok (.goto (-58), 3) := by decide +kernel
theorem dX1_bestValue_102 : decode cX1_bestValue 102 = .ok (.iload_n 3, 1) := by decide +kernel
theorem dX1_bestValue_103 : decode cX1_bestValue 103 = .ok (.ireturn, 1) := by decide +kernel
theorem dX1_reachable_0 : decode cX1_reachable 0 = .ok (.iconst 0, 1) := by decide +kernel
theorem dX1_reachable_1 : decode cX1_reachable 1 = .ok (.istore_n 2, 1) := by decide +kernel
theorem dX1_reachable_2 : decode cX1_reachable 2 = .ok (.iconst 0, 1) := by decide +kernel
theorem dX1_reachable_3 : decode cX1_reachable 3 = .ok (.istore_n 3, 1) := by decide +kernel
theorem dX1_reachable_4 : decode cX1_reachable 4 = .ok (.iload_n 3, 1) := by decide +kernel
theorem dX1_reachable_5 : decode cX1_reachable 5 = .ok (.bipush 8, 2) := by decide +kernel
theorem dX1_reachable_7 : decode cX1_reachable 7 = .ok (.if_icmp .ge 28, 3) := by decide +kernel
theorem dX1_reachable_10 : decode cX1_reachable 10 = .ok (.aload_n 0, 1) := by decide +kernel
theorem dX1_reachable_11 : decode cX1_reachable 11 = .ok (.iload_n 1, 1) := by decide +kernel
theorem dX1_reachable_12 : decode cX1_reachable 12 = .ok (.iload_n 3, 1) := by decide +kernel
theorem dX1_reachable_13 : decode cX1_reachable 13 = .ok (.invokevirtual 57, 3) := by decide +kernel
theorem dX1_reachable_16 : decode cX1_reachable 16 = .ok (.ifCond .eq 11, 3) := by decide +kernel
theorem dX1_reachable_19 : decode cX1_reachable 19 = .ok (.iload_n 2, 1) := by decide +kernel
theorem dX1_reachable_20 : decode cX1_reachable 20 = .ok (.iconst 1, 1) := by decide +kernel
theorem dX1_reachable_21 : decode cX1_reachable 21 = .ok (.iload_n 3, 1) := by decide +kernel
theorem dX1_reachable_22 : decode cX1_reachable 22 = .ok (.ishl, 1) := by decide +kernel
theorem dX1_reachable_23 : decode cX1_reachable 23 = .ok (.ior, 1) := by decide +kernel
theorem dX1_reachable_24 : decode cX1_reachable 24 = .ok (.goto 4, 3) := by decide +kernel
theorem dX1_reachable_27 : decode cX1_reachable 27 = .ok (.iload_n 2, 1) := by decide +kernel
theorem dX1_reachable_28 : decode cX1_reachable 28 = .ok (.istore_n 2, 1) := by decide +kernel
theorem dX1_reachable_29 : decode cX1_reachable 29 = .ok (.iinc 3 1, 3) := by decide +kernel
theorem dX1_reachable_32 : decode cX1_reachable 32 = .ok (.goto (-28), 3) := by decide +kernel
theorem dX1_reachable_35 : decode cX1_reachable 35 = .ok (.iload_n 2, 1) := by decide +kernel
theorem dX1_reachable_36 : decode cX1_reachable 36 = .ok (.ireturn, 1) := by decide +kernel
theorem dX1_box_0 : decode cX1_box 0 = .ok (.aload_n 0, 1) := by decide +kernel
theorem dX1_box_1 : decode cX1_box 1 = .ok (.iload_n 1, 1) := by decide +kernel
theorem dX1_box_2 : decode cX1_box 2 = .ok (.iload_n 2, 1) := by decide +kernel
theorem dX1_box_3 : decode cX1_box 3 = .ok (.invokevirtual 29, 3) := by decide +kernel
theorem dX1_box_6 : decode cX1_box 6 = .ok (.istore_n 3, 1) := by decide +kernel
theorem dX1_box_7 : decode cX1_box 7 = .ok (.iload_n 3, 1) := by decide +kernel
theorem dX1_box_8 : decode cX1_box 8 = .ok (.ifCond .ge 5, 3) := by decide +kernel
theorem dX1_box_11 : decode cX1_box 11 = .ok (.iconst 0, 1) := by decide +kernel
theorem dX1_box_12 : decode cX1_box 12 = .ok (.ireturn, 1) := by decide +kernel
theorem dX1_box_13 : decode cX1_box 13 = .ok (.iconst 0, 1) := by decide +kernel
theorem dX1_box_14 : decode cX1_box 14 = .ok (.istore 4, 2) := by decide +kernel
theorem dX1_box_16 : decode cX1_box 16 = .ok (.iload 4, 2) := by decide +kernel
theorem dX1_box_18 : decode cX1_box 18 = .ok (.iconst 4, 1) := by decide +kernel
theorem dX1_box_19 : decode cX1_box 19 = .ok (.if_icmp .ge 26, 3) := by decide +kernel
theorem dX1_box_22 : decode cX1_box 22 = .ok (.aload_n 0, 1) := by decide +kernel
theorem dX1_box_23 : decode cX1_box 23 = .ok (.getfield 19, 3) := by decide +kernel
theorem dX1_box_26 : decode cX1_box 26 = .ok (.iload 4, 2) := by decide +kernel
theorem dX1_box_28 : decode cX1_box 28 = .ok (.iconst 0, 1) := by decide +kernel
theorem dX1_box_29 : decode cX1_box 29 = .ok (.iastore, 1) := by decide +kernel
theorem dX1_box_30 : decode cX1_box 30 = .ok (.aload_n 0, 1) := by decide +kernel
theorem dX1_box_31 : decode cX1_box 31 = .ok (.getfield 22, 3) := by decide +kernel
theorem dX1_box_34 : decode cX1_box 34 = .ok (.iload 4, 2) := by decide +kernel
theorem dX1_box_36 : decode cX1_box 36 = .ok (.bipush 15, 2) := by decide +kernel
theorem dX1_box_38 : decode cX1_box 38 = .ok (.iastore, 1) := by decide +kernel
theorem dX1_box_39 : decode cX1_box 39 = .ok (.iinc 4 1, 3) := by decide +kernel
theorem dX1_box_42 : decode cX1_box 42 = .ok (.goto (-26), 3) := by decide +kernel
theorem dX1_box_45 : decode cX1_box 45 = .ok (.iconst 0, 1) := by decide +kernel
theorem dX1_box_46 : decode cX1_box 46 = .ok (.istore 4, 2) := by decide +kernel
theorem dX1_box_48 : decode cX1_box 48 = .ok (.iconst 0, 1) := by decide +kernel
theorem dX1_box_49 : decode cX1_box 49 = .ok (.istore 5, 2) := by decide +kernel
theorem dX1_box_51 : decode cX1_box 51 = .ok (.iload 5, 2) := by decide +kernel
theorem dX1_box_53 : decode cX1_box 53 = .ok (.bipush 7, 2) := by decide +kernel
theorem dX1_box_55 : decode cX1_box 55 = .ok (.if_icmp .ge 139, 3) := by decide +kernel
theorem dX1_box_58 : decode cX1_box 58 = .ok (.iload 4, 2) := by decide +kernel
theorem dX1_box_60 : decode cX1_box 60 = .ok (.iload_n 3, 1) := by decide +kernel
theorem dX1_box_61 : decode cX1_box 61 = .ok (.if_icmp .ge 133, 3) := by decide +kernel
theorem dX1_box_64 : decode cX1_box 64 = .ok (.aload_n 0, 1) := by decide +kernel
theorem dX1_box_65 : decode cX1_box 65 = .ok (.getfield 13, 3) := by decide +kernel
theorem dX1_box_68 : decode cX1_box 68 = .ok (.bipush 15, 2) := by decide +kernel
theorem dX1_box_70 : decode cX1_box 70 = .ok (.iload_n 1, 1) := by decide +kernel
theorem dX1_box_71 : decode cX1_box 71 = .ok (.imul, 1) := by decide +kernel
theorem dX1_box_72 : decode cX1_box 72 = .ok (.iload 4, 2) := by decide +kernel
theorem dX1_box_74 : decode cX1_box 74 = .ok (.iadd, 1) := by decide +kernel
theorem dX1_box_75 : decode cX1_box 75 = .ok (.iaload, 1) := by decide +kernel
theorem dX1_box_76 : decode cX1_box 76 = .ok (.istore 6, 2) := by decide +kernel
theorem dX1_box_78 : decode cX1_box 78 = .ok (.aload_n 0, 1) := by decide +kernel
theorem dX1_box_79 : decode cX1_box 79 = .ok (.getfield 16, 3) := by decide +kernel
theorem dX1_box_82 : decode cX1_box 82 = .ok (.bipush 15, 2) := by decide +kernel
theorem dX1_box_84 : decode cX1_box 84 = .ok (.iload_n 1, 1) := by decide +kernel
theorem dX1_box_85 : decode cX1_box 85 = .ok (.imul, 1) := by decide +kernel
theorem dX1_box_86 : decode cX1_box 86 = .ok (.iload 4, 2) := by decide +kernel
theorem dX1_box_88 : decode cX1_box 88 = .ok (.iadd, 1) := by decide +kernel
theorem dX1_box_89 : decode cX1_box 89 = .ok (.iaload, 1) := by decide +kernel
theorem dX1_box_90 : decode cX1_box 90 = .ok (.istore 7, 2) := by decide +kernel
theorem dX1_box_92 : decode cX1_box 92 = .ok (.aload_n 0, 1) := by decide +kernel
theorem dX1_box_93 : decode cX1_box 93 = .ok (.iload_n 1, 1) := by decide +kernel
theorem dX1_box_94 : decode cX1_box 94 = .ok (.iload 4, 2) := by decide +kernel
theorem dX1_box_96 : decode cX1_box 96 = .ok (.iconst 1, 1) := by decide +kernel
theorem dX1_box_97 : decode cX1_box 97 = .ok (.iadd, 1) := by decide +kernel
theorem dX1_box_98 : decode cX1_box 98 = .ok (.invokevirtual 38, 3) := by decide +kernel
theorem dX1_box_101 : decode cX1_box 101 = .ok (.istore 8, 2) := by decide +kernel
theorem dX1_box_103 : decode cX1_box 103 = .ok (.iload_n 3, 1) := by decide +kernel
theorem dX1_box_104 : decode cX1_box 104 = .ok (.iload 8, 2) := by decide +kernel
theorem dX1_box_106 : decode cX1_box 106 = .ok (.if_icmp .ge 43, 3) := by decide +kernel
theorem dX1_box_109 : decode cX1_box 109 = .ok (.aload_n 0, 1) := by decide +kernel
theorem dX1_box_110 : decode cX1_box 110 = .ok (.getfield 22, 3) := by decide +kernel
theorem dX1_box_113 : decode cX1_box 113 = .ok (.iload 6, 2) := by decide +kernel
theorem dX1_box_115 : decode cX1_box 115 = .ok (.iload 7, 2) := by decide +kernel
theorem dX1_box_117 : decode cX1_box 117 = .ok (.aload_n 0, 1) := by decide +kernel
theorem dX1_box_118 : decode cX1_box 118 = .ok (.getfield 22, 3) := by decide +kernel
theorem dX1_box_121 : decode cX1_box 121 = .ok (.iload 6, 2) := by decide +kernel
theorem dX1_box_123 : decode cX1_box 123 = .ok (.iaload, 1) := by decide +kernel
theorem dX1_box_124 : decode cX1_box 124 = .ok (.if_icmp .ge 8, 3) := by decide +kernel
theorem dX1_box_127 : decode cX1_box 127 = .ok (.iload 7, 2) := by decide +kernel
theorem dX1_box_129 : decode cX1_box 129 = .ok (.goto 10, 3) := by decide +kernel
theorem dX1_box_132 : decode cX1_box 132 = .ok (.aload_n 0, 1) := by decide +kernel
theorem dX1_box_133 : decode cX1_box 133 = .ok (.getfield 22, 3) := by decide +kernel
theorem dX1_box_136 : decode cX1_box 136 = .ok (.iload 6, 2) := by decide +kernel
theorem dX1_box_138 : decode cX1_box 138 = .ok (.iaload, 1) := by decide +kernel
theorem dX1_box_139 : decode cX1_box 139 = .ok (.iastore, 1) := by decide +kernel
theorem dX1_box_140 : decode cX1_box 140 = .ok (.iload 4, 2) := by decide +kernel
theorem dX1_box_142 : decode cX1_box 142 = .ok (.iconst 1, 1) := by decide +kernel
theorem dX1_box_143 : decode cX1_box 143 = .ok (.iadd, 1) := by decide +kernel
theorem dX1_box_144 : decode cX1_box 144 = .ok (.istore 4, 2) := by decide +kernel
theorem dX1_box_146 : decode cX1_box 146 = .ok (.goto 42, 3) := by decide +kernel
theorem dX1_box_149 : decode cX1_box 149 = .ok (.aload_n 0, 1) := by decide +kernel
theorem dX1_box_150 : decode cX1_box 150 = .ok (.getfield 19, 3) := by decide +kernel
theorem dX1_box_153 : decode cX1_box 153 = .ok (.iload 6, 2) := by decide +kernel
theorem dX1_box_155 : decode cX1_box 155 = .ok (.iload 7, 2) := by decide +kernel
theorem dX1_box_157 : decode cX1_box 157 = .ok (.iconst 1, 1) := by decide +kernel
theorem dX1_box_158 : decode cX1_box 158 = .ok (.iadd, 1) := by decide +kernel
theorem dX1_box_159 : decode cX1_box 159 = .ok (.aload_n 0, 1) := by decide +kernel
theorem dX1_box_160 : decode cX1_box 160 = .ok (.getfield 19, 3) := by decide +kernel
theorem dX1_box_163 : decode cX1_box 163 = .ok (.iload 6, 2) := by decide +kernel
theorem dX1_box_165 : decode cX1_box 165 = .ok (.iaload, 1) := by decide +kernel
theorem dX1_box_166 : decode cX1_box 166 = .ok (.if_icmp .le 10, 3) := by decide +kernel
theorem dX1_box_169 : decode cX1_box 169 = .ok (.iload 7, 2) := by decide +kernel
theorem dX1_box_171 : decode cX1_box 171 = .ok (.iconst 1, 1) := by decide +kernel
theorem dX1_box_172 : decode cX1_box 172 = .ok (.iadd, 1) := by decide +kernel
theorem dX1_box_173 : decode cX1_box 173 = .ok (.goto 10, 3) := by decide +kernel
theorem dX1_box_176 : decode cX1_box 176 = .ok (.aload_n 0, 1) := by decide +kernel
theorem dX1_box_177 : decode cX1_box 177 = .ok (.getfield 19, 3) := by decide +kernel
theorem dX1_box_180 : decode cX1_box 180 = .ok (.iload 6, 2) := by decide +kernel
theorem dX1_box_182 : decode cX1_box 182 = .ok (.iaload, 1) := by decide +kernel
theorem dX1_box_183 : decode cX1_box 183 = .ok (.iastore, 1) := by decide +kernel
theorem dX1_box_184 : decode cX1_box 184 = .ok (.iload 8, 2) := by decide +kernel
theorem dX1_box_186 : decode cX1_box 186 = .ok (.istore 4, 2) := by decide +kernel
theorem dX1_box_188 : decode cX1_box 188 = .ok (.iinc 5 1, 3) := by decide +kernel
theorem dX1_box_191 : decode cX1_box 191 = .ok (.goto (-140), 3) := by decide +kernel
theorem dX1_box_194 : decode cX1_box 194 = .ok (.aload_n 0, 1) := by decide +kernel
theorem dX1_box_195 : decode cX1_box 195 = .ok (.getfield 19, 3) := by decide +kernel
theorem dX1_box_198 : decode cX1_box 198 = .ok (.iconst 0, 1) := by decide +kernel
theorem dX1_box_199 : decode cX1_box 199 = .ok (.iaload, 1) := by decide +kernel
theorem dX1_box_200 : decode cX1_box 200 = .ok (.aload_n 0, 1) := by decide +kernel
theorem dX1_box_201 : decode cX1_box 201 = .ok (.getfield 22, 3) := by decide +kernel
theorem dX1_box_204 : decode cX1_box 204 = .ok (.iconst 0, 1) := by decide +kernel
theorem dX1_box_205 : decode cX1_box 205 = .ok (.iaload, 1) := by decide +kernel
theorem dX1_box_206 : decode cX1_box 206 = .ok (.if_icmp .gt 52, 3) := by decide +kernel
theorem dX1_box_209 : decode cX1_box 209 = .ok (.aload_n 0, 1) := by decide +kernel
theorem dX1_box_210 : decode cX1_box 210 = .ok (.getfield 19, 3) := by decide +kernel
theorem dX1_box_213 : decode cX1_box 213 = .ok (.iconst 1, 1) := by decide +kernel
theorem dX1_box_214 : decode cX1_box 214 = .ok (.iaload, 1) := by decide +kernel
theorem dX1_box_215 : decode cX1_box 215 = .ok (.aload_n 0, 1) := by decide +kernel
theorem dX1_box_216 : decode cX1_box 216 = .ok (.getfield 22, 3) := by decide +kernel
theorem dX1_box_219 : decode cX1_box 219 = .ok (.iconst 1, 1) := by decide +kernel
theorem dX1_box_220 : decode cX1_box 220 = .ok (.iaload, 1) := by decide +kernel
theorem dX1_box_221 : decode cX1_box 221 = .ok (.if_icmp .gt 37, 3) := by decide +kernel
theorem dX1_box_224 : decode cX1_box 224 = .ok (.aload_n 0, 1) := by decide +kernel
theorem dX1_box_225 : decode cX1_box 225 = .ok (.getfield 19, 3) := by decide +kernel
theorem dX1_box_228 : decode cX1_box 228 = .ok (.iconst 2, 1) := by decide +kernel
theorem dX1_box_229 : decode cX1_box 229 = .ok (.iaload, 1) := by decide +kernel
theorem dX1_box_230 : decode cX1_box 230 = .ok (.aload_n 0, 1) := by decide +kernel
theorem dX1_box_231 : decode cX1_box 231 = .ok (.getfield 22, 3) := by decide +kernel
theorem dX1_box_234 : decode cX1_box 234 = .ok (.iconst 2, 1) := by decide +kernel
theorem dX1_box_235 : decode cX1_box 235 = .ok (.iaload, 1) := by decide +kernel
theorem dX1_box_236 : decode cX1_box 236 = .ok (.if_icmp .gt 22, 3) := by decide +kernel
theorem dX1_box_239 : decode cX1_box 239 = .ok (.aload_n 0, 1) := by decide +kernel
theorem dX1_box_240 : decode cX1_box 240 = .ok (.getfield 19, 3) := by decide +kernel
theorem dX1_box_243 : decode cX1_box 243 = .ok (.iconst 3, 1) := by decide +kernel
theorem dX1_box_244 : decode cX1_box 244 = .ok (.iaload, 1) := by decide +kernel
theorem dX1_box_245 : decode cX1_box 245 = .ok (.aload_n 0, 1) := by decide +kernel
end
section
set_option maxRecDepth 100000
theorem dX1_box_246 : decode cX1_box 246 = .ok (.getfield 22, 3) := by decide +kernel
theorem dX1_box_249 : decode cX1_box 249 = .ok (.iconst 3, 1) := by decide +kernel
theorem dX1_box_250 : decode cX1_box 250 = .ok (.iaload, 1) := by decide +kernel
theorem dX1_box_251 : decode cX1_box 251 = .ok (.if_icmp .gt 7, 3) := by decide +kernel
theorem dX1_box_254 : decode cX1_box 254 = .ok (.iconst 1, 1) := by decide +kernel
theorem dX1_box_255 : decode cX1_box 255 = .ok (.goto 4, 3) := by decide +kernel
theorem dX1_box_258 : decode cX1_box 258 = .ok (.iconst 0, 1) := by decide +kernel
theorem dX1_box_259 : decode cX1_box 259 = .ok (.ireturn, 1) := by decide +kernel
theorem dX1_range_0 : decode cX1_range 0 = .ok (.aload_n 0, 1) := by decide +kernel
theorem dX1_range_1 : decode cX1_range 1 = .ok (.iload_n 1, 1) := by decide +kernel
theorem dX1_range_2 : decode cX1_range 2 = .ok (.iload_n 2, 1) := by decide +kernel
theorem dX1_range_3 : decode cX1_range 3 = .ok (.invokevirtual 57, 3) := by decide +kernel
theorem dX1_range_6 : decode cX1_range 6 = .ok (.ifCond .eq 23, 3) := by decide +kernel
theorem dX1_range_9 : decode cX1_range 9 = .ok (.iload_n 3, 1) := by decide +kernel
theorem dX1_range_10 : decode cX1_range 10 = .ok (.ifCond .lt 19, 3) := by decide +kernel
theorem dX1_range_13 : decode cX1_range 13 = .ok (.iload_n 3, 1) := by decide +kernel
theorem dX1_range_14 : decode cX1_range 14 = .ok (.iconst 3, 1) := by decide +kernel
theorem dX1_range_15 : decode cX1_range 15 = .ok (.if_icmp .gt 14, 3) := by decide +kernel
theorem dX1_range_18 : decode cX1_range 18 = .ok (.iload 4, 2) := by decide +kernel
theorem dX1_range_20 : decode cX1_range 20 = .ok (.ifCond .eq 11, 3) := by decide +kernel
theorem dX1_range_23 : decode cX1_range 23 = .ok (.iload 4, 2) := by decide +kernel
theorem dX1_range_25 : decode cX1_range 25 = .ok (.iconst 1, 1) := by decide +kernel
theorem dX1_range_26 : decode cX1_range 26 = .ok (.if_icmp .eq 5, 3) := by decide +kernel
theorem dX1_range_29 : decode cX1_range 29 = .ok (.iconst (-1), 1) := by decide +kernel
theorem dX1_range_30 : decode cX1_range 30 = .ok (.ireturn, 1) := by decide +kernel
theorem dX1_range_31 : decode cX1_range 31 = .ok (.iload 4, 2) := by decide +kernel
theorem dX1_range_33 : decode cX1_range 33 = .ok (.ifCond .ne 12, 3) := by decide +kernel
theorem dX1_range_36 : decode cX1_range 36 = .ok (.aload_n 0, 1) := by decide +kernel
theorem dX1_range_37 : decode cX1_range 37 = .ok (.getfield 19, 3) := by decide +kernel
theorem dX1_range_40 : decode cX1_range 40 = .ok (.iload_n 3, 1) := by decide +kernel
theorem dX1_range_41 : decode cX1_range 41 = .ok (.iaload, 1) := by decide +kernel
theorem dX1_range_42 : decode cX1_range 42 = .ok (.goto 9, 3) := by decide +kernel
theorem dX1_range_45 : decode cX1_range 45 = .ok (.aload_n 0, 1) := by decide +kernel
theorem dX1_range_46 : decode cX1_range 46 = .ok (.getfield 22, 3) := by decide +kernel
theorem dX1_range_49 : decode cX1_range 49 = .ok (.iload_n 3, 1) := by decide +kernel
theorem dX1_range_50 : decode cX1_range 50 = .ok (.iaload, 1) := by decide +kernel
theorem dX1_range_51 : decode cX1_range 51 = .ok (.ireturn, 1) := by decide +kernel
theorem dX1_asks_0 : decode cX1_asks 0 = .ok (.iconst 0, 1) := by decide +kernel
theorem dX1_asks_1 : decode cX1_asks 1 = .ok (.istore_n 2, 1) := by decide +kernel
theorem dX1_asks_2 : decode cX1_asks 2 = .ok (.iconst 0, 1) := by decide +kernel
theorem dX1_asks_3 : decode cX1_asks 3 = .ok (.istore_n 3, 1) := by decide +kernel
theorem dX1_asks_4 : decode cX1_asks 4 = .ok (.iload_n 3, 1) := by decide +kernel
theorem dX1_asks_5 : decode cX1_asks 5 = .ok (.bipush 60, 2) := by decide +kernel
theorem dX1_asks_7 : decode cX1_asks 7 = .ok (.if_icmp .ge 43, 3) := by decide +kernel
theorem dX1_asks_10 : decode cX1_asks 10 = .ok (.iload_n 3, 1) := by decide +kernel
theorem dX1_asks_11 : decode cX1_asks 11 = .ok (.bipush 15, 2) := by decide +kernel
theorem dX1_asks_13 : decode cX1_asks 13 = .ok (.irem, 1) := by decide +kernel
theorem dX1_asks_14 : decode cX1_asks 14 = .ok (.aload_n 0, 1) := by decide +kernel
theorem dX1_asks_15 : decode cX1_asks 15 = .ok (.getfield 7, 3) := by decide +kernel
theorem dX1_asks_18 : decode cX1_asks 18 = .ok (.iload_n 3, 1) := by decide +kernel
theorem dX1_asks_19 : decode cX1_asks 19 = .ok (.bipush 15, 2) := by decide +kernel
theorem dX1_asks_21 : decode cX1_asks 21 = .ok (.idiv, 1) := by decide +kernel
theorem dX1_asks_22 : decode cX1_asks 22 = .ok (.iaload, 1) := by decide +kernel
theorem dX1_asks_23 : decode cX1_asks 23 = .ok (.if_icmp .ge 19, 3) := by decide +kernel
theorem dX1_asks_26 : decode cX1_asks 26 = .ok (.aload_n 0, 1) := by decide +kernel
theorem dX1_asks_27 : decode cX1_asks 27 = .ok (.getfield 13, 3) := by decide +kernel
theorem dX1_asks_30 : decode cX1_asks 30 = .ok (.iload_n 3, 1) := by decide +kernel
theorem dX1_asks_31 : decode cX1_asks 31 = .ok (.iaload, 1) := by decide +kernel
theorem dX1_asks_32 : decode cX1_asks 32 = .ok (.iload_n 1, 1) := by decide +kernel
theorem dX1_asks_33 : decode cX1_asks 33 = .ok (.if_icmp .ne 9, 3) := by decide +kernel
theorem dX1_asks_36 : decode cX1_asks 36 = .ok (.iload_n 2, 1) := by decide +kernel
theorem dX1_asks_37 : decode cX1_asks 37 = .ok (.iconst 1, 1) := by decide +kernel
theorem dX1_asks_38 : decode cX1_asks 38 = .ok (.iadd, 1) := by decide +kernel
theorem dX1_asks_39 : decode cX1_asks 39 = .ok (.goto 4, 3) := by decide +kernel
theorem dX1_asks_42 : decode cX1_asks 42 = .ok (.iload_n 2, 1) := by decide +kernel
theorem dX1_asks_43 : decode cX1_asks 43 = .ok (.istore_n 2, 1) := by decide +kernel
theorem dX1_asks_44 : decode cX1_asks 44 = .ok (.iinc 3 1, 3) := by decide +kernel
theorem dX1_asks_47 : decode cX1_asks 47 = .ok (.goto (-43), 3) := by decide +kernel
theorem dX1_asks_50 : decode cX1_asks 50 = .ok (.iload_n 1, 1) := by decide +kernel
theorem dX1_asks_51 : decode cX1_asks 51 = .ok (.ifCond .lt 8, 3) := by decide +kernel
theorem dX1_asks_54 : decode cX1_asks 54 = .ok (.iload_n 1, 1) := by decide +kernel
theorem dX1_asks_55 : decode cX1_asks 55 = .ok (.iconst 3, 1) := by decide +kernel
theorem dX1_asks_56 : decode cX1_asks 56 = .ok (.if_icmp .le 7, 3) := by decide +kernel
theorem dX1_asks_59 : decode cX1_asks 59 = .ok (.iconst (-1), 1) := by decide +kernel
theorem dX1_asks_60 : decode cX1_asks 60 = .ok (.goto 4, 3) := by decide +kernel
theorem dX1_asks_63 : decode cX1_asks 63 = .ok (.iload_n 2, 1) := by decide +kernel
theorem dX1_asks_64 : decode cX1_asks 64 = .ok (.ireturn, 1) := by decide +kernel
end
section
set_option maxRecDepth 100000
theorem dL_law_0 : decode cL_law 0 = .ok (.new 7, 3) := by decide +kernel
theorem dL_law_3 : decode cL_law 3 = .ok (.dup, 1) := by decide +kernel
theorem dL_law_4 : decode cL_law 4 = .ok (.invokespecial 9, 3) := by decide +kernel
theorem dL_law_7 : decode cL_law 7 = .ok (.astore_n 1, 1) := by decide +kernel
theorem dL_law_8 : decode cL_law 8 = .ok (.new 10, 3) := by decide +kernel
theorem dL_law_11 : decode cL_law 11 = .ok (.dup, 1) := by decide +kernel
theorem dL_law_12 : decode cL_law 12 = .ok (.invokespecial 12, 3) := by decide +kernel
theorem dL_law_15 : decode cL_law 15 = .ok (.astore_n 2, 1) := by decide +kernel
theorem dL_law_16 : decode cL_law 16 = .ok (.iconst 0, 1) := by decide +kernel
theorem dL_law_17 : decode cL_law 17 = .ok (.istore_n 3, 1) := by decide +kernel
theorem dL_law_18 : decode cL_law 18 = .ok (.iload_n 3, 1) := by decide +kernel
theorem dL_law_19 : decode cL_law 19 = .ok (.aload_n 0, 1) := by decide +kernel
theorem dL_law_20 : decode cL_law 20 = .ok (.arraylength, 1) := by decide +kernel
theorem dL_law_21 : decode cL_law 21 = .ok (.iconst 5, 1) := by decide +kernel
theorem dL_law_22 : decode cL_law 22 = .ok (.isub, 1) := by decide +kernel
theorem dL_law_23 : decode cL_law 23 = .ok (.if_icmp .gt 512, 3) := by decide +kernel
theorem dL_law_26 : decode cL_law 26 = .ok (.aload_n 0, 1) := by decide +kernel
theorem dL_law_27 : decode cL_law 27 = .ok (.iload_n 3, 1) := by decide +kernel
theorem dL_law_28 : decode cL_law 28 = .ok (.iaload, 1) := by decide +kernel
theorem dL_law_29 : decode cL_law 29 = .ok (.bipush 15, 2) := by decide +kernel
theorem dL_law_31 : decode cL_law 31 = .ok (.iand, 1) := by decide +kernel
theorem dL_law_32 : decode cL_law 32 = .ok (.tableswitch 497 0 12 #[68, 121, 164, 187, 210, 243, 276, 299, 322, 365, 398, 421, 474], 68) := by decide +kernel
theorem dL_law_100 : decode cL_law 100 = .ok (.aload_n 1, 1) := by decide +kernel
theorem dL_law_101 : decode cL_law 101 = .ok (.aload_n 0, 1) := by decide +kernel
theorem dL_law_102 : decode cL_law 102 = .ok (.iload_n 3, 1) := by decide +kernel
theorem dL_law_103 : decode cL_law 103 = .ok (.iconst 1, 1) := by decide +kernel
theorem dL_law_104 : decode cL_law 104 = .ok (.iadd, 1) := by decide +kernel
theorem dL_law_105 : decode cL_law 105 = .ok (.iaload, 1) := by decide +kernel
theorem dL_law_106 : decode cL_law 106 = .ok (.aload_n 0, 1) := by decide +kernel
theorem dL_law_107 : decode cL_law 107 = .ok (.iload_n 3, 1) := by decide +kernel
theorem dL_law_108 : decode cL_law 108 = .ok (.iconst 2, 1) := by decide +kernel
theorem dL_law_109 : decode cL_law 109 = .ok (.iadd, 1) := by decide +kernel
theorem dL_law_110 : decode cL_law 110 = .ok (.iaload, 1) := by decide +kernel
theorem dL_law_111 : decode cL_law 111 = .ok (.aload_n 0, 1) := by decide +kernel
theorem dL_law_112 : decode cL_law 112 = .ok (.iload_n 3, 1) := by decide +kernel
theorem dL_law_113 : decode cL_law 113 = .ok (.iconst 3, 1) := by decide +kernel
theorem dL_law_114 : decode cL_law 114 = .ok (.iadd, 1) := by decide +kernel
theorem dL_law_115 : decode cL_law 115 = .ok (.iaload, 1) := by decide +kernel
theorem dL_law_116 : decode cL_law 116 = .ok (.aload_n 0, 1) := by decide +kernel
theorem dL_law_117 : decode cL_law 117 = .ok (.iload_n 3, 1) := by decide +kernel
theorem dL_law_118 : decode cL_law 118 = .ok (.iconst 4, 1) := by decide +kernel
theorem dL_law_119 : decode cL_law 119 = .ok (.iadd, 1) := by decide +kernel
theorem dL_law_120 : decode cL_law 120 = .ok (.iaload, 1) := by decide +kernel
theorem dL_law_121 : decode cL_law 121 = .ok (.invokevirtual 13, 3) := by decide +kernel
theorem dL_law_124 : decode cL_law 124 = .ok (.aload_n 2, 1) := by decide +kernel
theorem dL_law_125 : decode cL_law 125 = .ok (.aload_n 0, 1) := by decide +kernel
theorem dL_law_126 : decode cL_law 126 = .ok (.iload_n 3, 1) := by decide +kernel
theorem dL_law_127 : decode cL_law 127 = .ok (.iconst 1, 1) := by decide +kernel
theorem dL_law_128 : decode cL_law 128 = .ok (.iadd, 1) := by decide +kernel
theorem dL_law_129 : decode cL_law 129 = .ok (.iaload, 1) := by decide +kernel
theorem dL_law_130 : decode cL_law 130 = .ok (.aload_n 0, 1) := by decide +kernel
theorem dL_law_131 : decode cL_law 131 = .ok (.iload_n 3, 1) := by decide +kernel
theorem dL_law_132 : decode cL_law 132 = .ok (.iconst 2, 1) := by decide +kernel
theorem dL_law_133 : decode cL_law 133 = .ok (.iadd, 1) := by decide +kernel
theorem dL_law_134 : decode cL_law 134 = .ok (.iaload, 1) := by decide +kernel
theorem dL_law_135 : decode cL_law 135 = .ok (.aload_n 0, 1) := by decide +kernel
theorem dL_law_136 : decode cL_law 136 = .ok (.iload_n 3, 1) := by decide +kernel
theorem dL_law_137 : decode cL_law 137 = .ok (.iconst 3, 1) := by decide +kernel
theorem dL_law_138 : decode cL_law 138 = .ok (.iadd, 1) := by decide +kernel
theorem dL_law_139 : decode cL_law 139 = .ok (.iaload, 1) := by decide +kernel
theorem dL_law_140 : decode cL_law 140 = .ok (.aload_n 0, 1) := by decide +kernel
theorem dL_law_141 : decode cL_law 141 = .ok (.iload_n 3, 1) := by decide +kernel
theorem dL_law_142 : decode cL_law 142 = .ok (.iconst 4, 1) := by decide +kernel
theorem dL_law_143 : decode cL_law 143 = .ok (.iadd, 1) := by decide +kernel
theorem dL_law_144 : decode cL_law 144 = .ok (.iaload, 1) := by decide +kernel
theorem dL_law_145 : decode cL_law 145 = .ok (.invokevirtual 17, 3) := by decide +kernel
theorem dL_law_148 : decode cL_law 148 = .ok (.if_icmp .eq 381, 3) := by decide +kernel
theorem dL_law_151 : decode cL_law 151 = .ok (.iconst 0, 1) := by decide +kernel
theorem dL_law_152 : decode cL_law 152 = .ok (.ireturn, 1) := by decide +kernel
theorem dL_law_153 : decode cL_law 153 = .ok (.aload_n 1, 1) := by decide +kernel
theorem dL_law_154 : decode cL_law 154 = .ok (.aload_n 0, 1) := by decide +kernel
theorem dL_law_155 : decode cL_law 155 = .ok (.iload_n 3, 1) := by decide +kernel
theorem dL_law_156 : decode cL_law 156 = .ok (.iconst 1, 1) := by decide +kernel
theorem dL_law_157 : decode cL_law 157 = .ok (.iadd, 1) := by decide +kernel
theorem dL_law_158 : decode cL_law 158 = .ok (.iaload, 1) := by decide +kernel
theorem dL_law_159 : decode cL_law 159 = .ok (.aload_n 0, 1) := by decide +kernel
theorem dL_law_160 : decode cL_law 160 = .ok (.iload_n 3, 1) := by decide +kernel
theorem dL_law_161 : decode cL_law 161 = .ok (.iconst 2, 1) := by decide +kernel
theorem dL_law_162 : decode cL_law 162 = .ok (.iadd, 1) := by decide +kernel
theorem dL_law_163 : decode cL_law 163 = .ok (.iaload, 1) := by decide +kernel
theorem dL_law_164 : decode cL_law 164 = .ok (.aload_n 0, 1) := by decide +kernel
theorem dL_law_165 : decode cL_law 165 = .ok (.iload_n 3, 1) := by decide +kernel
theorem dL_law_166 : decode cL_law 166 = .ok (.iconst 3, 1) := by decide +kernel
theorem dL_law_167 : decode cL_law 167 = .ok (.iadd, 1) := by decide +kernel
theorem dL_law_168 : decode cL_law 168 = .ok (.iaload, 1) := by decide +kernel
theorem dL_law_169 : decode cL_law 169 = .ok (.invokevirtual 18, 3) := by decide +kernel
theorem dL_law_172 : decode cL_law 172 = .ok (.aload_n 2, 1) := by decide +kernel
theorem dL_law_173 : decode cL_law 173 = .ok (.aload_n 0, 1) := by decide +kernel
theorem dL_law_174 : decode cL_law 174 = .ok (.iload_n 3, 1) := by decide +kernel
theorem dL_law_175 : decode cL_law 175 = .ok (.iconst 1, 1) := by decide +kernel
theorem dL_law_176 : decode cL_law 176 = .ok (.iadd, 1) := by decide +kernel
theorem dL_law_177 : decode cL_law 177 = .ok (.iaload, 1) := by decide +kernel
theorem dL_law_178 : decode cL_law 178 = .ok (.aload_n 0, 1) := by decide +kernel
theorem dL_law_179 : decode cL_law 179 = .ok (.iload_n 3, 1) := by decide +kernel
theorem dL_law_180 : decode cL_law 180 = .ok (.iconst 2, 1) := by decide +kernel
theorem dL_law_181 : decode cL_law 181 = .ok (.iadd, 1) := by decide +kernel
theorem dL_law_182 : decode cL_law 182 = .ok (.iaload, 1) := by decide +kernel
theorem dL_law_183 : decode cL_law 183 = .ok (.aload_n 0, 1) := by decide +kernel
theorem dL_law_184 : decode cL_law 184 = .ok (.iload_n 3, 1) := by decide +kernel
theorem dL_law_185 : decode cL_law 185 = .ok (.iconst 3, 1) := by decide +kernel
theorem dL_law_186 : decode cL_law 186 = .ok (.iadd, 1) := by decide +kernel
theorem dL_law_187 : decode cL_law 187 = .ok (.iaload, 1) := by decide +kernel
theorem dL_law_188 : decode cL_law 188 = .ok (.invokevirtual 22, 3) := by decide +kernel
theorem dL_law_191 : decode cL_law 191 = .ok (.if_icmp .eq 338, 3) := by decide +kernel
theorem dL_law_194 : decode cL_law 194 = .ok (.iconst 0, 1) := by decide +kernel
theorem dL_law_195 : decode cL_law 195 = .ok (.ireturn, 1) := by decide +kernel
theorem dL_law_196 : decode cL_law 196 = .ok (.aload_n 1, 1) := by decide +kernel
theorem dL_law_197 : decode cL_law 197 = .ok (.aload_n 0, 1) := by decide +kernel
theorem dL_law_198 : decode cL_law 198 = .ok (.iload_n 3, 1) := by decide +kernel
theorem dL_law_199 : decode cL_law 199 = .ok (.iconst 1, 1) := by decide +kernel
theorem dL_law_200 : decode cL_law 200 = .ok (.iadd, 1) := by decide +kernel
theorem dL_law_201 : decode cL_law 201 = .ok (.iaload, 1) := by decide +kernel
theorem dL_law_202 : decode cL_law 202 = .ok (.invokevirtual 23, 3) := by decide +kernel
theorem dL_law_205 : decode cL_law 205 = .ok (.aload_n 2, 1) := by decide +kernel
theorem dL_law_206 : decode cL_law 206 = .ok (.aload_n 0, 1) := by decide +kernel
theorem dL_law_207 : decode cL_law 207 = .ok (.iload_n 3, 1) := by decide +kernel
theorem dL_law_208 : decode cL_law 208 = .ok (.iconst 1, 1) := by decide +kernel
theorem dL_law_209 : decode cL_law 209 = .ok (.iadd, 1) := by decide +kernel
theorem dL_law_210 : decode cL_law 210 = .ok (.iaload, 1) := by decide +kernel
theorem dL_law_211 : decode cL_law 211 = .ok (.invokevirtual 27, 3) := by decide +kernel
theorem dL_law_214 : decode cL_law 214 = .ok (.if_icmp .eq 315, 3) := by decide +kernel
theorem dL_law_217 : decode cL_law 217 = .ok (.iconst 0, 1) := by decide +kernel
theorem dL_law_218 : decode cL_law 218 = .ok (.ireturn, 1) := by decide +kernel
theorem dL_law_219 : decode cL_law 219 = .ok (.aload_n 1, 1) := by decide +kernel
theorem dL_law_220 : decode cL_law 220 = .ok (.aload_n 0, 1) := by decide +kernel
theorem dL_law_221 : decode cL_law 221 = .ok (.iload_n 3, 1) := by decide +kernel
theorem dL_law_222 : decode cL_law 222 = .ok (.iconst 1, 1) := by decide +kernel
theorem dL_law_223 : decode cL_law 223 = .ok (.iadd, 1) := by decide +kernel
theorem dL_law_224 : decode cL_law 224 = .ok (.iaload, 1) := by decide +kernel
theorem dL_law_225 : decode cL_law 225 = .ok (.invokevirtual 28, 3) := by decide +kernel
theorem dL_law_228 : decode cL_law 228 = .ok (.aload_n 2, 1) := by decide +kernel
theorem dL_law_229 : decode cL_law 229 = .ok (.aload_n 0, 1) := by decide +kernel
theorem dL_law_230 : decode cL_law 230 = .ok (.iload_n 3, 1) := by decide +kernel
theorem dL_law_231 : decode cL_law 231 = .ok (.iconst 1, 1) := by decide +kernel
theorem dL_law_232 : decode cL_law 232 = .ok (.iadd, 1) := by decide +kernel
theorem dL_law_233 : decode cL_law 233 = .ok (.iaload, 1) := by decide +kernel
theorem dL_law_234 : decode cL_law 234 = .ok (.invokevirtual 32, 3) := by decide +kernel
theorem dL_law_237 : decode cL_law 237 = .ok (.if_icmp .eq 292, 3) := by decide +kernel
theorem dL_law_240 : decode cL_law 240 = .ok (.iconst 0, 1) := by decide +kernel
theorem dL_law_241 : decode cL_law 241 = .ok (.ireturn, 1) := by decide +kernel
theorem dL_law_242 : decode cL_law 242 = .ok (.aload_n 1, 1) := by decide +kernel
theorem dL_law_243 : decode cL_law 243 = .ok (.aload_n 0, 1) := by decide +kernel
theorem dL_law_244 : decode cL_law 244 = .ok (.iload_n 3, 1) := by decide +kernel
theorem dL_law_245 : decode cL_law 245 = .ok (.iconst 1, 1) := by decide +kernel
theorem dL_law_246 : decode cL_law 246 = .ok (.iadd, 1) := by decide +kernel
theorem dL_law_247 : decode cL_law 247 = .ok (.iaload, 1) := by decide +kernel
theorem dL_law_248 : decode cL_law 248 = .ok (.aload_n 0, 1) := by decide +kernel
theorem dL_law_249 : decode cL_law 249 = .ok (.iload_n 3, 1) := by decide +kernel
theorem dL_law_250 : decode cL_law 250 = .ok (.iconst 2, 1) := by decide +kernel
theorem dL_law_251 : decode cL_law 251 = .ok (.iadd, 1) := by decide +kernel
theorem dL_law_252 : decode cL_law 252 = .ok (.iaload, 1) := by decide +kernel
theorem dL_law_253 : decode cL_law 253 = .ok (.invokevirtual 33, 3) := by decide +kernel
theorem dL_law_256 : decode cL_law 256 = .ok (.aload_n 2, 1) := by decide +kernel
theorem dL_law_257 : decode cL_law 257 = .ok (.aload_n 0, 1) := by decide +kernel
theorem dL_law_258 : decode cL_law 258 = .ok (.iload_n 3, 1) := by decide +kernel
theorem dL_law_259 : decode cL_law 259 = .ok (.iconst 1, 1) := by decide +kernel
theorem dL_law_260 : decode cL_law 260 = .ok (.iadd, 1) := by decide +kernel
theorem dL_law_261 : decode cL_law 261 = .ok (.iaload, 1) := by decide +kernel
theorem dL_law_262 : decode cL_law 262 = .ok (.aload_n 0, 1) := by decide +kernel
theorem dL_law_263 : decode cL_law 263 = .ok (.iload_n 3, 1) := by decide +kernel
theorem dL_law_264 : decode cL_law 264 = .ok (.iconst 2, 1) := by decide +kernel
theorem dL_law_265 : decode cL_law 265 = .ok (.iadd, 1) := by decide +kernel
theorem dL_law_266 : decode cL_law 266 = .ok (.iaload, 1) := by decide +kernel
theorem dL_law_267 : decode cL_law 267 = .ok (.invokevirtual 37, 3) := by decide +kernel
theorem dL_law_270 : decode cL_law 270 = .ok (.if_icmp .eq 259, 3) := by decide +kernel
theorem dL_law_273 : decode cL_law 273 = .ok (.iconst 0, 1) := by decide +kernel
theorem dL_law_274 : decode cL_law 274 = .ok (.ireturn, 1) := by decide +kernel
theorem dL_law_275 : decode cL_law 275 = .ok (.aload_n 1, 1) := by decide +kernel
theorem dL_law_276 : decode cL_law 276 = .ok (.aload_n 0, 1) := by decide +kernel
theorem dL_law_277 : decode cL_law 277 = .ok (.iload_n 3, 1) := by decide +kernel
theorem dL_law_278 : decode cL_law 278 = .ok (.iconst 1, 1) := by decide +kernel
theorem dL_law_279 : decode cL_law 279 = .ok (.iadd, 1) := by decide +kernel
theorem dL_law_280 : decode cL_law 280 = .ok (.iaload, 1) := by decide +kernel
theorem dL_law_281 : decode cL_law 281 = .ok (.aload_n 0, 1) := by decide +kernel
theorem dL_law_282 : decode cL_law 282 = .ok (.iload_n 3, 1) := by decide +kernel
theorem dL_law_283 : decode cL_law 283 = .ok (.iconst 2, 1) := by decide +kernel
theorem dL_law_284 : decode cL_law 284 = .ok (.iadd, 1) := by decide +kernel
theorem dL_law_285 : decode cL_law 285 = .ok (.iaload, 1) := by decide +kernel
theorem dL_law_286 : decode cL_law 286 = .ok (.invokevirtual 38, 3) := by decide +kernel
theorem dL_law_289 : decode cL_law 289 = .ok (.aload_n 2, 1) := by decide +kernel
theorem dL_law_290 : decode cL_law 290 = .ok (.aload_n 0, 1) := by decide +kernel
theorem dL_law_291 : decode cL_law 291 = .ok (.iload_n 3, 1) := by decide +kernel
theorem dL_law_292 : decode cL_law 292 = .ok (.iconst 1, 1) := by decide +kernel
theorem dL_law_293 : decode cL_law 293 = .ok (.iadd, 1) := by decide +kernel
theorem dL_law_294 : decode cL_law 294 = .ok (.iaload, 1) := by decide +kernel
theorem dL_law_295 : decode cL_law 295 = .ok (.aload_n 0, 1) := by decide +kernel
theorem dL_law_296 : decode cL_law 296 = .ok (.iload_n 3, 1) := by decide +kernel
theorem dL_law_297 : decode cL_law 297 = .ok (.iconst 2, 1) := by decide +kernel
theorem dL_law_298 : decode cL_law 298 = .ok (.iadd, 1) := by decide +kernel
theorem dL_law_299 : decode cL_law 299 = .ok (.iaload, 1) := by decide +kernel
theorem dL_law_300 : decode cL_law 300 = .ok (.invokevirtual 41, 3) := by decide +kernel
theorem dL_law_303 : decode cL_law 303 = .ok (.if_icmp .eq 226, 3) := by decide +kernel
theorem dL_law_306 : decode cL_law 306 = .ok (.iconst 0, 1) := by decide +kernel
theorem dL_law_307 : decode cL_law 307 = .ok (.ireturn, 1) := by decide +kernel
theorem dL_law_308 : decode cL_law 308 = .ok (.aload_n 1, 1) := by decide +kernel
theorem dL_law_309 : decode cL_law 309 = .ok (.aload_n 0, 1) := by decide +kernel
theorem dL_law_310 : decode cL_law 310 = .ok (.iload_n 3, 1) := by decide +kernel
theorem dL_law_311 : decode cL_law 311 = .ok (.iconst 1, 1) := by decide +kernel
theorem dL_law_312 : decode cL_law 312 = .ok (.iadd, 1) := by decide +kernel
theorem dL_law_313 : decode cL_law 313 = .ok (.iaload, 1) := by decide +kernel
theorem dL_law_314 : decode cL_law 314 = .ok (.invokevirtual 42, 3) := by decide +kernel
theorem dL_law_317 : decode cL_law 317 = .ok (.aload_n 2, 1) := by decide +kernel
theorem dL_law_318 : decode cL_law 318 = .ok (.aload_n 0, 1) := by decide +kernel
theorem dL_law_319 : decode cL_law 319 = .ok (.iload_n 3, 1) := by decide +kernel
theorem dL_law_320 : decode cL_law 320 = .ok (.iconst 1, 1) := by decide +kernel
theorem dL_law_321 : decode cL_law 321 = .ok (.iadd, 1) := by decide +kernel
theorem dL_law_322 : decode cL_law 322 = .ok (.iaload, 1) := by decide +kernel
theorem dL_law_323 : decode cL_law 323 = .ok (.invokevirtual 45, 3) := by decide +kernel
theorem dL_law_326 : decode cL_law 326 = .ok (.if_icmp .eq 203, 3) := by decide +kernel
theorem dL_law_329 : decode cL_law 329 = .ok (.iconst 0, 1) := by decide +kernel
theorem dL_law_330 : decode cL_law 330 = .ok (.ireturn, 1) := by decide +kernel
theorem dL_law_331 : decode cL_law 331 = .ok (.aload_n 1, 1) := by decide +kernel
theorem dL_law_332 : decode cL_law 332 = .ok (.aload_n 0, 1) := by decide +kernel
theorem dL_law_333 : decode cL_law 333 = .ok (.iload_n 3, 1) := by decide +kernel
theorem dL_law_334 : decode cL_law 334 = .ok (.iconst 1, 1) := by decide +kernel
theorem dL_law_335 : decode cL_law 335 = .ok (.iadd, 1) := by decide +kernel
theorem dL_law_336 : decode cL_law 336 = .ok (.iaload, 1) := by decide +kernel
theorem dL_law_337 : decode cL_law 337 = .ok (.invokevirtual 46, 3) := by decide +kernel
theorem dL_law_340 : decode cL_law 340 = .ok (.aload_n 2, 1) := by decide +kernel
theorem dL_law_341 : decode cL_law 341 = .ok (.aload_n 0, 1) := by decide +kernel
theorem dL_law_342 : decode cL_law 342 = .ok (.iload_n 3, 1) := by decide +kernel
theorem dL_law_343 : decode cL_law 343 = .ok (.iconst 1, 1) := by decide +kernel
theorem dL_law_344 : decode cL_law 344 = .ok (.iadd, 1) := by decide +kernel
theorem dL_law_345 : decode cL_law 345 = .ok (.iaload, 1) := by decide +kernel
theorem dL_law_346 : decode cL_law 346 = .ok (.invokevirtual 49, 3) := by decide +kernel
theorem dL_law_349 : decode cL_law 349 = .ok (.if_icmp .eq 180, 3) := by decide +kernel
theorem dL_law_352 : decode cL_law 352 = .ok (.iconst 0, 1) := by decide +kernel
theorem dL_law_353 : decode cL_law 353 = .ok (.ireturn, 1) := by decide +kernel
theorem dL_law_354 : decode cL_law 354 = .ok (.aload_n 1, 1) := by decide +kernel
theorem dL_law_355 : decode cL_law 355 = .ok (.aload_n 0, 1) := by decide +kernel
theorem dL_law_356 : decode cL_law 356 = .ok (.iload_n 3, 1) := by decide +kernel
theorem dL_law_357 : decode cL_law 357 = .ok (.iconst 1, 1) := by decide +kernel
theorem dL_law_358 : decode cL_law 358 = .ok (.iadd, 1) := by decide +kernel
theorem dL_law_359 : decode cL_law 359 = .ok (.iaload, 1) := by decide +kernel
theorem dL_law_360 : decode cL_law 360 = .ok (.aload_n 0, 1) := by decide +kernel
theorem dL_law_361 : decode cL_law 361 = .ok (.iload_n 3, 1) := by decide +kernel
theorem dL_law_362 : decode cL_law 362 = .ok (.iconst 2, 1) := by decide +kernel
theorem dL_law_363 : decode cL_law 363 = .ok (.iadd, 1) := by decide +kernel
theorem dL_law_364 : decode cL_law 364 = .ok (.iaload, 1) := by decide +kernel
theorem dL_law_365 : decode cL_law 365 = .ok (.aload_n 0, 1) := by decide +kernel
theorem dL_law_366 : decode cL_law 366 = .ok (.iload_n 3, 1) := by decide +kernel
theorem dL_law_367 : decode cL_law 367 = .ok (.iconst 3, 1) := by decide +kernel
theorem dL_law_368 : decode cL_law 368 = .ok (.iadd, 1) := by decide +kernel
theorem dL_law_369 : decode cL_law 369 = .ok (.iaload, 1) := by decide +kernel
theorem dL_law_370 : decode cL_law 370 = .ok (.invokevirtual 50, 3) := by decide +kernel
theorem dL_law_373 : decode cL_law 373 = .ok (.aload_n 2, 1) := by decide +kernel
theorem dL_law_374 : decode cL_law 374 = .ok (.aload_n 0, 1) := by decide +kernel
theorem dL_law_375 : decode cL_law 375 = .ok (.iload_n 3, 1) := by decide +kernel
theorem dL_law_376 : decode cL_law 376 = .ok (.iconst 1, 1) := by decide +kernel
theorem dL_law_377 : decode cL_law 377 = .ok (.iadd, 1) := by decide +kernel
theorem dL_law_378 : decode cL_law 378 = .ok (.iaload, 1) := by decide +kernel
theorem dL_law_379 : decode cL_law 379 = .ok (.aload_n 0, 1) := by decide +kernel
theorem dL_law_380 : decode cL_law 380 = .ok (.iload_n 3, 1) := by decide +kernel
theorem dL_law_381 : decode cL_law 381 = .ok (.iconst 2, 1) := by decide +kernel
theorem dL_law_382 : decode cL_law 382 = .ok (.iadd, 1) := by decide +kernel
theorem dL_law_383 : decode cL_law 383 = .ok (.iaload, 1) := by decide +kernel
theorem dL_law_384 : decode cL_law 384 = .ok (.aload_n 0, 1) := by decide +kernel
theorem dL_law_385 : decode cL_law 385 = .ok (.iload_n 3, 1) := by decide +kernel
theorem dL_law_386 : decode cL_law 386 = .ok (.iconst 3, 1) := by decide +kernel
theorem dL_law_387 : decode cL_law 387 = .ok (.iadd, 1) := by decide +kernel
theorem dL_law_388 : decode cL_law 388 = .ok (.iaload, 1) := by decide +kernel
theorem dL_law_389 : decode cL_law 389 = .ok (.invokevirtual 54, 3) := by decide +kernel
theorem dL_law_392 : decode cL_law 392 = .ok (.if_icmp .eq 137, 3) := by decide +kernel
theorem dL_law_395 : decode cL_law 395 = .ok (.iconst 0, 1) := by decide +kernel
theorem dL_law_396 : decode cL_law 396 = .ok (.ireturn, 1) := by decide +kernel
theorem dL_law_397 : decode cL_law 397 = .ok (.aload_n 1, 1) := by decide +kernel
theorem dL_law_398 : decode cL_law 398 = .ok (.aload_n 0, 1) := by decide +kernel
theorem dL_law_399 : decode cL_law 399 = .ok (.iload_n 3, 1) := by decide +kernel
theorem dL_law_400 : decode cL_law 400 = .ok (.iconst 1, 1) := by decide +kernel
theorem dL_law_401 : decode cL_law 401 = .ok (.iadd, 1) := by decide +kernel
end
section
set_option maxRecDepth 100000
theorem dL_law_402 : decode cL_law 402 = .ok (.iaload, 1) := by decide +kernel
theorem dL_law_403 : decode cL_law 403 = .ok (.aload_n 0, 1) := by decide +kernel
theorem dL_law_404 : decode cL_law 404 = .ok (.iload_n 3, 1) := by decide +kernel
theorem dL_law_405 : decode cL_law 405 = .ok (.iconst 2, 1) := by decide +kernel
theorem dL_law_406 : decode cL_law 406 = .ok (.iadd, 1) := by decide +kernel
theorem dL_law_407 : decode cL_law 407 = .ok (.iaload, 1) := by decide +kernel
theorem dL_law_408 : decode cL_law 408 = .ok (.invokevirtual 55, 3) := by decide +kernel
theorem dL_law_411 : decode cL_law 411 = .ok (.aload_n 2, 1) := by decide +kernel
theorem dL_law_412 : decode cL_law 412 = .ok (.aload_n 0, 1) := by decide +kernel
theorem dL_law_413 : decode cL_law 413 = .ok (.iload_n 3, 1) := by decide +kernel
theorem dL_law_414 : decode cL_law 414 = .ok (.iconst 1, 1) := by decide +kernel
theorem dL_law_415 : decode cL_law 415 = .ok (.iadd, 1) := by decide +kernel
theorem dL_law_416 : decode cL_law 416 = .ok (.iaload, 1) := by decide +kernel
theorem dL_law_417 : decode cL_law 417 = .ok (.aload_n 0, 1) := by decide +kernel
theorem dL_law_418 : decode cL_law 418 = .ok (.iload_n 3, 1) := by decide +kernel
theorem dL_law_419 : decode cL_law 419 = .ok (.iconst 2, 1) := by decide +kernel
theorem dL_law_420 : decode cL_law 420 = .ok (.iadd, 1) := by decide +kernel
theorem dL_law_421 : decode cL_law 421 = .ok (.iaload, 1) := by decide +kernel
theorem dL_law_422 : decode cL_law 422 = .ok (.invokevirtual 58, 3) := by decide +kernel
theorem dL_law_425 : decode cL_law 425 = .ok (.if_icmp .eq 104, 3) := by decide +kernel
theorem dL_law_428 : decode cL_law 428 = .ok (.iconst 0, 1) := by decide +kernel
theorem dL_law_429 : decode cL_law 429 = .ok (.ireturn, 1) := by decide +kernel
theorem dL_law_430 : decode cL_law 430 = .ok (.aload_n 1, 1) := by decide +kernel
theorem dL_law_431 : decode cL_law 431 = .ok (.aload_n 0, 1) := by decide +kernel
theorem dL_law_432 : decode cL_law 432 = .ok (.iload_n 3, 1) := by decide +kernel
theorem dL_law_433 : decode cL_law 433 = .ok (.iconst 1, 1) := by decide +kernel
theorem dL_law_434 : decode cL_law 434 = .ok (.iadd, 1) := by decide +kernel
theorem dL_law_435 : decode cL_law 435 = .ok (.iaload, 1) := by decide +kernel
theorem dL_law_436 : decode cL_law 436 = .ok (.invokevirtual 59, 3) := by decide +kernel
theorem dL_law_439 : decode cL_law 439 = .ok (.aload_n 2, 1) := by decide +kernel
theorem dL_law_440 : decode cL_law 440 = .ok (.aload_n 0, 1) := by decide +kernel
theorem dL_law_441 : decode cL_law 441 = .ok (.iload_n 3, 1) := by decide +kernel
theorem dL_law_442 : decode cL_law 442 = .ok (.iconst 1, 1) := by decide +kernel
theorem dL_law_443 : decode cL_law 443 = .ok (.iadd, 1) := by decide +kernel
theorem dL_law_444 : decode cL_law 444 = .ok (.iaload, 1) := by decide +kernel
theorem dL_law_445 : decode cL_law 445 = .ok (.invokevirtual 62, 3) := by decide +kernel
theorem dL_law_448 : decode cL_law 448 = .ok (.if_icmp .eq 81, 3) := by decide +kernel
theorem dL_law_451 : decode cL_law 451 = .ok (.iconst 0, 1) := by decide +kernel
theorem dL_law_452 : decode cL_law 452 = .ok (.ireturn, 1) := by decide +kernel
theorem dL_law_453 : decode cL_law 453 = .ok (.aload_n 1, 1) := by decide +kernel
theorem dL_law_454 : decode cL_law 454 = .ok (.aload_n 0, 1) := by decide +kernel
theorem dL_law_455 : decode cL_law 455 = .ok (.iload_n 3, 1) := by decide +kernel
theorem dL_law_456 : decode cL_law 456 = .ok (.iconst 1, 1) := by decide +kernel
theorem dL_law_457 : decode cL_law 457 = .ok (.iadd, 1) := by decide +kernel
theorem dL_law_458 : decode cL_law 458 = .ok (.iaload, 1) := by decide +kernel
theorem dL_law_459 : decode cL_law 459 = .ok (.aload_n 0, 1) := by decide +kernel
theorem dL_law_460 : decode cL_law 460 = .ok (.iload_n 3, 1) := by decide +kernel
theorem dL_law_461 : decode cL_law 461 = .ok (.iconst 2, 1) := by decide +kernel
theorem dL_law_462 : decode cL_law 462 = .ok (.iadd, 1) := by decide +kernel
theorem dL_law_463 : decode cL_law 463 = .ok (.iaload, 1) := by decide +kernel
theorem dL_law_464 : decode cL_law 464 = .ok (.aload_n 0, 1) := by decide +kernel
theorem dL_law_465 : decode cL_law 465 = .ok (.iload_n 3, 1) := by decide +kernel
theorem dL_law_466 : decode cL_law 466 = .ok (.iconst 3, 1) := by decide +kernel
theorem dL_law_467 : decode cL_law 467 = .ok (.iadd, 1) := by decide +kernel
theorem dL_law_468 : decode cL_law 468 = .ok (.iaload, 1) := by decide +kernel
theorem dL_law_469 : decode cL_law 469 = .ok (.aload_n 0, 1) := by decide +kernel
theorem dL_law_470 : decode cL_law 470 = .ok (.iload_n 3, 1) := by decide +kernel
theorem dL_law_471 : decode cL_law 471 = .ok (.iconst 4, 1) := by decide +kernel
theorem dL_law_472 : decode cL_law 472 = .ok (.iadd, 1) := by decide +kernel
theorem dL_law_473 : decode cL_law 473 = .ok (.iaload, 1) := by decide +kernel
theorem dL_law_474 : decode cL_law 474 = .ok (.invokevirtual 63, 3) := by decide +kernel
theorem dL_law_477 : decode cL_law 477 = .ok (.aload_n 2, 1) := by decide +kernel
theorem dL_law_478 : decode cL_law 478 = .ok (.aload_n 0, 1) := by decide +kernel
theorem dL_law_479 : decode cL_law 479 = .ok (.iload_n 3, 1) := by decide +kernel
theorem dL_law_480 : decode cL_law 480 = .ok (.iconst 1, 1) := by decide +kernel
theorem dL_law_481 : decode cL_law 481 = .ok (.iadd, 1) := by decide +kernel
theorem dL_law_482 : decode cL_law 482 = .ok (.iaload, 1) := by decide +kernel
theorem dL_law_483 : decode cL_law 483 = .ok (.aload_n 0, 1) := by decide +kernel
theorem dL_law_484 : decode cL_law 484 = .ok (.iload_n 3, 1) := by decide +kernel
theorem dL_law_485 : decode cL_law 485 = .ok (.iconst 2, 1) := by decide +kernel
theorem dL_law_486 : decode cL_law 486 = .ok (.iadd, 1) := by decide +kernel
theorem dL_law_487 : decode cL_law 487 = .ok (.iaload, 1) := by decide +kernel
theorem dL_law_488 : decode cL_law 488 = .ok (.aload_n 0, 1) := by decide +kernel
theorem dL_law_489 : decode cL_law 489 = .ok (.iload_n 3, 1) := by decide +kernel
theorem dL_law_490 : decode cL_law 490 = .ok (.iconst 3, 1) := by decide +kernel
theorem dL_law_491 : decode cL_law 491 = .ok (.iadd, 1) := by decide +kernel
theorem dL_law_492 : decode cL_law 492 = .ok (.iaload, 1) := by decide +kernel
theorem dL_law_493 : decode cL_law 493 = .ok (.aload_n 0, 1) := by decide +kernel
theorem dL_law_494 : decode cL_law 494 = .ok (.iload_n 3, 1) := by decide +kernel
theorem dL_law_495 : decode cL_law 495 = .ok (.iconst 4, 1) := by decide +kernel
theorem dL_law_496 : decode cL_law 496 = .ok (.iadd, 1) := by decide +kernel
theorem dL_law_497 : decode cL_law 497 = .ok (.iaload, 1) := by decide +kernel
theorem dL_law_498 : decode cL_law 498 = .ok (.invokevirtual 66, 3) := by decide +kernel
theorem dL_law_501 : decode cL_law 501 = .ok (.if_icmp .eq 28, 3) := by decide +kernel
theorem dL_law_504 : decode cL_law 504 = .ok (.iconst 0, 1) := by decide +kernel
theorem dL_law_505 : decode cL_law 505 = .ok (.ireturn, 1) := by decide +kernel
theorem dL_law_506 : decode cL_law 506 = .ok (.aload_n 1, 1) := by decide +kernel
theorem dL_law_507 : decode cL_law 507 = .ok (.aload_n 0, 1) := by decide +kernel
theorem dL_law_508 : decode cL_law 508 = .ok (.iload_n 3, 1) := by decide +kernel
theorem dL_law_509 : decode cL_law 509 = .ok (.iconst 1, 1) := by decide +kernel
theorem dL_law_510 : decode cL_law 510 = .ok (.iadd, 1) := by decide +kernel
theorem dL_law_511 : decode cL_law 511 = .ok (.iaload, 1) := by decide +kernel
theorem dL_law_512 : decode cL_law 512 = .ok (.invokevirtual 67, 3) := by decide +kernel
theorem dL_law_515 : decode cL_law 515 = .ok (.aload_n 2, 1) := by decide +kernel
theorem dL_law_516 : decode cL_law 516 = .ok (.aload_n 0, 1) := by decide +kernel
theorem dL_law_517 : decode cL_law 517 = .ok (.iload_n 3, 1) := by decide +kernel
theorem dL_law_518 : decode cL_law 518 = .ok (.iconst 1, 1) := by decide +kernel
theorem dL_law_519 : decode cL_law 519 = .ok (.iadd, 1) := by decide +kernel
theorem dL_law_520 : decode cL_law 520 = .ok (.iaload, 1) := by decide +kernel
theorem dL_law_521 : decode cL_law 521 = .ok (.invokevirtual 70, 3) := by decide +kernel
theorem dL_law_524 : decode cL_law 524 = .ok (.if_icmp .eq 5, 3) := by decide +kernel
theorem dL_law_527 : decode cL_law 527 = .ok (.iconst 0, 1) := by decide +kernel
theorem dL_law_528 : decode cL_law 528 = .ok (.ireturn, 1) := by decide +kernel
theorem dL_law_529 : decode cL_law 529 = .ok (.iinc 3 5, 3) := by decide +kernel
theorem dL_law_532 : decode cL_law 532 = .ok (.goto (-514), 3) := by decide +kernel
theorem dL_law_535 : decode cL_law 535 = .ok (.iconst 1, 1) := by decide +kernel
theorem dL_law_536 : decode cL_law 536 = .ok (.ireturn, 1) := by decide +kernel
end
section
/-! THE LAYER: a walk's state as plain data. xW l R D nL K ws lv pc st: with the cells ws, the locals lv, the stack st, the machine at pc comes to a state with K's Q. -/
abbrev vwCl : List vw_C := [(RX0, TX0, 11), (RX1, TX1, 5)]
def xlv : Nat → List (Option Value) → List (Nat × Value)
  | _, [] => []
  | k, none :: r => xlv (k + 1) r
  | k, some v :: r => (k, v) :: xlv (k + 1) r
theorem xlv_mem : ∀ (lv : List (Option Value)) (k i : Nat) (v : Value), (i, v) ∈ xlv k lv ↔ k ≤ i ∧ lv[i - k]? = some (some v)
  | [], k, i, v => by simp [xlv]
  | none :: r, k, i, v => by
    rw [xlv, xlv_mem r (k + 1) i v]
    constructor
    · rintro ⟨h1, h2⟩
      refine ⟨by omega, ?_⟩
      have : i - k = (i - (k + 1)) + 1 := by omega
      rw [this, List.getElem?_cons_succ]; exact h2
    · rintro ⟨h1, h2⟩
      by_cases h : i = k
      · subst h; rw [Nat.sub_self, List.getElem?_cons_zero] at h2; cases h2
      · have : i - k = (i - (k + 1)) + 1 := by omega
        rw [this, List.getElem?_cons_succ] at h2
        exact ⟨by omega, h2⟩
  | some w :: r, k, i, v => by
    rw [xlv, List.mem_cons, xlv_mem r (k + 1) i v]
    constructor
    · rintro (h | ⟨h1, h2⟩)
      · cases h; exact ⟨Nat.le_refl _, by rw [Nat.sub_self]; rfl⟩
      · refine ⟨by omega, ?_⟩
        have : i - k = (i - (k + 1)) + 1 := by omega
        rw [this, List.getElem?_cons_succ]; exact h2
    · rintro ⟨h1, h2⟩
      by_cases h : i = k
      · subst h; rw [Nat.sub_self, List.getElem?_cons_zero] at h2; cases h2; exact Or.inl rfl
      · have : i - k = (i - (k + 1)) + 1 := by omega
        rw [this, List.getElem?_cons_succ] at h2
        exact Or.inr ⟨by omega, h2⟩
def xL (ls : Array Slot) (nL : Nat) (lv : List (Option Value)) : Prop := lv_has ls nL (xlv 0 lv) ∧ ∀ v, some v ∈ lv → v.category = 1
theorem xL_at {ls : Array Slot} {nL : Nat} {lv : List (Option Value)} (h : xL ls nL lv) {i : Nat} {v : Value} (hk : lv[i]? = some (some v)) : ls[i]? = some (.val v) := h.1.2.2 (i, v) ((xlv_mem lv 0 i v).2 ⟨Nat.zero_le _, hk⟩)
theorem xL_mem {ls : Array Slot} {nL : Nat} {lv : List (Option Value)} (h : xL ls nL lv) {i : Nat} {v : Value} (hk : lv[i]? = some (some v)) : v.category = 1 := h.2 v (List.mem_of_getElem? hk)
theorem xL_store {ls ls' : Array Slot} {nL : Nat} {lv : List (Option Value)} {i : Nat} {v : Value} (h : xL ls nL lv) (hc : v.category = 1) (h' : lv_has ls' nL ((i, v) :: (xlv 0 lv).filter (fun q => !(q.1 == i) && !(q.1 + 1 == i && q.2.category == 2)))) : xL ls' nL (lv.set i (some v)) := by
  refine ⟨⟨h'.1, h'.2.1, ?_⟩, ?_⟩
  · rintro ⟨j, w⟩ hq
    have hj := ((xlv_mem _ 0 j w).1 hq).2
    rw [Nat.sub_zero] at hj
    apply h'.2.2
    by_cases hji : j = i
    · subst hji
      have hlt : j < (lv.set j (some v)).length := (List.getElem?_eq_some_iff.mp hj).1
      rw [List.length_set] at hlt
      rw [List.getElem?_set_self hlt] at hj
      cases hj
      exact List.mem_cons_self
    · rw [List.getElem?_set_ne (Ne.symm hji)] at hj
      refine List.mem_cons_of_mem _ (List.mem_filter.mpr ⟨(xlv_mem lv 0 j w).2 ⟨Nat.zero_le _, hj⟩, ?_⟩)
      have hw : w.category = 1 := xL_mem h hj
      simp [hji, hw]
  · intro w hw
    rcases List.mem_or_eq_of_mem_set hw with q | q
    · exact h.2 w q
    · cases q; exact hc
abbrev xK : Type := Program × Env × State × MethodId × Array Value × List Frame × Method × Code × (State → Prop) × (Nat → Prop) × Nat × Nat
def xW (l : Launch) (R : Room) (D : va_G) (nL : Nat) (K : xK) (ws : va_W) (lv : List (Option Value)) (pc : Nat) (st : List Value) : Prop := match K with
  | (p, e, s, m, args, below, meth, c, Q, A, cells, slots) => ∀ (H : Heap) (locs : List Loc) (ls : Array Slot), va_P D vwCl ws H → va_D A ws → va_S A s.heap H locs → xL ls nL lv → W p l e R s m args below meth c H locs cells slots Q (F0 m pc ls st)
def xOk (R : Room) (D : va_G) (tys : List (ClassId × FieldType)) (nL : Nat) (K : xK) (cc : ByteArray) (own : String) : Prop := match K with
  | (p, _, s, m, args, _, meth, c, _, A, cells, slots) => p.tables.exec = Jvm.exec ∧ c.code = cc ∧ c.maxLocals = nL ∧ s.vm.findClass own = some m.cls ∧ (∀ w ∈ lw_all, w.before args s = true) ∧ va_K D vwCl tys s ∧ (∀ q, s.heap.size ≤ q → A q) ∧ meth.locks = false ∧ cells ≤ R.cells ∧ slots ≤ R.slots

section XR
variable {l : Launch} {R : Room} {D : va_G} {tys : List (ClassId × FieldType)} {nL : Nat} {K : xK} {cc : ByteArray} {own : String} {ws : va_W} {lv : List (Option Value)} {pc : Nat} {st : List Value}

theorem xr_iconst (C : xOk R D tys nL K cc own) {n : Int} {v : Int32} (hd : decode cc pc = .ok (.iconst n, 1)) (hv : Int32.ofInt n = v) (k : xW l R D nL K ws lv (pc + 1) (.int v :: st)) : xW l R D nL K ws lv pc st := by
  obtain ⟨p, e, s, m, args, below, meth, c, Q, A, cells, slots⟩ := K
  obtain ⟨hx, hb, hml, hown, hts, hK, hA, hlk, hcs⟩ := C
  intro H locs ls hP hD hS hl
  exact lv_iconst hx hb hd hv (k H locs ls hP hD hS hl)
theorem xr_bipush (C : xOk R D tys nL K cc own) {n : Int} {v : Int32} (hd : decode cc pc = .ok (.bipush n, 2)) (hv : (Int8.ofInt n).toInt32 = v) (k : xW l R D nL K ws lv (pc + 2) (.int v :: st)) : xW l R D nL K ws lv pc st := by
  obtain ⟨p, e, s, m, args, below, meth, c, Q, A, cells, slots⟩ := K
  obtain ⟨hx, hb, hml, hown, hts, hK, hA, hlk, hcs⟩ := C
  intro H locs ls hP hD hS hl
  exact lv_bipush hx hb hd hv (k H locs ls hP hD hS hl)
theorem xr_sipush (C : xOk R D tys nL K cc own) {n : Int} {v : Int32} (hd : decode cc pc = .ok (.sipush n, 3)) (hv : (Int16.ofInt n).toInt32 = v) (k : xW l R D nL K ws lv (pc + 3) (.int v :: st)) : xW l R D nL K ws lv pc st := by
  obtain ⟨p, e, s, m, args, below, meth, c, Q, A, cells, slots⟩ := K
  obtain ⟨hx, hb, hml, hown, hts, hK, hA, hlk, hcs⟩ := C
  intro H locs ls hP hD hS hl
  exact lv_sipush hx hb hd hv (k H locs ls hP hD hS hl)
theorem xr_ldc (C : xOk R D tys nL K cc own) {index : Nat} {v : Int32} (hc : Cond.constant own index v ∈ lw_all) (hd : decode cc pc = .ok (.ldc index, 2)) (k : xW l R D nL K ws lv (pc + 2) (.int v :: st)) : xW l R D nL K ws lv pc st := by
  obtain ⟨p, e, s, m, args, below, meth, c, Q, A, cells, slots⟩ := K
  obtain ⟨hx, hb, hml, hown, hts, hK, hA, hlk, hcs⟩ := C
  intro H locs ls hP hD hS hl
  exact lv_ldc hx hb hown (hts _ hc) hd (k H locs ls hP hD hS hl)
theorem xr_iload_n (C : xOk R D tys nL K cc own) {j : Fin 4} {x : Int32} (hd : decode cc pc = .ok (.iload_n j, 1)) (hj : lv[(j : Nat)]? = some (some (.int x))) (k : xW l R D nL K ws lv (pc + 1) (.int x :: st)) : xW l R D nL K ws lv pc st := by
  obtain ⟨p, e, s, m, args, below, meth, c, Q, A, cells, slots⟩ := K
  obtain ⟨hx, hb, hml, hown, hts, hK, hA, hlk, hcs⟩ := C
  intro H locs ls hP hD hS hl
  exact lv_iload_n hx hb hd rfl (xL_at hl hj) (k H locs ls hP hD hS hl)
theorem xr_iload (C : xOk R D tys nL K cc own) {j : Nat} {x : Int32} (hd : decode cc pc = .ok (.iload j, 2)) (hj : lv[j]? = some (some (.int x))) (k : xW l R D nL K ws lv (pc + 2) (.int x :: st)) : xW l R D nL K ws lv pc st := by
  obtain ⟨p, e, s, m, args, below, meth, c, Q, A, cells, slots⟩ := K
  obtain ⟨hx, hb, hml, hown, hts, hK, hA, hlk, hcs⟩ := C
  intro H locs ls hP hD hS hl
  exact lv_iload hx hb hd (xL_at hl hj) (k H locs ls hP hD hS hl)
theorem xr_aload_n (C : xOk R D tys nL K cc own) {j : Fin 4} {x : Nat} (hd : decode cc pc = .ok (.aload_n j, 1)) (hj : lv[(j : Nat)]? = some (some (.ref x))) (k : xW l R D nL K ws lv (pc + 1) (.ref x :: st)) : xW l R D nL K ws lv pc st := by
  obtain ⟨p, e, s, m, args, below, meth, c, Q, A, cells, slots⟩ := K
  obtain ⟨hx, hb, hml, hown, hts, hK, hA, hlk, hcs⟩ := C
  intro H locs ls hP hD hS hl
  exact lv_aload_n hx hb hd rfl (xL_at hl hj) (k H locs ls hP hD hS hl)
theorem xr_aload (C : xOk R D tys nL K cc own) {j : Nat} {x : Nat} (hd : decode cc pc = .ok (.aload j, 2)) (hj : lv[j]? = some (some (.ref x))) (k : xW l R D nL K ws lv (pc + 2) (.ref x :: st)) : xW l R D nL K ws lv pc st := by
  obtain ⟨p, e, s, m, args, below, meth, c, Q, A, cells, slots⟩ := K
  obtain ⟨hx, hb, hml, hown, hts, hK, hA, hlk, hcs⟩ := C
  intro H locs ls hP hD hS hl
  exact lv_aload hx hb hd (xL_at hl hj) (k H locs ls hP hD hS hl)
theorem xr_istore_n (C : xOk R D tys nL K cc own) {j : Fin 4} {x : Int32} (hd : decode cc pc = .ok (.istore_n j, 1)) (hn : (j : Nat) < nL) {lv' : List (Option Value)} (hl' : lv.set (j : Nat) (some (.int x)) = lv') (k : xW l R D nL K ws lv' (pc + 1) st) : xW l R D nL K ws lv pc (.int x :: st) := by
  obtain ⟨p, e, s, m, args, below, meth, c, Q, A, cells, slots⟩ := K
  obtain ⟨hx, hb, hml, hown, hts, hK, hA, hlk, hcs⟩ := C
  intro H locs ls hP hD hS hl
  exact lv_istore_n hx hb hd rfl hl.1 hn rfl (fun ls' hl2 => k H locs ls' hP hD hS (hl' ▸ xL_store hl rfl hl2))
theorem xr_istore (C : xOk R D tys nL K cc own) {j : Nat} {x : Int32} (hd : decode cc pc = .ok (.istore j, 2)) (hn : j < nL) {lv' : List (Option Value)} (hl' : lv.set j (some (.int x)) = lv') (k : xW l R D nL K ws lv' (pc + 2) st) : xW l R D nL K ws lv pc (.int x :: st) := by
  obtain ⟨p, e, s, m, args, below, meth, c, Q, A, cells, slots⟩ := K
  obtain ⟨hx, hb, hml, hown, hts, hK, hA, hlk, hcs⟩ := C
  intro H locs ls hP hD hS hl
  exact lv_istore hx hb hd hl.1 hn rfl (fun ls' hl2 => k H locs ls' hP hD hS (hl' ▸ xL_store hl rfl hl2))
theorem xr_astore_n (C : xOk R D tys nL K cc own) {j : Fin 4} {x : Nat} (hd : decode cc pc = .ok (.astore_n j, 1)) (hn : (j : Nat) < nL) {lv' : List (Option Value)} (hl' : lv.set (j : Nat) (some (.ref x)) = lv') (k : xW l R D nL K ws lv' (pc + 1) st) : xW l R D nL K ws lv pc (.ref x :: st) := by
  obtain ⟨p, e, s, m, args, below, meth, c, Q, A, cells, slots⟩ := K
  obtain ⟨hx, hb, hml, hown, hts, hK, hA, hlk, hcs⟩ := C
  intro H locs ls hP hD hS hl
  exact lv_astore_n hx hb hd rfl hl.1 hn rfl (fun ls' hl2 => k H locs ls' hP hD hS (hl' ▸ xL_store hl rfl hl2))
theorem xr_astore (C : xOk R D tys nL K cc own) {j : Nat} {x : Nat} (hd : decode cc pc = .ok (.astore j, 2)) (hn : j < nL) {lv' : List (Option Value)} (hl' : lv.set j (some (.ref x)) = lv') (k : xW l R D nL K ws lv' (pc + 2) st) : xW l R D nL K ws lv pc (.ref x :: st) := by
  obtain ⟨p, e, s, m, args, below, meth, c, Q, A, cells, slots⟩ := K
  obtain ⟨hx, hb, hml, hown, hts, hK, hA, hlk, hcs⟩ := C
  intro H locs ls hP hD hS hl
  exact lv_astore hx hb hd hl.1 hn rfl (fun ls' hl2 => k H locs ls' hP hD hS (hl' ▸ xL_store hl rfl hl2))
theorem xlv_pos {lv : List (Option Value)} {j : Nat} {v : Value} (h : lv[j]? = some (some v)) : ∃ q : Nat, (xlv 0 lv)[q]? = some (j, v) := by
  have h1 : (j, v) ∈ xlv 0 lv := (xlv_mem lv 0 j v).2 ⟨Nat.zero_le _, h⟩
  exact List.getElem?_of_mem h1
theorem xr_iinc (C : xOk R D tys nL K cc own) {j : Nat} {n : Int} {x v : Int32} (hd : decode cc pc = .ok (.iinc j n, 3)) (hj : lv[j]? = some (some (.int x))) (hv : x + Int32.ofInt n = v) (hn : j < nL) {lv' : List (Option Value)} (hl' : lv.set j (some (.int v)) = lv') (k : xW l R D nL K ws lv' (pc + 3) st) : xW l R D nL K ws lv pc st := by
  obtain ⟨p, e, s, m, args, below, meth, c, Q, A, cells, slots⟩ := K
  obtain ⟨hx, hb, hml, hown, hts, hK, hA, hlk, hcs⟩ := C
  intro H locs ls hP hD hS hl
  obtain ⟨q, hq⟩ := xlv_pos hj
  exact lv_iinc hx hb hd hl.1 hq hv hn rfl (fun ls' hl2 => k H locs ls' hP hD hS (hl' ▸ xL_store hl rfl hl2))
theorem xr_iadd (C : xOk R D tys nL K cc own) {x y : Int32} (hd : decode cc pc = .ok (.iadd, 1)) (k : xW l R D nL K ws lv (pc + 1) (.int (x + y) :: st)) : xW l R D nL K ws lv pc (.int y :: .int x :: st) := by
  obtain ⟨p, e, s, m, args, below, meth, c, Q, A, cells, slots⟩ := K
  obtain ⟨hx, hb, hml, hown, hts, hK, hA, hlk, hcs⟩ := C
  intro H locs ls hP hD hS hl
  exact lv_iadd hx hb hd (k H locs ls hP hD hS hl)
theorem xr_isub (C : xOk R D tys nL K cc own) {x y : Int32} (hd : decode cc pc = .ok (.isub, 1)) (k : xW l R D nL K ws lv (pc + 1) (.int (x - y) :: st)) : xW l R D nL K ws lv pc (.int y :: .int x :: st) := by
  obtain ⟨p, e, s, m, args, below, meth, c, Q, A, cells, slots⟩ := K
  obtain ⟨hx, hb, hml, hown, hts, hK, hA, hlk, hcs⟩ := C
  intro H locs ls hP hD hS hl
  exact lv_isub hx hb hd (k H locs ls hP hD hS hl)
theorem xr_imul (C : xOk R D tys nL K cc own) {x y : Int32} (hd : decode cc pc = .ok (.imul, 1)) (k : xW l R D nL K ws lv (pc + 1) (.int (x * y) :: st)) : xW l R D nL K ws lv pc (.int y :: .int x :: st) := by
  obtain ⟨p, e, s, m, args, below, meth, c, Q, A, cells, slots⟩ := K
  obtain ⟨hx, hb, hml, hown, hts, hK, hA, hlk, hcs⟩ := C
  intro H locs ls hP hD hS hl
  exact lv_imul hx hb hd (k H locs ls hP hD hS hl)
theorem xr_iand (C : xOk R D tys nL K cc own) {x y : Int32} (hd : decode cc pc = .ok (.iand, 1)) (k : xW l R D nL K ws lv (pc + 1) (.int (x &&& y) :: st)) : xW l R D nL K ws lv pc (.int y :: .int x :: st) := by
  obtain ⟨p, e, s, m, args, below, meth, c, Q, A, cells, slots⟩ := K
  obtain ⟨hx, hb, hml, hown, hts, hK, hA, hlk, hcs⟩ := C
  intro H locs ls hP hD hS hl
  exact lv_iand hx hb hd (k H locs ls hP hD hS hl)
theorem xr_ior (C : xOk R D tys nL K cc own) {x y : Int32} (hd : decode cc pc = .ok (.ior, 1)) (k : xW l R D nL K ws lv (pc + 1) (.int (x ||| y) :: st)) : xW l R D nL K ws lv pc (.int y :: .int x :: st) := by
  obtain ⟨p, e, s, m, args, below, meth, c, Q, A, cells, slots⟩ := K
  obtain ⟨hx, hb, hml, hown, hts, hK, hA, hlk, hcs⟩ := C
  intro H locs ls hP hD hS hl
  exact lv_ior hx hb hd (k H locs ls hP hD hS hl)
theorem xr_ixor (C : xOk R D tys nL K cc own) {x y : Int32} (hd : decode cc pc = .ok (.ixor, 1)) (k : xW l R D nL K ws lv (pc + 1) (.int (x ^^^ y) :: st)) : xW l R D nL K ws lv pc (.int y :: .int x :: st) := by
  obtain ⟨p, e, s, m, args, below, meth, c, Q, A, cells, slots⟩ := K
  obtain ⟨hx, hb, hml, hown, hts, hK, hA, hlk, hcs⟩ := C
  intro H locs ls hP hD hS hl
  exact lv_ixor hx hb hd (k H locs ls hP hD hS hl)
theorem xr_idiv (C : xOk R D tys nL K cc own) {x y : Int32} (hd : decode cc pc = .ok (.idiv, 1)) (hne : ¬ y = 0) (k : xW l R D nL K ws lv (pc + 1) (.int (x / y) :: st)) : xW l R D nL K ws lv pc (.int y :: .int x :: st) := by
  obtain ⟨p, e, s, m, args, below, meth, c, Q, A, cells, slots⟩ := K
  obtain ⟨hx, hb, hml, hown, hts, hK, hA, hlk, hcs⟩ := C
  intro H locs ls hP hD hS hl
  exact lv_idiv hx hb hd hne (k H locs ls hP hD hS hl)
theorem xr_irem (C : xOk R D tys nL K cc own) {x y : Int32} (hd : decode cc pc = .ok (.irem, 1)) (hne : ¬ y = 0) (k : xW l R D nL K ws lv (pc + 1) (.int (x - x / y * y) :: st)) : xW l R D nL K ws lv pc (.int y :: .int x :: st) := by
  obtain ⟨p, e, s, m, args, below, meth, c, Q, A, cells, slots⟩ := K
  obtain ⟨hx, hb, hml, hown, hts, hK, hA, hlk, hcs⟩ := C
  intro H locs ls hP hD hS hl
  exact lv_irem hx hb hd hne (k H locs ls hP hD hS hl)
theorem xr_ishl (C : xOk R D tys nL K cc own) {x y : Int32} (hd : decode cc pc = .ok (.ishl, 1)) (k : xW l R D nL K ws lv (pc + 1) (.int (x <<< (y &&& 31)) :: st)) : xW l R D nL K ws lv pc (.int y :: .int x :: st) := by
  obtain ⟨p, e, s, m, args, below, meth, c, Q, A, cells, slots⟩ := K
  obtain ⟨hx, hb, hml, hown, hts, hK, hA, hlk, hcs⟩ := C
  intro H locs ls hP hD hS hl
  exact lv_ishl hx hb hd (k H locs ls hP hD hS hl)
theorem xr_ishr (C : xOk R D tys nL K cc own) {x y : Int32} (hd : decode cc pc = .ok (.ishr, 1)) (k : xW l R D nL K ws lv (pc + 1) (.int (x >>> (y &&& 31)) :: st)) : xW l R D nL K ws lv pc (.int y :: .int x :: st) := by
  obtain ⟨p, e, s, m, args, below, meth, c, Q, A, cells, slots⟩ := K
  obtain ⟨hx, hb, hml, hown, hts, hK, hA, hlk, hcs⟩ := C
  intro H locs ls hP hD hS hl
  exact lv_ishr hx hb hd (k H locs ls hP hD hS hl)
theorem xr_i2b (C : xOk R D tys nL K cc own) {x v : Int32} (hd : decode cc pc = .ok (.i2b, 1)) (hv : x.toInt8.toInt32 = v) (k : xW l R D nL K ws lv (pc + 1) (.int v :: st)) : xW l R D nL K ws lv pc (.int x :: st) := by
  obtain ⟨p, e, s, m, args, below, meth, c, Q, A, cells, slots⟩ := K
  obtain ⟨hx, hb, hml, hown, hts, hK, hA, hlk, hcs⟩ := C
  intro H locs ls hP hD hS hl
  exact lv_i2b hx hb hd hv (k H locs ls hP hD hS hl)
theorem xr_i2s (C : xOk R D tys nL K cc own) {x v : Int32} (hd : decode cc pc = .ok (.i2s, 1)) (hv : x.toInt16.toInt32 = v) (k : xW l R D nL K ws lv (pc + 1) (.int v :: st)) : xW l R D nL K ws lv pc (.int x :: st) := by
  obtain ⟨p, e, s, m, args, below, meth, c, Q, A, cells, slots⟩ := K
  obtain ⟨hx, hb, hml, hown, hts, hK, hA, hlk, hcs⟩ := C
  intro H locs ls hP hD hS hl
  exact lv_i2s hx hb hd hv (k H locs ls hP hD hS hl)
theorem xr_dup (C : xOk R D tys nL K cc own) {va : Value} (hd : decode cc pc = .ok (.dup, 1)) (hv : va.category = 1) (k : xW l R D nL K ws lv (pc + 1) (va :: va :: st)) : xW l R D nL K ws lv pc (va :: st) := by
  obtain ⟨p, e, s, m, args, below, meth, c, Q, A, cells, slots⟩ := K
  obtain ⟨hx, hb, hml, hown, hts, hK, hA, hlk, hcs⟩ := C
  intro H locs ls hP hD hS hl
  exact lv_dup hx hb hd hv (k H locs ls hP hD hS hl)
theorem xr_dup2 (C : xOk R D tys nL K cc own) {va vb : Value} (hd : decode cc pc = .ok (.dup2, 1)) (hv : va.category = 1) (hv2 : vb.category = 1) (k : xW l R D nL K ws lv (pc + 1) (va :: vb :: va :: vb :: st)) : xW l R D nL K ws lv pc (va :: vb :: st) := by
  obtain ⟨p, e, s, m, args, below, meth, c, Q, A, cells, slots⟩ := K
  obtain ⟨hx, hb, hml, hown, hts, hK, hA, hlk, hcs⟩ := C
  intro H locs ls hP hD hS hl
  exact lv_dup2_11 hx hb hd hv hv2 (k H locs ls hP hD hS hl)
/-- the top of the stack by another word for the same number -/
theorem xr_top {x y : Int32} (h : x = y) (k : xW l R D nL K ws lv pc (.int y :: st)) : xW l R D nL K ws lv pc (.int x :: st) := h ▸ k
theorem xr_goto (C : xOk R D tys nL K cc own) {off : Int} {tgt : Nat} (hd : decode cc pc = .ok (.goto off, 3)) (ht : (pc : Int) + off = (tgt : Int)) (k : xW l R D nL K ws lv tgt st) : xW l R D nL K ws lv pc st := by
  obtain ⟨p, e, s, m, args, below, meth, c, Q, A, cells, slots⟩ := K
  obtain ⟨hx, hb, hml, hown, hts, hK, hA, hlk, hcs⟩ := C
  intro H locs ls hP hD hS hl
  exact lv_goto hx hb hd ht (k H locs ls hP hD hS hl)
theorem xr_icmp_eq (C : xOk R D tys nL K cc own) {x y : Int32} {off : Int} {tgt : Nat} (hd : decode cc pc = .ok (.if_icmp .eq off, 3)) (ht : (pc : Int) + off = (tgt : Int)) (kt : x = y → xW l R D nL K ws lv tgt st) (kf : ¬ x = y → xW l R D nL K ws lv (pc + 3) st) : xW l R D nL K ws lv pc (.int y :: .int x :: st) := by
  obtain ⟨p, e, s, m, args, below, meth, c, Q, A, cells, slots⟩ := K
  obtain ⟨hx, hb, hml, hown, hts, hK, hA, hlk, hcs⟩ := C
  intro H locs ls hP hD hS hl
  exact lv_icmp_eq hx hb hd ht (fun h => kt h H locs ls hP hD hS hl) (fun h => kf h H locs ls hP hD hS hl)
theorem xr_if_eq (C : xOk R D tys nL K cc own) {x : Int32} {off : Int} {tgt : Nat} (hd : decode cc pc = .ok (.ifCond .eq off, 3)) (ht : (pc : Int) + off = (tgt : Int)) (kt : x = 0 → xW l R D nL K ws lv tgt st) (kf : ¬ x = 0 → xW l R D nL K ws lv (pc + 3) st) : xW l R D nL K ws lv pc (.int x :: st) := by
  obtain ⟨p, e, s, m, args, below, meth, c, Q, A, cells, slots⟩ := K
  obtain ⟨hx, hb, hml, hown, hts, hK, hA, hlk, hcs⟩ := C
  intro H locs ls hP hD hS hl
  exact lv_if_eq hx hb hd ht (fun h => kt h H locs ls hP hD hS hl) (fun h => kf h H locs ls hP hD hS hl)
theorem xr_icmp_ne (C : xOk R D tys nL K cc own) {x y : Int32} {off : Int} {tgt : Nat} (hd : decode cc pc = .ok (.if_icmp .ne off, 3)) (ht : (pc : Int) + off = (tgt : Int)) (kt : ¬ x = y → xW l R D nL K ws lv tgt st) (kf : x = y → xW l R D nL K ws lv (pc + 3) st) : xW l R D nL K ws lv pc (.int y :: .int x :: st) := by
  obtain ⟨p, e, s, m, args, below, meth, c, Q, A, cells, slots⟩ := K
  obtain ⟨hx, hb, hml, hown, hts, hK, hA, hlk, hcs⟩ := C
  intro H locs ls hP hD hS hl
  exact lv_icmp_ne hx hb hd ht (fun h => kt h H locs ls hP hD hS hl) (fun h => kf h H locs ls hP hD hS hl)
theorem xr_if_ne (C : xOk R D tys nL K cc own) {x : Int32} {off : Int} {tgt : Nat} (hd : decode cc pc = .ok (.ifCond .ne off, 3)) (ht : (pc : Int) + off = (tgt : Int)) (kt : ¬ x = 0 → xW l R D nL K ws lv tgt st) (kf : x = 0 → xW l R D nL K ws lv (pc + 3) st) : xW l R D nL K ws lv pc (.int x :: st) := by
  obtain ⟨p, e, s, m, args, below, meth, c, Q, A, cells, slots⟩ := K
  obtain ⟨hx, hb, hml, hown, hts, hK, hA, hlk, hcs⟩ := C
  intro H locs ls hP hD hS hl
  exact lv_if_ne hx hb hd ht (fun h => kt h H locs ls hP hD hS hl) (fun h => kf h H locs ls hP hD hS hl)
theorem xr_icmp_lt (C : xOk R D tys nL K cc own) {x y : Int32} {off : Int} {tgt : Nat} (hd : decode cc pc = .ok (.if_icmp .lt off, 3)) (ht : (pc : Int) + off = (tgt : Int)) (kt : x < y → xW l R D nL K ws lv tgt st) (kf : ¬ x < y → xW l R D nL K ws lv (pc + 3) st) : xW l R D nL K ws lv pc (.int y :: .int x :: st) := by
  obtain ⟨p, e, s, m, args, below, meth, c, Q, A, cells, slots⟩ := K
  obtain ⟨hx, hb, hml, hown, hts, hK, hA, hlk, hcs⟩ := C
  intro H locs ls hP hD hS hl
  exact lv_icmp_lt hx hb hd ht (fun h => kt h H locs ls hP hD hS hl) (fun h => kf h H locs ls hP hD hS hl)
theorem xr_if_lt (C : xOk R D tys nL K cc own) {x : Int32} {off : Int} {tgt : Nat} (hd : decode cc pc = .ok (.ifCond .lt off, 3)) (ht : (pc : Int) + off = (tgt : Int)) (kt : x < 0 → xW l R D nL K ws lv tgt st) (kf : ¬ x < 0 → xW l R D nL K ws lv (pc + 3) st) : xW l R D nL K ws lv pc (.int x :: st) := by
  obtain ⟨p, e, s, m, args, below, meth, c, Q, A, cells, slots⟩ := K
  obtain ⟨hx, hb, hml, hown, hts, hK, hA, hlk, hcs⟩ := C
  intro H locs ls hP hD hS hl
  exact lv_if_lt hx hb hd ht (fun h => kt h H locs ls hP hD hS hl) (fun h => kf h H locs ls hP hD hS hl)
theorem xr_icmp_ge (C : xOk R D tys nL K cc own) {x y : Int32} {off : Int} {tgt : Nat} (hd : decode cc pc = .ok (.if_icmp .ge off, 3)) (ht : (pc : Int) + off = (tgt : Int)) (kt : y ≤ x → xW l R D nL K ws lv tgt st) (kf : ¬ y ≤ x → xW l R D nL K ws lv (pc + 3) st) : xW l R D nL K ws lv pc (.int y :: .int x :: st) := by
  obtain ⟨p, e, s, m, args, below, meth, c, Q, A, cells, slots⟩ := K
  obtain ⟨hx, hb, hml, hown, hts, hK, hA, hlk, hcs⟩ := C
  intro H locs ls hP hD hS hl
  exact lv_icmp_ge hx hb hd ht (fun h => kt h H locs ls hP hD hS hl) (fun h => kf h H locs ls hP hD hS hl)
theorem xr_if_ge (C : xOk R D tys nL K cc own) {x : Int32} {off : Int} {tgt : Nat} (hd : decode cc pc = .ok (.ifCond .ge off, 3)) (ht : (pc : Int) + off = (tgt : Int)) (kt : 0 ≤ x → xW l R D nL K ws lv tgt st) (kf : ¬ 0 ≤ x → xW l R D nL K ws lv (pc + 3) st) : xW l R D nL K ws lv pc (.int x :: st) := by
  obtain ⟨p, e, s, m, args, below, meth, c, Q, A, cells, slots⟩ := K
  obtain ⟨hx, hb, hml, hown, hts, hK, hA, hlk, hcs⟩ := C
  intro H locs ls hP hD hS hl
  exact lv_if_ge hx hb hd ht (fun h => kt h H locs ls hP hD hS hl) (fun h => kf h H locs ls hP hD hS hl)
theorem xr_icmp_gt (C : xOk R D tys nL K cc own) {x y : Int32} {off : Int} {tgt : Nat} (hd : decode cc pc = .ok (.if_icmp .gt off, 3)) (ht : (pc : Int) + off = (tgt : Int)) (kt : y < x → xW l R D nL K ws lv tgt st) (kf : ¬ y < x → xW l R D nL K ws lv (pc + 3) st) : xW l R D nL K ws lv pc (.int y :: .int x :: st) := by
  obtain ⟨p, e, s, m, args, below, meth, c, Q, A, cells, slots⟩ := K
  obtain ⟨hx, hb, hml, hown, hts, hK, hA, hlk, hcs⟩ := C
  intro H locs ls hP hD hS hl
  exact lv_icmp_gt hx hb hd ht (fun h => kt h H locs ls hP hD hS hl) (fun h => kf h H locs ls hP hD hS hl)
theorem xr_if_gt (C : xOk R D tys nL K cc own) {x : Int32} {off : Int} {tgt : Nat} (hd : decode cc pc = .ok (.ifCond .gt off, 3)) (ht : (pc : Int) + off = (tgt : Int)) (kt : 0 < x → xW l R D nL K ws lv tgt st) (kf : ¬ 0 < x → xW l R D nL K ws lv (pc + 3) st) : xW l R D nL K ws lv pc (.int x :: st) := by
  obtain ⟨p, e, s, m, args, below, meth, c, Q, A, cells, slots⟩ := K
  obtain ⟨hx, hb, hml, hown, hts, hK, hA, hlk, hcs⟩ := C
  intro H locs ls hP hD hS hl
  exact lv_if_gt hx hb hd ht (fun h => kt h H locs ls hP hD hS hl) (fun h => kf h H locs ls hP hD hS hl)
theorem xr_icmp_le (C : xOk R D tys nL K cc own) {x y : Int32} {off : Int} {tgt : Nat} (hd : decode cc pc = .ok (.if_icmp .le off, 3)) (ht : (pc : Int) + off = (tgt : Int)) (kt : x ≤ y → xW l R D nL K ws lv tgt st) (kf : ¬ x ≤ y → xW l R D nL K ws lv (pc + 3) st) : xW l R D nL K ws lv pc (.int y :: .int x :: st) := by
  obtain ⟨p, e, s, m, args, below, meth, c, Q, A, cells, slots⟩ := K
  obtain ⟨hx, hb, hml, hown, hts, hK, hA, hlk, hcs⟩ := C
  intro H locs ls hP hD hS hl
  exact lv_icmp_le hx hb hd ht (fun h => kt h H locs ls hP hD hS hl) (fun h => kf h H locs ls hP hD hS hl)
theorem xr_if_le (C : xOk R D tys nL K cc own) {x : Int32} {off : Int} {tgt : Nat} (hd : decode cc pc = .ok (.ifCond .le off, 3)) (ht : (pc : Int) + off = (tgt : Int)) (kt : x ≤ 0 → xW l R D nL K ws lv tgt st) (kf : ¬ x ≤ 0 → xW l R D nL K ws lv (pc + 3) st) : xW l R D nL K ws lv pc (.int x :: st) := by
  obtain ⟨p, e, s, m, args, below, meth, c, Q, A, cells, slots⟩ := K
  obtain ⟨hx, hb, hml, hown, hts, hK, hA, hlk, hcs⟩ := C
  intro H locs ls hP hD hS hl
  exact lv_if_le hx hb hd ht (fun h => kt h H locs ls hP hD hS hl) (fun h => kf h H locs ls hP hD hS hl)
theorem xr_iaddN (C : xOk R D tys nL K cc own) {a b : Nat} (hd : decode cc pc = .ok (.iadd, 1)) (k : xW l R D nL K ws lv (pc + 1) (.int (nI (a + b)) :: st)) : xW l R D nL K ws lv pc (.int (nI b) :: .int (nI a) :: st) := xr_iadd C hd (xr_top (nI_add a b) k)
theorem xr_isubN (C : xOk R D tys nL K cc own) {a b : Nat} (h : b ≤ a) (hd : decode cc pc = .ok (.isub, 1)) (k : xW l R D nL K ws lv (pc + 1) (.int (nI (a - b)) :: st)) : xW l R D nL K ws lv pc (.int (nI b) :: .int (nI a) :: st) := xr_isub C hd (xr_top (pk_sub h) k)
theorem xr_imulN (C : xOk R D tys nL K cc own) {a b : Nat} (hd : decode cc pc = .ok (.imul, 1)) (k : xW l R D nL K ws lv (pc + 1) (.int (nI (a * b)) :: st)) : xW l R D nL K ws lv pc (.int (nI b) :: .int (nI a) :: st) := xr_imul C hd (xr_top (pk_mul a b) k)
theorem xr_idivN (C : xOk R D tys nL K cc own) {a b : Nat} (ha : a < 2 ^ 31) (h0 : 0 < b) (hb : b < 2 ^ 31) (hd : decode cc pc = .ok (.idiv, 1)) (k : xW l R D nL K ws lv (pc + 1) (.int (nI (a / b)) :: st)) : xW l R D nL K ws lv pc (.int (nI b) :: .int (nI a) :: st) := xr_idiv C hd (nI_ne0 h0 hb) (xr_top (pk_div ha h0 hb) k)
theorem xr_iremN (C : xOk R D tys nL K cc own) {a b : Nat} (ha : a < 2 ^ 31) (h0 : 0 < b) (hb : b < 2 ^ 31) (hd : decode cc pc = .ok (.irem, 1)) (k : xW l R D nL K ws lv (pc + 1) (.int (nI (a % b)) :: st)) : xW l R D nL K ws lv pc (.int (nI b) :: .int (nI a) :: st) := xr_irem C hd (nI_ne0 h0 hb) (xr_top (pk_rem ha h0 hb) k)
theorem xn_b {v : Nat} (h : v < 128) : (nI v).toInt8.toInt32 = nI v := by
  have h0 : ∀ v, v < 128 → (nI v).toInt8.toInt32 = nI v := by decide +kernel
  exact h0 v h
theorem xn_s {v : Nat} (h : v < 256) : (nI v).toInt16.toInt32 = nI v := by
  have h0 : ∀ v, v < 256 → (nI v).toInt16.toInt32 = nI v := by decide +kernel
  exact h0 v h
theorem xr_i2bN (C : xOk R D tys nL K cc own) {a : Nat} (h : a < 128) (hd : decode cc pc = .ok (.i2b, 1)) (k : xW l R D nL K ws lv (pc + 1) (.int (nI a) :: st)) : xW l R D nL K ws lv pc (.int (nI a) :: st) := xr_i2b C hd (xn_b h) k
theorem xr_i2sN (C : xOk R D tys nL K cc own) {a : Nat} (h : a < 256) (hd : decode cc pc = .ok (.i2s, 1)) (k : xW l R D nL K ws lv (pc + 1) (.int (nI a) :: st)) : xW l R D nL K ws lv pc (.int (nI a) :: st) := xr_i2s C hd (xn_s h) k
theorem xr_iincN (C : xOk R D tys nL K cc own) {j : Nat} {n : Int} {a b : Nat} (hd : decode cc pc = .ok (.iinc j n, 3)) (hj : lv[j]? = some (some (.int (nI a)))) (hv : nI a + Int32.ofInt n = nI b) (hn : j < nL) {lv' : List (Option Value)} (hl' : lv.set j (some (.int (nI b))) = lv') (k : xW l R D nL K ws lv' (pc + 3) st) : xW l R D nL K ws lv pc st := xr_iinc C hd hj hv hn hl' k
theorem xr_iinc1 (C : xOk R D tys nL K cc own) {j : Nat} {a : Nat} (hd : decode cc pc = .ok (.iinc j 1, 3)) (hj : lv[j]? = some (some (.int (nI a)))) (hn : j < nL) {lv' : List (Option Value)} (hl' : lv.set j (some (.int (nI (a + 1)))) = lv') (k : xW l R D nL K ws lv' (pc + 3) st) : xW l R D nL K ws lv pc st := xr_iinc C hd hj (nI_1 a) hn hl' k
theorem xr_iincM (C : xOk R D tys nL K cc own) {j : Nat} {a : Nat} (h : 0 < a) (hd : decode cc pc = .ok (.iinc j (-1), 3)) (hj : lv[j]? = some (some (.int (nI a)))) (hn : j < nL) {lv' : List (Option Value)} (hl' : lv.set j (some (.int (nI (a - 1)))) = lv') (k : xW l R D nL K ws lv' (pc + 3) st) : xW l R D nL K ws lv pc st := xr_iinc C hd hj (sb_m1 h) hn hl' k
theorem xr_icmp_eqN (C : xOk R D tys nL K cc own) {a b : Nat} {off : Int} {tgt : Nat} (ha : a < 2 ^ 31) (hb : b < 2 ^ 31) (hd : decode cc pc = .ok (.if_icmp .eq off, 3)) (ht : (pc : Int) + off = (tgt : Int)) (kt : a = b → xW l R D nL K ws lv tgt st) (kf : a ≠ b → xW l R D nL K ws lv (pc + 3) st) : xW l R D nL K ws lv pc (.int (nI b) :: .int (nI a) :: st) := xr_icmp_eq C hd ht (fun h => kt ((nI_eq ha hb).1 h)) (fun h => kf (fun e => h ((nI_eq ha hb).2 e)))
theorem xr_icmp_neN (C : xOk R D tys nL K cc own) {a b : Nat} {off : Int} {tgt : Nat} (ha : a < 2 ^ 31) (hb : b < 2 ^ 31) (hd : decode cc pc = .ok (.if_icmp .ne off, 3)) (ht : (pc : Int) + off = (tgt : Int)) (kt : a ≠ b → xW l R D nL K ws lv tgt st) (kf : a = b → xW l R D nL K ws lv (pc + 3) st) : xW l R D nL K ws lv pc (.int (nI b) :: .int (nI a) :: st) := xr_icmp_ne C hd ht (fun h => kt (fun e => h ((nI_eq ha hb).2 e))) (fun h => kf ((nI_eq ha hb).1 h))
theorem xr_icmp_ltN (C : xOk R D tys nL K cc own) {a b : Nat} {off : Int} {tgt : Nat} (ha : a < 2 ^ 31) (hb : b < 2 ^ 31) (hd : decode cc pc = .ok (.if_icmp .lt off, 3)) (ht : (pc : Int) + off = (tgt : Int)) (kt : a < b → xW l R D nL K ws lv tgt st) (kf : b ≤ a → xW l R D nL K ws lv (pc + 3) st) : xW l R D nL K ws lv pc (.int (nI b) :: .int (nI a) :: st) := xr_icmp_lt C hd ht (fun h => kt ((nI_ltI ha hb).1 h)) (fun h => kf (Nat.not_lt.1 (fun e => h ((nI_ltI ha hb).2 e))))
theorem xr_icmp_geN (C : xOk R D tys nL K cc own) {a b : Nat} {off : Int} {tgt : Nat} (ha : a < 2 ^ 31) (hb : b < 2 ^ 31) (hd : decode cc pc = .ok (.if_icmp .ge off, 3)) (ht : (pc : Int) + off = (tgt : Int)) (kt : b ≤ a → xW l R D nL K ws lv tgt st) (kf : a < b → xW l R D nL K ws lv (pc + 3) st) : xW l R D nL K ws lv pc (.int (nI b) :: .int (nI a) :: st) := xr_icmp_ge C hd ht (fun h => kt ((nI_leI hb ha).1 h)) (fun h => kf (Nat.not_le.1 (fun e => h ((nI_leI hb ha).2 e))))
theorem xr_icmp_gtN (C : xOk R D tys nL K cc own) {a b : Nat} {off : Int} {tgt : Nat} (ha : a < 2 ^ 31) (hb : b < 2 ^ 31) (hd : decode cc pc = .ok (.if_icmp .gt off, 3)) (ht : (pc : Int) + off = (tgt : Int)) (kt : b < a → xW l R D nL K ws lv tgt st) (kf : a ≤ b → xW l R D nL K ws lv (pc + 3) st) : xW l R D nL K ws lv pc (.int (nI b) :: .int (nI a) :: st) := xr_icmp_gt C hd ht (fun h => kt ((nI_ltI hb ha).1 h)) (fun h => kf (Nat.not_lt.1 (fun e => h ((nI_ltI hb ha).2 e))))
theorem xr_icmp_leN (C : xOk R D tys nL K cc own) {a b : Nat} {off : Int} {tgt : Nat} (ha : a < 2 ^ 31) (hb : b < 2 ^ 31) (hd : decode cc pc = .ok (.if_icmp .le off, 3)) (ht : (pc : Int) + off = (tgt : Int)) (kt : a ≤ b → xW l R D nL K ws lv tgt st) (kf : b < a → xW l R D nL K ws lv (pc + 3) st) : xW l R D nL K ws lv pc (.int (nI b) :: .int (nI a) :: st) := xr_icmp_le C hd ht (fun h => kt ((nI_leI ha hb).1 h)) (fun h => kf (Nat.not_le.1 (fun e => h ((nI_leI ha hb).2 e))))
theorem xr_ifT_eq (C : xOk R D tys nL K cc own) {x : Int32} {off : Int} {tgt : Nat} (h : x = 0) (hd : decode cc pc = .ok (.ifCond .eq off, 3)) (ht : (pc : Int) + off = (tgt : Int)) (kt : xW l R D nL K ws lv tgt st) : xW l R D nL K ws lv pc (.int x :: st) := xr_if_eq C hd ht (fun _ => kt) (fun h2 => absurd h h2)
theorem xr_ifF_eq (C : xOk R D tys nL K cc own) {x : Int32} {off : Int} {tgt : Nat} (h : ¬ x = 0) (hd : decode cc pc = .ok (.ifCond .eq off, 3)) (ht : (pc : Int) + off = (tgt : Int)) (kf : xW l R D nL K ws lv (pc + 3) st) : xW l R D nL K ws lv pc (.int x :: st) := xr_if_eq C hd ht (fun h2 => absurd h2 h) (fun _ => kf)
theorem xr_ifT_ne (C : xOk R D tys nL K cc own) {x : Int32} {off : Int} {tgt : Nat} (h : ¬ x = 0) (hd : decode cc pc = .ok (.ifCond .ne off, 3)) (ht : (pc : Int) + off = (tgt : Int)) (kt : xW l R D nL K ws lv tgt st) : xW l R D nL K ws lv pc (.int x :: st) := xr_if_ne C hd ht (fun _ => kt) (fun h2 => absurd h2 h)
theorem xr_ifF_ne (C : xOk R D tys nL K cc own) {x : Int32} {off : Int} {tgt : Nat} (h : x = 0) (hd : decode cc pc = .ok (.ifCond .ne off, 3)) (ht : (pc : Int) + off = (tgt : Int)) (kf : xW l R D nL K ws lv (pc + 3) st) : xW l R D nL K ws lv pc (.int x :: st) := xr_if_ne C hd ht (fun h2 => absurd h h2) (fun _ => kf)
theorem xr_ifT_lt (C : xOk R D tys nL K cc own) {x : Int32} {off : Int} {tgt : Nat} (h : x < 0) (hd : decode cc pc = .ok (.ifCond .lt off, 3)) (ht : (pc : Int) + off = (tgt : Int)) (kt : xW l R D nL K ws lv tgt st) : xW l R D nL K ws lv pc (.int x :: st) := xr_if_lt C hd ht (fun _ => kt) (fun h2 => absurd h h2)
theorem xr_ifF_lt (C : xOk R D tys nL K cc own) {x : Int32} {off : Int} {tgt : Nat} (h : ¬ x < 0) (hd : decode cc pc = .ok (.ifCond .lt off, 3)) (ht : (pc : Int) + off = (tgt : Int)) (kf : xW l R D nL K ws lv (pc + 3) st) : xW l R D nL K ws lv pc (.int x :: st) := xr_if_lt C hd ht (fun h2 => absurd h2 h) (fun _ => kf)
theorem xr_ifT_ge (C : xOk R D tys nL K cc own) {x : Int32} {off : Int} {tgt : Nat} (h : 0 ≤ x) (hd : decode cc pc = .ok (.ifCond .ge off, 3)) (ht : (pc : Int) + off = (tgt : Int)) (kt : xW l R D nL K ws lv tgt st) : xW l R D nL K ws lv pc (.int x :: st) := xr_if_ge C hd ht (fun _ => kt) (fun h2 => absurd h h2)
theorem xr_ifF_ge (C : xOk R D tys nL K cc own) {x : Int32} {off : Int} {tgt : Nat} (h : ¬ 0 ≤ x) (hd : decode cc pc = .ok (.ifCond .ge off, 3)) (ht : (pc : Int) + off = (tgt : Int)) (kf : xW l R D nL K ws lv (pc + 3) st) : xW l R D nL K ws lv pc (.int x :: st) := xr_if_ge C hd ht (fun h2 => absurd h2 h) (fun _ => kf)
theorem xr_ifT_gt (C : xOk R D tys nL K cc own) {x : Int32} {off : Int} {tgt : Nat} (h : 0 < x) (hd : decode cc pc = .ok (.ifCond .gt off, 3)) (ht : (pc : Int) + off = (tgt : Int)) (kt : xW l R D nL K ws lv tgt st) : xW l R D nL K ws lv pc (.int x :: st) := xr_if_gt C hd ht (fun _ => kt) (fun h2 => absurd h h2)
theorem xr_ifF_gt (C : xOk R D tys nL K cc own) {x : Int32} {off : Int} {tgt : Nat} (h : ¬ 0 < x) (hd : decode cc pc = .ok (.ifCond .gt off, 3)) (ht : (pc : Int) + off = (tgt : Int)) (kf : xW l R D nL K ws lv (pc + 3) st) : xW l R D nL K ws lv pc (.int x :: st) := xr_if_gt C hd ht (fun h2 => absurd h2 h) (fun _ => kf)
theorem xr_ifT_le (C : xOk R D tys nL K cc own) {x : Int32} {off : Int} {tgt : Nat} (h : x ≤ 0) (hd : decode cc pc = .ok (.ifCond .le off, 3)) (ht : (pc : Int) + off = (tgt : Int)) (kt : xW l R D nL K ws lv tgt st) : xW l R D nL K ws lv pc (.int x :: st) := xr_if_le C hd ht (fun _ => kt) (fun h2 => absurd h h2)
theorem xr_ifF_le (C : xOk R D tys nL K cc own) {x : Int32} {off : Int} {tgt : Nat} (h : ¬ x ≤ 0) (hd : decode cc pc = .ok (.ifCond .le off, 3)) (ht : (pc : Int) + off = (tgt : Int)) (kf : xW l R D nL K ws lv (pc + 3) st) : xW l R D nL K ws lv pc (.int x :: st) := xr_if_le C hd ht (fun h2 => absurd h2 h) (fun _ => kf)
theorem xr_iald (C : xOk R D tys nL K cc own) (q0 t0 : Nat) {a : Nat} {cA : ClassId} {n : Nat} {f : Nat → Int32} (ha : ws[q0]? = some (a, .inl (cA, n, .inl f))) (ht : tys[t0]? = some (cA, .int)) {i : Nat} (hi : i < n) (hn : n < 2 ^ 31) (hd : decode cc pc = .ok (.iaload, 1)) (k : xW l R D nL K ws lv (pc + 1) (.int (f i) :: st)) : xW l R D nL K ws lv pc (.int (nI i) :: .ref a :: st) := by
  obtain ⟨p, e, s, m, args, below, meth, c, Q, A, cells, slots⟩ := K
  obtain ⟨hx, hb, hml, hown, hts, hK, hA, hlk, hcs⟩ := C
  intro H locs ls hP hD hS hl
  refine va_iald hx hb hK hP q0 t0 ha ht (vp_in_nI hi hn) hd ?_
  rw [nI_clamp (Nat.lt_trans hi hn)]
  exact k H locs ls hP hD hS hl
theorem xr_ialdN (C : xOk R D tys nL K cc own) (q0 t0 : Nat) {a : Nat} {cA : ClassId} {n : Nat} {f : Nat → Nat} (ha : ws[q0]? = some (a, .inl (cA, n, .inl (fun j => nI (f j))))) (ht : tys[t0]? = some (cA, .int)) {i : Nat} (hi : i < n) (hn : n < 2 ^ 31) (hd : decode cc pc = .ok (.iaload, 1)) (k : xW l R D nL K ws lv (pc + 1) (.int (nI (f i)) :: st)) : xW l R D nL K ws lv pc (.int (nI i) :: .ref a :: st) := xr_iald C q0 t0 ha ht hi hn hd k
theorem xr_bald (C : xOk R D tys nL K cc own) (q0 t0 : Nat) {a : Nat} {cA : ClassId} {n : Nat} {f : Nat → Int32} (ha : ws[q0]? = some (a, .inl (cA, n, .inl f))) (ht : tys[t0]? = some (cA, .byte)) {i : Nat} (hi : i < n) (hn : n < 2 ^ 31) (hd : decode cc pc = .ok (.baload, 1)) (k : xW l R D nL K ws lv (pc + 1) (.int (f i) :: st)) : xW l R D nL K ws lv pc (.int (nI i) :: .ref a :: st) := by
  obtain ⟨p, e, s, m, args, below, meth, c, Q, A, cells, slots⟩ := K
  obtain ⟨hx, hb, hml, hown, hts, hK, hA, hlk, hcs⟩ := C
  intro H locs ls hP hD hS hl
  refine va_bald hx hb hK hP q0 t0 ha ht (vp_in_nI hi hn) hd ?_
  rw [nI_clamp (Nat.lt_trans hi hn)]
  exact k H locs ls hP hD hS hl
theorem xr_baldN (C : xOk R D tys nL K cc own) (q0 t0 : Nat) {a : Nat} {cA : ClassId} {n : Nat} {f : Nat → Nat} (ha : ws[q0]? = some (a, .inl (cA, n, .inl (fun j => nI (f j))))) (ht : tys[t0]? = some (cA, .byte)) {i : Nat} (hi : i < n) (hn : n < 2 ^ 31) (hd : decode cc pc = .ok (.baload, 1)) (k : xW l R D nL K ws lv (pc + 1) (.int (nI (f i)) :: st)) : xW l R D nL K ws lv pc (.int (nI i) :: .ref a :: st) := xr_bald C q0 t0 ha ht hi hn hd k
theorem xr_sald (C : xOk R D tys nL K cc own) (q0 t0 : Nat) {a : Nat} {cA : ClassId} {n : Nat} {f : Nat → Int32} (ha : ws[q0]? = some (a, .inl (cA, n, .inl f))) (ht : tys[t0]? = some (cA, .short)) {i : Nat} (hi : i < n) (hn : n < 2 ^ 31) (hd : decode cc pc = .ok (.saload, 1)) (k : xW l R D nL K ws lv (pc + 1) (.int (f i) :: st)) : xW l R D nL K ws lv pc (.int (nI i) :: .ref a :: st) := by
  obtain ⟨p, e, s, m, args, below, meth, c, Q, A, cells, slots⟩ := K
  obtain ⟨hx, hb, hml, hown, hts, hK, hA, hlk, hcs⟩ := C
  intro H locs ls hP hD hS hl
  refine va_sald hx hb hK hP q0 t0 ha ht (vp_in_nI hi hn) hd ?_
  rw [nI_clamp (Nat.lt_trans hi hn)]
  exact k H locs ls hP hD hS hl
theorem xr_saldN (C : xOk R D tys nL K cc own) (q0 t0 : Nat) {a : Nat} {cA : ClassId} {n : Nat} {f : Nat → Nat} (ha : ws[q0]? = some (a, .inl (cA, n, .inl (fun j => nI (f j))))) (ht : tys[t0]? = some (cA, .short)) {i : Nat} (hi : i < n) (hn : n < 2 ^ 31) (hd : decode cc pc = .ok (.saload, 1)) (k : xW l R D nL K ws lv (pc + 1) (.int (nI (f i)) :: st)) : xW l R D nL K ws lv pc (.int (nI i) :: .ref a :: st) := xr_sald C q0 t0 ha ht hi hn hd k
theorem xn_upd (f : Nat → Nat) (k v : Nat) : upd (fun j => nI (f j)) k (nI v) = fun j => nI (va_up f k v j) := by
  funext j
  unfold upd va_up
  by_cases h : j = k
  · simp [h]
  · simp [h]
theorem xn_vb {v : Nat} (h : v < 128) : vp_nar .byte (nI v) = nI v := by rw [vp_nar_byte, xn_b h]
theorem xn_vs {v : Nat} (h : v < 256) : vp_nar .short (nI v) = nI v := by rw [vp_nar_short, xn_s h]
theorem xr_iast (C : xOk R D tys nL K cc own) (q0 t0 : Nat) {a : Nat} {cA : ClassId} {n : Nat} {f : Nat → Int32} (ha : ws[q0]? = some (a, .inl (cA, n, .inl f))) (ht : tys[t0]? = some (cA, .int)) {i : Nat} {x : Int32} (hi : i < n) (hn : n < 2 ^ 31) {ws' : va_W} (hw : ws.set q0 (a, .inl (cA, n, .inl (upd f i x))) = ws') (hd : decode cc pc = .ok (.iastore, 1)) (k : xW l R D nL K ws' lv (pc + 1) st) : xW l R D nL K ws lv pc (.int x :: .int (nI i) :: .ref a :: st) := by
  obtain ⟨p, e, s, m, args, below, meth, c, Q, A, cells, slots⟩ := K
  obtain ⟨hx, hb, hml, hown, hts, hK, hA, hlk, hcs⟩ := C
  intro H locs ls hP hD hS hl
  subst hw
  refine va_iast hx hb hK hP hD hS q0 t0 ha ht (vp_in_nI hi hn) hd (fun H1 locs1 hP1 hD1 hS1 => ?_)
  rw [nI_clamp (Nat.lt_trans hi hn)] at hP1 hD1
  exact k H1 locs1 ls hP1 hD1 hS1 hl
theorem xr_iastN (C : xOk R D tys nL K cc own) (q0 t0 : Nat) {a : Nat} {cA : ClassId} {n : Nat} {f : Nat → Nat} (ha : ws[q0]? = some (a, .inl (cA, n, .inl (fun j => nI (f j))))) (ht : tys[t0]? = some (cA, .int)) {i v : Nat} (hi : i < n) (hn : n < 2 ^ 31) {ws' : va_W} (hw : ws.set q0 (a, .inl (cA, n, .inl (fun j => nI (va_up f i v j)))) = ws') (hd : decode cc pc = .ok (.iastore, 1)) (k : xW l R D nL K ws' lv (pc + 1) st) : xW l R D nL K ws lv pc (.int (nI v) :: .int (nI i) :: .ref a :: st) := xr_iast C q0 t0 ha ht hi hn (by rw [xn_upd]; exact hw) hd k
theorem xr_bastN (C : xOk R D tys nL K cc own) (q0 t0 : Nat) {a : Nat} {cA : ClassId} {n : Nat} {f : Nat → Nat} (ha : ws[q0]? = some (a, .inl (cA, n, .inl (fun j => nI (f j))))) (ht : tys[t0]? = some (cA, .byte)) {i v : Nat} (hi : i < n) (hn : n < 2 ^ 31) (hv : v < 128) {ws' : va_W} (hw : ws.set q0 (a, .inl (cA, n, .inl (fun j => nI (va_up f i v j)))) = ws') (hd : decode cc pc = .ok (.bastore, 1)) (k : xW l R D nL K ws' lv (pc + 1) st) : xW l R D nL K ws lv pc (.int (nI v) :: .int (nI i) :: .ref a :: st) := by
  obtain ⟨p, e, s, m, args, below, meth, c, Q, A, cells, slots⟩ := K
  obtain ⟨hx, hb, hml, hown, hts, hK, hA, hlk, hcs⟩ := C
  intro H locs ls hP hD hS hl
  subst hw
  refine va_bast hx hb hK hP hD hS q0 t0 ha ht (vp_in_nI hi hn) hd (fun H1 locs1 hP1 hD1 hS1 => ?_)
  rw [nI_clamp (Nat.lt_trans hi hn), xn_vb hv, xn_upd] at hP1 hD1
  exact k H1 locs1 ls hP1 hD1 hS1 hl
theorem xr_sastN (C : xOk R D tys nL K cc own) (q0 t0 : Nat) {a : Nat} {cA : ClassId} {n : Nat} {f : Nat → Nat} (ha : ws[q0]? = some (a, .inl (cA, n, .inl (fun j => nI (f j))))) (ht : tys[t0]? = some (cA, .short)) {i v : Nat} (hi : i < n) (hn : n < 2 ^ 31) (hv : v < 256) {ws' : va_W} (hw : ws.set q0 (a, .inl (cA, n, .inl (fun j => nI (va_up f i v j)))) = ws') (hd : decode cc pc = .ok (.sastore, 1)) (k : xW l R D nL K ws' lv (pc + 1) st) : xW l R D nL K ws lv pc (.int (nI v) :: .int (nI i) :: .ref a :: st) := by
  obtain ⟨p, e, s, m, args, below, meth, c, Q, A, cells, slots⟩ := K
  obtain ⟨hx, hb, hml, hown, hts, hK, hA, hlk, hcs⟩ := C
  intro H locs ls hP hD hS hl
  subst hw
  refine va_sast hx hb hK hP hD hS q0 t0 ha ht (vp_in_nI hi hn) hd (fun H1 locs1 hP1 hD1 hS1 => ?_)
  rw [nI_clamp (Nat.lt_trans hi hn), xn_vs hv, xn_upd] at hP1 hD1
  exact k H1 locs1 ls hP1 hD1 hS1 hl
theorem xr_get (C : xOk R D tys nL K cc own) {ref Cn : String} {T : u_T} {N ci index : Nat} (hin : ∀ w ∈ u_ws Cn T N, w ∈ lw_all) (q0 : Nat) {a : Nat} {fs : List Value} (he : ws[q0]? = some (a, .inr (ci, fs))) (hc : vwCl[ci]? = some (Cn, T, N)) (j : Nat) (hj : j < N) (hlink : Cond.fieldLink own index ref (T j).2.1 (T j).2.2.1 ∈ lw_all) (hsame : ref = (T j).1) {v : Value} (hv : fs[j]? = some v) (hd : decode cc pc = .ok (.getfield index, 3)) (k : xW l R D nL K ws lv (pc + 3) (v :: st)) : xW l R D nL K ws lv pc (.ref a :: st) := by
  obtain ⟨p, e, s, m, args, below, meth, c, Q, A, cells, slots⟩ := K
  obtain ⟨hx, hb, hml, hown, hts, hK, hA, hlk, hcs⟩ := C
  intro H locs ls hP hD hS hl
  exact va_get hx hb hts hin hown hK hP q0 he hc j hj (hts _ hlink) (fun _ h => hsame ▸ h) hv hd (k H locs ls hP hD hS hl)
theorem xr_put (C : xOk R D tys nL K cc own) {ref Cn : String} {T : u_T} {N ci index : Nat} (hin : ∀ w ∈ u_ws Cn T N, w ∈ lw_all) (ty0 : Nat → FieldType) (hty : ∀ k, k < N → parseFieldDescriptor (T k).2.2.1 = some (ty0 k)) (hnm : ∀ a, a < N → ∀ b, b < N → a ≠ b → (T a).2.1 ≠ (T b).2.1) (q0 : Nat) {a : Nat} {fs : List Value} (he : ws[q0]? = some (a, .inr (ci, fs))) (hc : vwCl[ci]? = some (Cn, T, N)) (j : Nat) (hj : j < N) (hlink : Cond.fieldLink own index ref (T j).2.1 (T j).2.2.1 ∈ lw_all) (hsame : ref = (T j).1) (hfin : (T j).2.2.2 = false) {ty : FieldType} {v : Value} (hpd : parseFieldDescriptor (T j).2.2.1 = some ty) (hnr : narrow ty v = v) (hfit : fits ty v = true) (hlen : j < fs.length) {ws' : va_W} (hw : ws.set q0 (a, .inr (ci, fs.set j v)) = ws') (hd : decode cc pc = .ok (.putfield index, 3)) (k : xW l R D nL K ws' lv (pc + 3) st) : xW l R D nL K ws lv pc (v :: .ref a :: st) := by
  obtain ⟨p, e, s, m, args, below, meth, c, Q, A, cells, slots⟩ := K
  obtain ⟨hx, hb, hml, hown, hts, hK, hA, hlk, hcs⟩ := C
  intro H locs ls hP hD hS hl
  subst hw
  exact va_put hx hb hts hin ty0 hty hnm hown hK hP hD hS q0 he hc j hj (hts _ hlink) (fun _ h => hsame ▸ h) hfin hpd hnr hfit hlen hd (fun H1 locs1 hP1 hD1 hS1 => k H1 locs1 ls hP1 hD1 hS1 hl)
/-- the cells by another word for the same -/
theorem xr_ws {ws' : va_W} (h : ws = ws') (k : xW l R D nL K ws' lv pc st) : xW l R D nL K ws lv pc st := h ▸ k
theorem xr_lv {lv' : List (Option Value)} (h : lv = lv') (k : xW l R D nL K ws lv' pc st) : xW l R D nL K ws lv pc st := h ▸ k
end XR
/-! CONTRACTS in the layer's words -/
def xPre (D : va_G) (tys : List (ClassId × FieldType)) (ws : va_W) (sz : Nat) : State → Prop := fun U => U.heap.size = sz ∧ va_P D vwCl ws U.heap ∧ va_K D vwCl tys U ∧ va_D (fun _ => True) ws
def xPost (D : va_G) (tys : List (ClassId × FieldType)) (A : Nat → Prop) : va_W → State → Prop := fun ws t => va_P D vwCl ws t.heap ∧ va_K D vwCl tys t ∧ va_D A ws
/-- a method that makes nothing and answers an int (or a byte-sized kin): from the cells ws, post answer cells -/
def xMi (l : Launch) (D : va_G) (tys : List (ClassId × FieldType)) (y : MethodName) (cc : ByteArray) (nL : Nat) (ty : FieldType) (rm : Room) (av : List Value) (ws : va_W) (post : Int32 → va_W → Prop) : Prop :=
  ∀ sz : Nat, Met l y (ws_ y cc nL (some ty)) rm (va_Pc av (xPre D tys ws sz)) (va_Qi post (xPost D tys (va_A ws sz)) (va_A ws sz)) 0 0 (va_A ws sz)
def xMv (l : Launch) (D : va_G) (tys : List (ClassId × FieldType)) (y : MethodName) (cc : ByteArray) (nL : Nat) (rm : Room) (av : List Value) (ws : va_W) (post : va_W → Prop) : Prop :=
  ∀ sz : Nat, Met l y (ws_ y cc nL none) rm (va_Pc av (xPre D tys ws sz)) (va_Qv post (xPost D tys (va_A ws sz)) (va_A ws sz)) 0 0 (va_A ws sz)
/-- the end of a method -/
def xEi (D : va_G) (tys : List (ClassId × FieldType)) (K : xK) (ty : FieldType) (post : Int32 → va_W → Prop) : Prop := match K with
  | (_, _, s, _, args, below, meth, _, Q, A, cells, slots) => meth.sig.returnType = some ty ∧ Q = MQ below (va_Qi post (xPost D tys A) A) args s cells slots A
def xEv (D : va_G) (tys : List (ClassId × FieldType)) (K : xK) (post : va_W → Prop) : Prop := match K with
  | (_, _, s, _, args, below, meth, _, Q, A, cells, slots) => meth.sig.returnType = none ∧ Q = MQ below (va_Qv post (xPost D tys A) A) args s cells slots A
theorem xr_ireturn {l : Launch} {R : Room} {D : va_G} {tys : List (ClassId × FieldType)} {nL : Nat} {K : xK} {cc : ByteArray} {own : String} {ws : va_W} {lv : List (Option Value)} {pc : Nat} {ty : FieldType} {post : Int32 → va_W → Prop} {v : Int32} (C : xOk R D tys nL K cc own) (E : xEi D tys K ty post) (hn : narrow ty (.int v) = .int v) (hd : decode cc pc = .ok (.ireturn, 1)) (h : post v ws) : xW l R D nL K ws lv pc [.int v] := by
  obtain ⟨p, e, s, m, args, below, meth, c, Q, A, cells, slots⟩ := K
  obtain ⟨hx, hb, hml, hown, hts, hK, hA, hlk, hcs⟩ := C
  obtain ⟨hr, rfl⟩ := E
  intro H locs ls hP hD hS hl
  exact W.zret hx hb hr hn (fun t ht hW => ⟨⟨v, ws, rfl, h, by rw [ht]; exact hP, va_K.moved hW.alike hK, hD⟩, hS.F ht⟩) hS.2.2 hd hlk
theorem xr_return {l : Launch} {R : Room} {D : va_G} {tys : List (ClassId × FieldType)} {nL : Nat} {K : xK} {cc : ByteArray} {own : String} {ws : va_W} {lv : List (Option Value)} {pc : Nat} {post : va_W → Prop} (C : xOk R D tys nL K cc own) (E : xEv D tys K post) (hd : decode cc pc = .ok (.return_, 1)) (h : post ws) : xW l R D nL K ws lv pc [] := by
  obtain ⟨p, e, s, m, args, below, meth, c, Q, A, cells, slots⟩ := K
  obtain ⟨hx, hb, hml, hown, hts, hK, hA, hlk, hcs⟩ := C
  obtain ⟨hr, rfl⟩ := E
  intro H locs ls hP hD hS hl
  exact W.vret hx hb hr (fun t ht hW => ⟨⟨ws, rfl, h, by rw [ht]; exact hP, va_K.moved hW.alike hK, hD⟩, hS.F ht⟩) hS.2.2 hd hlk
theorem lv_args_cat : ∀ (av : List Value) (k : Nat), (∀ v ∈ av, v.category = 1) → lv_args k av = xlv k (av.map some)
  | [], k, _ => rfl
  | v :: r, k, h => by
    have hv := h v List.mem_cons_self
    have := lv_args_cat r (k + 1) (fun w hw => h w (List.mem_cons_of_mem _ hw))
    cases v <;> first | (simp [Value.category] at hv; done) | simp [lv_args, xlv, Value.category, this]
theorem xlv_none (n : Nat) : ∀ k, xlv k (List.replicate n none) = [] := by
  induction n with
  | zero => intro k; rfl
  | succ n ih => intro k; rw [List.replicate_succ, xlv]; exact ih _
theorem xlv_app : ∀ (a b : List (Option Value)) (k : Nat), (∀ v ∈ b, v = none) → xlv k (a ++ b) = xlv k a
  | [], b, k, h => by
    induction b generalizing k with
    | nil => rfl
    | cons x r ih =>
      have := h x List.mem_cons_self
      subst this
      show xlv (k + 1) r = []
      exact ih (k + 1) (fun v hv => h v (List.mem_cons_of_mem _ hv))
  | none :: a, b, k, h => by show xlv (k + 1) (a ++ b) = xlv (k + 1) a; exact xlv_app a b (k + 1) h
  | some v :: a, b, k, h => by show (k, v) :: xlv (k + 1) (a ++ b) = (k, v) :: xlv (k + 1) a; rw [xlv_app a b (k + 1) h]
theorem xL_entry (av : List Value) {n : Nat} (hc : ∀ v ∈ av, v.category = 1) (h : (lg_sl av).length ≤ n) (lv : List (Option Value)) (r : Nat) (hlv : lv = av.map some ++ List.replicate r none) : xL ((lg_sl av ++ List.replicate (n - (lg_sl av).length) Slot.unset).toArray) n lv := by
  subst hlv
  refine ⟨?_, ?_⟩
  · rw [xlv_app _ _ _ (fun v hv => List.eq_of_mem_replicate hv), ← lv_args_cat av 0 hc]
    exact lv_entry av h
  · intro v hv
    rcases List.mem_append.mp hv with q | q
    · obtain ⟨w, hw, e⟩ := List.mem_map.mp q
      cases e; exact hc _ hw
    · exact absurd (List.eq_of_mem_replicate q) (by simp)
/-- a contract out of its walk -/
theorem xMi_of {l : Launch} {D : va_G} {tys : List (ClassId × FieldType)} {y : MethodName} {cc : ByteArray} {nL : Nat} {ty : FieldType} {rm : Room} {av : List Value} {ws : va_W} {post : Int32 → va_W → Prop} (r : Nat) (hy : plainName y.cls = true) (hc : av.all (fun v => v.category == 1) = true) (hn : (lg_sl av).length ≤ nL)
    (body : ∀ K : xK, xOk rm D tys nL K cc y.cls → xEi D tys K ty post → xW l rm D nL K ws (av.map some ++ List.replicate r none) 0 []) : xMi l D tys y cc nL ty rm av ws post := by
  intro sz
  refine Met.ofW (cc := cc) (maxL := nL) (ret := some ty) hy rfl ?_
  intro p e s m args below meth c s₁ B hml hv
  obtain ⟨rfl, hsz, hP, hK, hD0⟩ := hv
  have hts := atoms_spec (ws := ws_ y cc nL (some ty)) B.pre
  have hts : ∀ w ∈ lw_all, w.before _ s = true := fun w h => hts w (List.mem_cons_of_mem _ h)
  subst hsz
  have hD := hD0.self (sz := s.heap.size)
  have hcat : ∀ v ∈ av, v.category = 1 := fun v hv => by simpa using List.all_eq_true.mp hc v hv
  rw [lg_entry_eq]
  exact body (p, e, s, m, av.toArray, below, meth, c, MQ below (va_Qi post (xPost D tys (va_A ws s.heap.size)) (va_A ws s.heap.size)) av.toArray s 0 0 (va_A ws s.heap.size), va_A ws s.heap.size, 0, 0)
    ⟨B.exec, B.bytes, hml, findClass_of_methodNamed B.named, hts, hK, fun q h => Or.inr h, B.notSynchronized, Nat.zero_le _, Nat.zero_le _⟩ ⟨B.returns, rfl⟩ s.heap [] _ hP hD va_S.rf (xL_entry av hcat hn _ r rfl)
theorem xMv_of {l : Launch} {D : va_G} {tys : List (ClassId × FieldType)} {y : MethodName} {cc : ByteArray} {nL : Nat} {rm : Room} {av : List Value} {ws : va_W} {post : va_W → Prop} (r : Nat) (hy : plainName y.cls = true) (hc : av.all (fun v => v.category == 1) = true) (hn : (lg_sl av).length ≤ nL)
    (body : ∀ K : xK, xOk rm D tys nL K cc y.cls → xEv D tys K post → xW l rm D nL K ws (av.map some ++ List.replicate r none) 0 []) : xMv l D tys y cc nL rm av ws post := by
  intro sz
  refine Met.ofW (cc := cc) (maxL := nL) (ret := none) hy rfl ?_
  intro p e s m args below meth c s₁ B hml hv
  obtain ⟨rfl, hsz, hP, hK, hD0⟩ := hv
  have hts := atoms_spec (ws := ws_ y cc nL none) B.pre
  have hts : ∀ w ∈ lw_all, w.before _ s = true := fun w h => hts w (List.mem_cons_of_mem _ h)
  subst hsz
  have hD := hD0.self (sz := s.heap.size)
  have hcat : ∀ v ∈ av, v.category = 1 := fun v hv => by simpa using List.all_eq_true.mp hc v hv
  rw [lg_entry_eq]
  exact body (p, e, s, m, av.toArray, below, meth, c, MQ below (va_Qv post (xPost D tys (va_A ws s.heap.size)) (va_A ws s.heap.size)) av.toArray s 0 0 (va_A ws s.heap.size), va_A ws s.heap.size, 0, 0)
    ⟨B.exec, B.bytes, hml, findClass_of_methodNamed B.named, hts, hK, fun q h => Or.inr h, B.notSynchronized, Nat.zero_le _, Nat.zero_le _⟩ ⟨B.returns, rfl⟩ s.heap [] _ hP hD va_S.rf (xL_entry av hcat hn _ r rfl)

theorem xfm {α : Type} {w : List α} : ∀ {is : List Nat} {f : Nat → Option α}, is.map f = w.map some → is.filterMap f = w := by
  induction w with
  | nil =>
    intro is f h
    cases is with
    | nil => rfl
    | cons a r => simp at h
  | cons x w ih =>
    intro is f h
    cases is with
    | nil => simp at h
    | cons a r =>
      simp only [List.map_cons, List.cons.injEq] at h
      rw [List.filterMap_cons, h.1]
      exact congrArg _ (ih h.2)
theorem xself (ws : va_W) : (List.range ws.length).map (fun i => ws[i]?) = ws.map some := by
  apply List.ext_getElem?
  intro i
  by_cases h : i < ws.length
  · simp [h]
  · simp [h]
theorem xnd : ∀ (l : List Nat), l.Nodup → va_nd l = true
  | [], _ => rfl
  | a :: r, h => by
    have h2 := List.nodup_cons.mp h
    simp only [va_nd, Bool.and_eq_true, decide_eq_true_eq]
    exact ⟨h2.1, xnd r h2.2⟩
theorem xblind {D : va_G} {tys : List (ClassId × FieldType)} {ws : va_W} {sz : Nat} {av : List Value} : FrameBlind (va_Pc av (xPre D tys ws sz)) := fun a U g mk q => by
  obtain ⟨q0, q1, qP, qK, qD⟩ := q
  exact ⟨q0, q1, qP, va_K.moved (u := U) (U := U.calling g mk a) (Vm.Alike.refl U.vm) qK, qD⟩
def xCW (R : Room) (own C : String) (idx : Nat) (y : MethodName) (cc : ByteArray) (nL : Nat) (ret : Option FieldType) (rm : Room) (n : Nat) : Prop := ∀ (args : Array Value) (s : State), (∀ w ∈ lw_all, w.before args s = true) → CallW R s args own C idx y cc nL ret (ws_ y cc nL ret) rm 0 0 n
def xCS (R : Room) (own : String) (idx : Nat) (y : MethodName) (cc : ByteArray) (nL : Nat) (ret : Option FieldType) (rm : Room) (n : Nat) : Prop := ∀ (args : Array Value) (s : State), (∀ w ∈ lw_all, w.before args s = true) → CallB R s args own idx y cc nL ret (ws_ y cc nL ret) rm 0 0 n ∧ (Cond.static y).before args s = true
theorem xcw {R : Room} {own C : String} {idx : Nat} {y : MethodName} {cc : ByteArray} {nL : Nat} {ret : Option FieldType} {rm : Room} (n : Nat) (hT : GoodIn lw_all (wsV own idx C y (ws_ y cc nL ret))) (hrc : rm.cells = 0) (hrs : rm.slots = 0) (hd : y.cls = C ∧ y.cls ≠ "java/lang/invoke/MethodHandle" ∧ y.cls ≠ "java/lang/invoke/VarHandle" ∧ (parseMethodDescriptor y.desc).map (fun d => d.parameters.length) = some n) (hR : rm.frames + 1 ≤ R.frames ∧ 8 + (nL + 11) + rm.locals ≤ R.locals) : xCW R own C idx y cc nL ret rm n := fun _ _ h => cwV n h hT rfl hrc hrs hd hR
theorem xcs {R : Room} {own : String} {idx : Nat} {y : MethodName} {cc : ByteArray} {nL : Nat} {ret : Option FieldType} {rm : Room} (n : Nat) (hT : GoodIn lw_all (va_wsS own idx y (ws_ y cc nL ret))) (hrc : rm.cells = 0) (hrs : rm.slots = 0) (hd : y.cls ≠ "java/lang/invoke/MethodHandle" ∧ y.cls ≠ "java/lang/invoke/VarHandle" ∧ (parseMethodDescriptor y.desc).map (fun d => d.parameters.length) = some n) (hR : rm.frames + 1 ≤ R.frames ∧ 8 + (nL + 11) + rm.locals ≤ R.locals) : xCS R own idx y cc nL ret rm n := fun _ _ h => va_cwS n h hT rfl hrc hrs hd hR
section XC
variable {l : Launch} {R : Room} {D : va_G} {tys : List (ClassId × FieldType)} {nL : Nat} {K : xK} {cc : ByteArray} {own : String} {ws : va_W} {lv : List (Option Value)} {pc : Nat}
variable {y : MethodName} {cc' : ByteArray} {nL' n idx : Nat} {ty : FieldType} {rm' : Room} {b : Nat} {As rest stk : List Value} {wc wr : va_W} {Cn : String}
theorem xr_callSi {post : Int32 → va_W → Prop} (C : xOk R D tys nL K cc own) (hM : xMi l D tys y cc' nL' ty rm' As [] post) (cw : xCS R own idx y cc' nL' (some ty) rm' n) (hn : As.length = n) (hst : stk = As.reverse ++ rest) (hcat : (rest.map fun v => v.category).sum ≤ 8) (hd : decode cc pc = .ok (.invokestatic idx, 3)) (k : ∀ (r : Int32) (w : va_W), post r w → xW l R D nL K ws lv (pc + 3) (.int r :: rest)) : xW l R D nL K ws lv pc stk := by
  obtain ⟨p, e, s, m, args, below, meth, c, Q, A, cells, slots⟩ := K
  obtain ⟨hx, hb, hml, hown, hts, hK, hA, hlk, hcs⟩ := C
  intro H locs ls hP hD hS hl
  subst hst
  have hPc : va_P D vwCl [] H := fun k q hk => by simp at hk
  have hFc : ∀ q, va_A [] H.size q → A q := by
    intro q h
    rcases h with ⟨k, e, h⟩ | h
    · simp at h
    · exact hA q (Nat.le_trans hS.1 h)
  refine va_calli (va_runS (As := As) (rest := rest) ⟨hx, hb, hml, hown, hts⟩ (hM H.size) (cw _ _ hts) ⟨xblind, fun U hU hW => ⟨rfl, by rw [hU], fun k q hk => by simp at hk, va_K.moved hW.alike hK, ⟨fun i j x y hx => by simp at hx, fun k q hk => by simp at hk⟩⟩⟩ rfl hn hl.1.1 rfl (lv_room hcat) hd hcs) hS (fun q _ h => hFc q h) hFc (fun r u t H1 locs ht hvm hw1 hB hz1 hk1 hS => ?_)
  have hP : va_P D vwCl ws H1 := hP.kept (fun k q hk => hk1 q.1 ((hP k q hk).lt) (fun h => by
    rcases h with ⟨k, e, h⟩ | h
    · simp at h
    · exact absurd ((hP k q hk).lt) (Nat.not_lt.mpr h)))
  exact k r u hw1 H1 locs ls hP hD hS hl
theorem xr_callVi {post : Int32 → va_W → Prop} (C : xOk R D tys nL K cc own) (hM : xMi l D tys y cc' nL' ty rm' (.ref b :: As) wc post) (cw : xCW R own Cn idx y cc' nL' (some ty) rm' n) (isC isR : List Nat) (hC : isC.map (fun i => ws[i]?) = wc.map some) (hR : isR.map (fun i => ws[i]?) = wr.map some) (hnC : va_nd isC = true) (hnR : va_nd isR = true) (hdis : ∀ i ∈ isR, i ∉ isC) (q0 : Nat) {ci N : Nat} {fs : List Value} {T : u_T} (he : wc[q0]? = some (b, .inr (ci, fs))) (hcl : vwCl[ci]? = some (Cn, T, N)) (hn : As.length = n) (hst : stk = As.reverse ++ .ref b :: rest) (hcat : (rest.map fun v => v.category).sum ≤ 8) (hd : decode cc pc = .ok (.invokevirtual idx, 3)) (k : ∀ (r : Int32) (w : va_W), post r w → xW l R D nL K (wr ++ w) lv (pc + 3) (.int r :: rest)) : xW l R D nL K ws lv pc stk := by
  obtain ⟨p, e, s, m, args, below, meth, c, Q, A, cells, slots⟩ := K
  obtain ⟨hx, hb, hml, hown, hts, hK, hA, hlk, hcs⟩ := C
  intro H locs ls hP hD hS hl
  subst hst
  have hPc : va_P D vwCl wc H := hP.sub (ws' := wc) isC (xfm hC)
  have hDc := hD.sub (ws' := wc) isC hnC hC
  have hFc := va_free (wc := wc) hD hS hA isC hC
  refine va_calli (va_runV (As := As) (rest := rest) ⟨hx, hb, hml, hown, hts⟩ (hM H.size) (cw _ _ hts) ⟨xblind, va_recv hK hPc hcl he, fun U hU hW => ⟨rfl, by rw [hU], by rw [hU]; exact hPc, va_K.moved hW.alike hK, hDc.weaken (fun _ _ _ _ => trivial)⟩⟩ rfl hn hl.1.1 rfl (lv_room hcat) hd hcs) hS (fun q _ h => hFc q h) hFc (fun r u t H1 locs ht hvm hw1 hB hz1 hk1 hS => ?_)
  obtain ⟨hP1, hK1, hD1⟩ := hB
  rw [ht] at hP1
  obtain ⟨hP, hD⟩ := va_join (wr := wr) (w1 := u) hP hD isC isR hC hR hnR hdis hk1 hFc hP1 hD1
  exact k r u hw1 H1 locs ls hP hD hS hl
theorem xr_callVv {post : va_W → Prop} (C : xOk R D tys nL K cc own) (hM : xMv l D tys y cc' nL' rm' (.ref b :: As) wc post) (cw : xCW R own Cn idx y cc' nL' none rm' n) (isC isR : List Nat) (hC : isC.map (fun i => ws[i]?) = wc.map some) (hR : isR.map (fun i => ws[i]?) = wr.map some) (hnC : va_nd isC = true) (hnR : va_nd isR = true) (hdis : ∀ i ∈ isR, i ∉ isC) (q0 : Nat) {ci N : Nat} {fs : List Value} {T : u_T} (he : wc[q0]? = some (b, .inr (ci, fs))) (hcl : vwCl[ci]? = some (Cn, T, N)) (hn : As.length = n) (hst : stk = As.reverse ++ .ref b :: rest) (hcat : (rest.map fun v => v.category).sum ≤ 8) (hd : decode cc pc = .ok (.invokevirtual idx, 3)) (k : ∀ (w : va_W), post w → xW l R D nL K (wr ++ w) lv (pc + 3) rest) : xW l R D nL K ws lv pc stk := by
  obtain ⟨p, e, s, m, args, below, meth, c, Q, A, cells, slots⟩ := K
  obtain ⟨hx, hb, hml, hown, hts, hK, hA, hlk, hcs⟩ := C
  intro H locs ls hP hD hS hl
  subst hst
  have hPc : va_P D vwCl wc H := hP.sub (ws' := wc) isC (xfm hC)
  have hDc := hD.sub (ws' := wc) isC hnC hC
  have hFc := va_free (wc := wc) hD hS hA isC hC
  refine va_callv (va_runV (As := As) (rest := rest) ⟨hx, hb, hml, hown, hts⟩ (hM H.size) (cw _ _ hts) ⟨xblind, va_recv hK hPc hcl he, fun U hU hW => ⟨rfl, by rw [hU], by rw [hU]; exact hPc, va_K.moved hW.alike hK, hDc.weaken (fun _ _ _ _ => trivial)⟩⟩ rfl hn hl.1.1 rfl (lv_room hcat) hd hcs) hS (fun q _ h => hFc q h) hFc (fun u t H1 locs ht hvm hw1 hB hz1 hk1 hS => ?_)
  obtain ⟨hP1, hK1, hD1⟩ := hB
  rw [ht] at hP1
  obtain ⟨hP, hD⟩ := va_join (wr := wr) (w1 := u) hP hD isC isR hC hR hnR hdis hk1 hFc hP1 hD1
  exact k u hw1 H1 locs ls hP hD hS hl
/-- a call that takes all cells along -/
theorem xr_callWi {post : Int32 → va_W → Prop} (C : xOk R D tys nL K cc own) (hM : xMi l D tys y cc' nL' ty rm' (.ref b :: As) ws post) (cw : xCW R own Cn idx y cc' nL' (some ty) rm' n) (q0 : Nat) {ci N : Nat} {fs : List Value} {T : u_T} (he : ws[q0]? = some (b, .inr (ci, fs))) (hcl : vwCl[ci]? = some (Cn, T, N)) (hn : As.length = n) (hst : stk = As.reverse ++ .ref b :: rest) (hcat : (rest.map fun v => v.category).sum ≤ 8) (hd : decode cc pc = .ok (.invokevirtual idx, 3)) (k : ∀ (r : Int32) (w : va_W), post r w → xW l R D nL K w lv (pc + 3) (.int r :: rest)) : xW l R D nL K ws lv pc stk :=
  xr_callVi (wr := []) C hM cw (List.range ws.length) [] (xself ws) rfl (xnd _ List.nodup_range) rfl (fun i h => absurd h List.not_mem_nil) q0 he hcl hn hst hcat hd k
/-- a call that takes all cells along -/
theorem xr_callWv {post : va_W → Prop} (C : xOk R D tys nL K cc own) (hM : xMv l D tys y cc' nL' rm' (.ref b :: As) ws post) (cw : xCW R own Cn idx y cc' nL' none rm' n) (q0 : Nat) {ci N : Nat} {fs : List Value} {T : u_T} (he : ws[q0]? = some (b, .inr (ci, fs))) (hcl : vwCl[ci]? = some (Cn, T, N)) (hn : As.length = n) (hst : stk = As.reverse ++ .ref b :: rest) (hcat : (rest.map fun v => v.category).sum ≤ 8) (hd : decode cc pc = .ok (.invokevirtual idx, 3)) (k : ∀ (w : va_W), post w → xW l R D nL K w lv (pc + 3) rest) : xW l R D nL K ws lv pc stk :=
  xr_callVv (wr := []) C hM cw (List.range ws.length) [] (xself ws) rfl (xnd _ List.nodup_range) rfl (fun i h => absurd h List.not_mem_nil) q0 he hcl hn hst hcat hd k
end XC
end
section
set_option maxRecDepth 100000
theorem cw0_isLeaf {R : Room} (hR : 2 ≤ R.frames ∧ 42 ≤ R.locals) : xCW R RX0 RX0 47 yX0_isLeaf cX0_isLeaf 3 (some .boolean) ({ frames := 1, cells := 0, slots := 0, locals := 20 } : Room) 2 := xcw 2 (lw_V q70 q72 qs0 q19 q73) rfl rfl (by decide +kernel) hR
theorem cs0_isFeature {R : Room} (hR : 1 ≤ R.frames ∧ 20 ≤ R.locals) : xCS R RX0 51 yX0_isFeature cX0_isFeature 1 (some .boolean) ({ frames := 0, cells := 0, slots := 0, locals := 0 } : Room) 1 := xcs 1 (lw_S q77 q78 q19 q79) rfl rfl (by decide +kernel) hR
theorem cw0_moveUp {R : Room} (hR : 1 ≤ R.frames ∧ 22 ≤ R.locals) : xCW R RX0 RX0 58 yX0_moveUp cX0_moveUp 3 none ({ frames := 0, cells := 0, slots := 0, locals := 0 } : Room) 2 := xcw 2 (lw_V q80 q82 qs1 q19 q83) rfl rfl (by decide +kernel) hR
theorem cw0_insert {R : Room} (hR : 2 ≤ R.frames ∧ 47 ≤ R.locals) : xCW R RX0 RX0 62 yX0_insert cX0_insert 6 none ({ frames := 1, cells := 0, slots := 0, locals := 22 } : Room) 4 := xcw 4 (lw_V q84 q86 qs2 q19 q87) rfl rfl (by decide +kernel) hR
theorem cs0_isTree {R : Room} (hR : 1 ≤ R.frames ∧ 20 ≤ R.locals) : xCS R RX0 43 yX0_isTree cX0_isTree 1 (some .boolean) ({ frames := 0, cells := 0, slots := 0, locals := 0 } : Room) 1 := xcs 1 (lw_S q74 q75 q19 q76) rfl rfl (by decide +kernel) hR
theorem cw0_copyFork {R : Room} (hR : 1 ≤ R.frames ∧ 22 ≤ R.locals) : xCW R RX0 RX0 66 yX0_copyFork cX0_copyFork 3 none ({ frames := 0, cells := 0, slots := 0, locals := 0 } : Room) 2 := xcw 2 (lw_V q88 q90 qs3 q19 q91) rfl rfl (by decide +kernel) hR
theorem cw0_count {R : Room} (hR : 1 ≤ R.frames ∧ 22 ≤ R.locals) : xCW R RX0 RX0 69 yX0_count cX0_count 3 none ({ frames := 0, cells := 0, slots := 0, locals := 0 } : Room) 0 := xcw 0 (lw_V q92 q94 qs4 q19 q95) rfl rfl (by decide +kernel) hR
theorem cs0_isPoint {R : Room} (hR : 1 ≤ R.frames ∧ 20 ≤ R.locals) : xCS R RX0 79 yX0_isPoint cX0_isPoint 1 (some .boolean) ({ frames := 0, cells := 0, slots := 0, locals := 0 } : Room) 1 := xcs 1 (lw_S q116 q117 q19 q118) rfl rfl (by decide +kernel) hR
theorem cw0_sift {R : Room} (hR : 2 ≤ R.frames ∧ 47 ≤ R.locals) : xCW R RX0 RX0 82 yX0_sift cX0_sift 7 none ({ frames := 1, cells := 0, slots := 0, locals := 21 } : Room) 1 := xcw 1 (lw_V q120 q122 qs5 q19 q123) rfl rfl (by decide +kernel) hR
theorem cw0_firstLeft {R : Room} (hR : 1 ≤ R.frames ∧ 22 ≤ R.locals) : xCW R RX0 RX0 86 yX0_firstLeft cX0_firstLeft 3 (some .int) ({ frames := 0, cells := 0, slots := 0, locals := 0 } : Room) 1 := xcw 1 (lw_V q130 q132 qs6 q19 q133) rfl rfl (by decide +kernel) hR
theorem cs0_featureIn {R : Room} (hR : 1 ≤ R.frames ∧ 21 ≤ R.locals) : xCS R RX0 72 yX0_featureIn cX0_featureIn 2 (some .int) ({ frames := 0, cells := 0, slots := 0, locals := 0 } : Room) 2 := xcs 2 (lw_S q124 q125 q19 q126) rfl rfl (by decide +kernel) hR
theorem cs0_span {R : Room} (hR : 1 ≤ R.frames ∧ 21 ≤ R.locals) : xCS R RX0 76 yX0_span cX0_span 2 (some .int) ({ frames := 0, cells := 0, slots := 0, locals := 0 } : Room) 2 := xcs 2 (lw_S q127 q128 q19 q129) rfl rfl (by decide +kernel) hR
theorem cw0_scoreOf {R : Room} (hR : 3 ≤ R.frames ∧ 71 ≤ R.locals) : xCW R RX0 RX0 90 yX0_scoreOf cX0_scoreOf 5 (some .int) ({ frames := 2, cells := 0, slots := 0, locals := 47 } : Room) 1 := xcw 1 (lw_V q138 q140 qs7 q19 q141) rfl rfl (by decide +kernel) hR
theorem cs0_withFeature {R : Room} (hR : 1 ≤ R.frames ∧ 22 ≤ R.locals) : xCS R RX0 93 yX0_withFeature cX0_withFeature 3 (some .int) ({ frames := 0, cells := 0, slots := 0, locals := 0 } : Room) 3 := xcs 3 (lw_S q150 q151 q19 q152) rfl rfl (by decide +kernel) hR
theorem cw0_canReach {R : Room} (hR : 2 ≤ R.frames ∧ 50 ≤ R.locals) : xCW R RX0 RX0 103 yX0_canReach cX0_canReach 5 (some .boolean) ({ frames := 1, cells := 0, slots := 0, locals := 26 } : Room) 2 := xcw 2 (lw_V q161 q163 qs8 q19 q164) rfl rfl (by decide +kernel) hR
theorem cw0_lowEnd {R : Room} (hR : 1 ≤ R.frames ∧ 26 ≤ R.locals) : xCW R RX0 RX0 97 yX0_lowEnd cX0_lowEnd 7 (some .int) ({ frames := 0, cells := 0, slots := 0, locals := 0 } : Room) 3 := xcw 3 (lw_V q165 q167 qs9 q19 q168) rfl rfl (by decide +kernel) hR
theorem cw0_highEnd {R : Room} (hR : 1 ≤ R.frames ∧ 26 ≤ R.locals) : xCW R RX0 RX0 100 yX0_highEnd cX0_highEnd 7 (some .int) ({ frames := 0, cells := 0, slots := 0, locals := 0 } : Room) 3 := xcw 3 (lw_V q169 q171 qs10 q19 q172) rfl rfl (by decide +kernel) hR
theorem cw1_find {R : Room} (hR : 2 ≤ R.frames ∧ 45 ≤ R.locals) : xCW R RX1 RX1 29 yX1_find cX1_find 5 (some .int) ({ frames := 1, cells := 0, slots := 0, locals := 21 } : Room) 2 := xcw 2 (lw_V q207 q209 qs11 q20 q210) rfl rfl (by decide +kernel) hR
theorem cw1_leaves {R : Room} (hR : 2 ≤ R.frames ∧ 42 ≤ R.locals) : xCW R RX1 RX1 33 yX1_leaves cX1_leaves 2 (some .int) ({ frames := 1, cells := 0, slots := 0, locals := 21 } : Room) 1 := xcw 1 (lw_V q215 q216 q217 q20 q218) rfl rfl (by decide +kernel) hR
theorem cw1_tree {R : Room} (hR : 1 ≤ R.frames ∧ 21 ≤ R.locals) : xCW R RX1 RX1 25 yX1_tree cX1_tree 2 (some .boolean) ({ frames := 0, cells := 0, slots := 0, locals := 0 } : Room) 1 := xcw 1 (lw_V q211 q213 qs12 q20 q214) rfl rfl (by decide +kernel) hR
theorem cw1_point {R : Room} (hR : 1 ≤ R.frames ∧ 21 ≤ R.locals) : xCW R RX1 RX1 41 yX1_point cX1_point 2 (some .boolean) ({ frames := 0, cells := 0, slots := 0, locals := 0 } : Room) 1 := xcw 1 (lw_V q236 q238 qs13 q20 q239) rfl rfl (by decide +kernel) hR
theorem cw1_walk {R : Room} (hR : 2 ≤ R.frames ∧ 50 ≤ R.locals) : xCW R RX1 RX1 44 yX1_walk cX1_walk 7 (some .int) ({ frames := 1, cells := 0, slots := 0, locals := 24 } : Room) 2 := xcw 2 (lw_V q241 q243 qs14 q20 q244) rfl rfl (by decide +kernel) hR
theorem cw1_behind {R : Room} (hR : 1 ≤ R.frames ∧ 24 ≤ R.locals) : xCW R RX1 RX1 38 yX1_behind cX1_behind 5 (some .int) ({ frames := 0, cells := 0, slots := 0, locals := 0 } : Room) 2 := xcw 2 (lw_V q245 q247 qs15 q20 q248) rfl rfl (by decide +kernel) hR
theorem cw1_value {R : Room} (hR : 3 ≤ R.frames ∧ 68 ≤ R.locals) : xCW R RX1 RX1 47 yX1_value cX1_value 4 (some .int) ({ frames := 2, cells := 0, slots := 0, locals := 45 } : Room) 2 := xcw 2 (lw_V q253 q229 q230 q20 q231) rfl rfl (by decide +kernel) hR
theorem cw1_with {R : Room} (hR : 1 ≤ R.frames ∧ 23 ≤ R.locals) : xCW R RX1 RX1 50 yX1_with cX1_with 4 (some .int) ({ frames := 0, cells := 0, slots := 0, locals := 0 } : Room) 3 := xcw 3 (lw_V q262 q264 qs16 q20 q265) rfl rfl (by decide +kernel) hR
theorem cw1_score {R : Room} (hR : 4 ≤ R.frames ∧ 92 ≤ R.locals) : xCW R RX1 RX1 54 yX1_score cX1_score 5 (some .int) ({ frames := 3, cells := 0, slots := 0, locals := 68 } : Room) 1 := xcw 1 (lw_V q270 q250 q251 q20 q252) rfl rfl (by decide +kernel) hR
theorem cw1_box {R : Room} (hR : 3 ≤ R.frames ∧ 73 ≤ R.locals) : xCW R RX1 RX1 57 yX1_box cX1_box 9 (some .boolean) ({ frames := 2, cells := 0, slots := 0, locals := 45 } : Room) 2 := xcw 2 (lw_V q275 q277 qs17 q20 q278) rfl rfl (by decide +kernel) hR
theorem cwL0_split {R : Room} (hR : 3 ≤ R.frames ∧ 72 ≤ R.locals) : xCW R "TreeScorerLaw" RX0 13 yX0_split cX0_split 6 (some .int) ({ frames := 2, cells := 0, slots := 0, locals := 47 } : Room) 4 := xcw 4 (lw_V q66 q67 q68 q19 q69) rfl rfl (by decide +kernel) hR
theorem cwL1_split {R : Room} (hR : 3 ≤ R.frames ∧ 71 ≤ R.locals) : xCW R "TreeScorerLaw" RX1 17 yX1_split cX1_split 7 (some .int) ({ frames := 2, cells := 0, slots := 0, locals := 45 } : Room) 4 := xcw 4 (lw_V q203 q204 q205 q20 q206) rfl rfl (by decide +kernel) hR
theorem cwL0_setValue {R : Room} (hR : 3 ≤ R.frames ∧ 65 ≤ R.locals) : xCW R "TreeScorerLaw" RX0 18 yX0_setValue cX0_setValue 4 (some .boolean) ({ frames := 2, cells := 0, slots := 0, locals := 42 } : Room) 3 := xcw 3 (lw_V q96 q97 q98 q19 q99) rfl rfl (by decide +kernel) hR
theorem cwL1_setValue {R : Room} (hR : 3 ≤ R.frames ∧ 69 ≤ R.locals) : xCW R "TreeScorerLaw" RX1 22 yX1_setValue cX1_setValue 5 (some .boolean) ({ frames := 2, cells := 0, slots := 0, locals := 45 } : Room) 3 := xcw 3 (lw_V q219 q220 q221 q20 q222) rfl rfl (by decide +kernel) hR
theorem cwL0_clear {R : Room} (hR : 2 ≤ R.frames ∧ 45 ≤ R.locals) : xCW R "TreeScorerLaw" RX0 23 yX0_clear cX0_clear 4 (some .boolean) ({ frames := 1, cells := 0, slots := 0, locals := 22 } : Room) 1 := xcw 1 (lw_V q100 q101 q102 q19 q103) rfl rfl (by decide +kernel) hR
theorem cwL1_clear {R : Room} (hR : 2 ≤ R.frames ∧ 42 ≤ R.locals) : xCW R "TreeScorerLaw" RX1 27 yX1_clear cX1_clear 2 (some .boolean) ({ frames := 1, cells := 0, slots := 0, locals := 21 } : Room) 1 := xcw 1 (lw_V q223 q224 q225 q20 q226) rfl rfl (by decide +kernel) hR
theorem cwL0_leaves {R : Room} (hR : 2 ≤ R.frames ∧ 41 ≤ R.locals) : xCW R "TreeScorerLaw" RX0 28 yX0_leaves cX0_leaves 2 (some .int) ({ frames := 1, cells := 0, slots := 0, locals := 20 } : Room) 1 := xcw 1 (lw_V q104 q105 q106 q19 q107) rfl rfl (by decide +kernel) hR
theorem cwL1_leaves {R : Room} (hR : 2 ≤ R.frames ∧ 42 ≤ R.locals) : xCW R "TreeScorerLaw" RX1 32 yX1_leaves cX1_leaves 2 (some .int) ({ frames := 1, cells := 0, slots := 0, locals := 21 } : Room) 1 := xcw 1 (lw_V q227 q216 q217 q20 q218) rfl rfl (by decide +kernel) hR
theorem cwL0_value {R : Room} (hR : 3 ≤ R.frames ∧ 64 ≤ R.locals) : xCW R "TreeScorerLaw" RX0 33 yX0_value cX0_value 3 (some .int) ({ frames := 2, cells := 0, slots := 0, locals := 42 } : Room) 2 := xcw 2 (lw_V q108 q109 q110 q19 q111) rfl rfl (by decide +kernel) hR
theorem cwL1_value {R : Room} (hR : 3 ≤ R.frames ∧ 68 ≤ R.locals) : xCW R "TreeScorerLaw" RX1 37 yX1_value cX1_value 4 (some .int) ({ frames := 2, cells := 0, slots := 0, locals := 45 } : Room) 2 := xcw 2 (lw_V q228 q229 q230 q20 q231) rfl rfl (by decide +kernel) hR
theorem cwL0_leafOf {R : Room} (hR : 3 ≤ R.frames ∧ 69 ≤ R.locals) : xCW R "TreeScorerLaw" RX0 38 yX0_leafOf cX0_leafOf 3 (some .int) ({ frames := 2, cells := 0, slots := 0, locals := 47 } : Room) 2 := xcw 2 (lw_V q112 q113 q114 q19 q115) rfl rfl (by decide +kernel) hR
theorem cwL1_leafOf {R : Room} (hR : 3 ≤ R.frames ∧ 72 ≤ R.locals) : xCW R "TreeScorerLaw" RX1 41 yX1_leafOf cX1_leafOf 3 (some .int) ({ frames := 2, cells := 0, slots := 0, locals := 50 } : Room) 2 := xcw 2 (lw_V q232 q233 q234 q20 q235) rfl rfl (by decide +kernel) hR
theorem cwL0_score {R : Room} (hR : 4 ≤ R.frames ∧ 92 ≤ R.locals) : xCW R "TreeScorerLaw" RX0 42 yX0_score cX0_score 2 (some .int) ({ frames := 3, cells := 0, slots := 0, locals := 71 } : Room) 1 := xcw 1 (lw_V q134 q135 q136 q19 q137) rfl rfl (by decide +kernel) hR
theorem cwL1_score {R : Room} (hR : 4 ≤ R.frames ∧ 92 ≤ R.locals) : xCW R "TreeScorerLaw" RX1 45 yX1_score cX1_score 5 (some .int) ({ frames := 3, cells := 0, slots := 0, locals := 68 } : Room) 1 := xcw 1 (lw_V q249 q250 q251 q20 q252) rfl rfl (by decide +kernel) hR
theorem cwL0_depth {R : Room} (hR : 3 ≤ R.frames ∧ 71 ≤ R.locals) : xCW R "TreeScorerLaw" RX0 46 yX0_depth cX0_depth 5 (some .int) ({ frames := 2, cells := 0, slots := 0, locals := 47 } : Room) 1 := xcw 1 (lw_V q142 q143 q144 q19 q145) rfl rfl (by decide +kernel) hR
theorem cwL1_depth {R : Room} (hR : 3 ≤ R.frames ∧ 73 ≤ R.locals) : xCW R "TreeScorerLaw" RX1 49 yX1_depth cX1_depth 4 (some .int) ({ frames := 2, cells := 0, slots := 0, locals := 50 } : Room) 1 := xcw 1 (lw_V q254 q255 q256 q20 q257) rfl rfl (by decide +kernel) hR
theorem cwL0_leavesAlong {R : Room} (hR : 3 ≤ R.frames ∧ 73 ≤ R.locals) : xCW R "TreeScorerLaw" RX0 50 yX0_leavesAlong cX0_leavesAlong 7 (some .int) ({ frames := 2, cells := 0, slots := 0, locals := 47 } : Room) 3 := xcw 3 (lw_V q146 q147 q148 q19 q149) rfl rfl (by decide +kernel) hR
theorem cwL1_leavesAlong {R : Room} (hR : 3 ≤ R.frames ∧ 76 ≤ R.locals) : xCW R "TreeScorerLaw" RX1 54 yX1_leavesAlong cX1_leavesAlong 7 (some .int) ({ frames := 2, cells := 0, slots := 0, locals := 50 } : Room) 3 := xcw 3 (lw_V q258 q259 q260 q20 q261) rfl rfl (by decide +kernel) hR
theorem cwL0_bestValue {R : Room} (hR : 4 ≤ R.frames ∧ 98 ≤ R.locals) : xCW R "TreeScorerLaw" RX0 55 yX0_bestValue cX0_bestValue 8 (some .int) ({ frames := 3, cells := 0, slots := 0, locals := 71 } : Room) 2 := xcw 2 (lw_V q153 q154 q155 q19 q156) rfl rfl (by decide +kernel) hR
theorem cwL1_bestValue {R : Room} (hR : 5 ≤ R.frames ∧ 120 ≤ R.locals) : xCW R "TreeScorerLaw" RX1 58 yX1_bestValue cX1_bestValue 9 (some .int) ({ frames := 4, cells := 0, slots := 0, locals := 92 } : Room) 2 := xcw 2 (lw_V q266 q267 q268 q20 q269) rfl rfl (by decide +kernel) hR
theorem cwL0_reachable {R : Room} (hR : 3 ≤ R.frames ∧ 73 ≤ R.locals) : xCW R "TreeScorerLaw" RX0 59 yX0_reachable cX0_reachable 4 (some .int) ({ frames := 2, cells := 0, slots := 0, locals := 50 } : Room) 1 := xcw 1 (lw_V q157 q158 q159 q19 q160) rfl rfl (by decide +kernel) hR
theorem cwL1_reachable {R : Room} (hR : 4 ≤ R.frames ∧ 96 ≤ R.locals) : xCW R "TreeScorerLaw" RX1 62 yX1_reachable cX1_reachable 4 (some .int) ({ frames := 3, cells := 0, slots := 0, locals := 73 } : Room) 1 := xcw 1 (lw_V q271 q272 q273 q20 q274) rfl rfl (by decide +kernel) hR
theorem cwL0_range {R : Room} (hR : 3 ≤ R.frames ∧ 74 ≤ R.locals) : xCW R "TreeScorerLaw" RX0 63 yX0_range cX0_range 5 (some .int) ({ frames := 2, cells := 0, slots := 0, locals := 50 } : Room) 4 := xcw 4 (lw_V q173 q174 q175 q19 q176) rfl rfl (by decide +kernel) hR
theorem cwL1_range {R : Room} (hR : 4 ≤ R.frames ∧ 97 ≤ R.locals) : xCW R "TreeScorerLaw" RX1 66 yX1_range cX1_range 5 (some .int) ({ frames := 3, cells := 0, slots := 0, locals := 73 } : Room) 4 := xcw 4 (lw_V q279 q280 q281 q20 q282) rfl rfl (by decide +kernel) hR
theorem cwL0_asks {R : Room} (hR : 2 ≤ R.frames ∧ 41 ≤ R.locals) : xCW R "TreeScorerLaw" RX0 67 yX0_asks cX0_asks 2 (some .int) ({ frames := 1, cells := 0, slots := 0, locals := 20 } : Room) 1 := xcw 1 (lw_V q177 q178 q179 q19 q180) rfl rfl (by decide +kernel) hR
theorem cwL1_asks {R : Room} (hR : 1 ≤ R.frames ∧ 23 ≤ R.locals) : xCW R "TreeScorerLaw" RX1 70 yX1_asks cX1_asks 4 (some .int) ({ frames := 0, cells := 0, slots := 0, locals := 0 } : Room) 1 := xcw 1 (lw_V q283 q284 q285 q20 q286) rfl rfl (by decide +kernel) hR
theorem x0g_7 {l : Launch} {R : Room} {D : va_G} {tys : List (ClassId × FieldType)} {nL : Nat} {K : xK} {cc : ByteArray} {ws : va_W} {lv : List (Option Value)} {pc : Nat} {st : List Value} (C : xOk R D tys nL K cc RX0) (q0 : Nat) {a : Nat} {fs : List Value} (he : ws[q0]? = some (a, .inr (0, fs))) {v : Value} (hv : fs[0]? = some v) (hd : decode cc pc = .ok (.getfield 7, 3)) (k : xW l R D nL K ws lv (pc + 3) (v :: st)) : xW l R D nL K ws lv pc (.ref a :: st) := xr_get C in_X0 q0 he rfl 0 (by decide) q29 rfl hv hd k
theorem x0g_13 {l : Launch} {R : Room} {D : va_G} {tys : List (ClassId × FieldType)} {nL : Nat} {K : xK} {cc : ByteArray} {ws : va_W} {lv : List (Option Value)} {pc : Nat} {st : List Value} (C : xOk R D tys nL K cc RX0) (q0 : Nat) {a : Nat} {fs : List Value} (he : ws[q0]? = some (a, .inr (0, fs))) {v : Value} (hv : fs[1]? = some v) (hd : decode cc pc = .ok (.getfield 13, 3)) (k : xW l R D nL K ws lv (pc + 3) (v :: st)) : xW l R D nL K ws lv pc (.ref a :: st) := xr_get C in_X0 q0 he rfl 1 (by decide) q30 rfl hv hd k
theorem x0g_17 {l : Launch} {R : Room} {D : va_G} {tys : List (ClassId × FieldType)} {nL : Nat} {K : xK} {cc : ByteArray} {ws : va_W} {lv : List (Option Value)} {pc : Nat} {st : List Value} (C : xOk R D tys nL K cc RX0) (q0 : Nat) {a : Nat} {fs : List Value} (he : ws[q0]? = some (a, .inr (0, fs))) {v : Value} (hv : fs[3]? = some v) (hd : decode cc pc = .ok (.getfield 17, 3)) (k : xW l R D nL K ws lv (pc + 3) (v :: st)) : xW l R D nL K ws lv pc (.ref a :: st) := xr_get C in_X0 q0 he rfl 3 (by decide) q32 rfl hv hd k
theorem x0g_20 {l : Launch} {R : Room} {D : va_G} {tys : List (ClassId × FieldType)} {nL : Nat} {K : xK} {cc : ByteArray} {ws : va_W} {lv : List (Option Value)} {pc : Nat} {st : List Value} (C : xOk R D tys nL K cc RX0) (q0 : Nat) {a : Nat} {fs : List Value} (he : ws[q0]? = some (a, .inr (0, fs))) {v : Value} (hv : fs[4]? = some v) (hd : decode cc pc = .ok (.getfield 20, 3)) (k : xW l R D nL K ws lv (pc + 3) (v :: st)) : xW l R D nL K ws lv pc (.ref a :: st) := xr_get C in_X0 q0 he rfl 4 (by decide) q33 rfl hv hd k
theorem x0g_23 {l : Launch} {R : Room} {D : va_G} {tys : List (ClassId × FieldType)} {nL : Nat} {K : xK} {cc : ByteArray} {ws : va_W} {lv : List (Option Value)} {pc : Nat} {st : List Value} (C : xOk R D tys nL K cc RX0) (q0 : Nat) {a : Nat} {fs : List Value} (he : ws[q0]? = some (a, .inr (0, fs))) {v : Value} (hv : fs[5]? = some v) (hd : decode cc pc = .ok (.getfield 23, 3)) (k : xW l R D nL K ws lv (pc + 3) (v :: st)) : xW l R D nL K ws lv pc (.ref a :: st) := xr_get C in_X0 q0 he rfl 5 (by decide) q34 rfl hv hd k
theorem x0g_26 {l : Launch} {R : Room} {D : va_G} {tys : List (ClassId × FieldType)} {nL : Nat} {K : xK} {cc : ByteArray} {ws : va_W} {lv : List (Option Value)} {pc : Nat} {st : List Value} (C : xOk R D tys nL K cc RX0) (q0 : Nat) {a : Nat} {fs : List Value} (he : ws[q0]? = some (a, .inr (0, fs))) {v : Value} (hv : fs[6]? = some v) (hd : decode cc pc = .ok (.getfield 26, 3)) (k : xW l R D nL K ws lv (pc + 3) (v :: st)) : xW l R D nL K ws lv pc (.ref a :: st) := xr_get C in_X0 q0 he rfl 6 (by decide) q35 rfl hv hd k
theorem x0g_29 {l : Launch} {R : Room} {D : va_G} {tys : List (ClassId × FieldType)} {nL : Nat} {K : xK} {cc : ByteArray} {ws : va_W} {lv : List (Option Value)} {pc : Nat} {st : List Value} (C : xOk R D tys nL K cc RX0) (q0 : Nat) {a : Nat} {fs : List Value} (he : ws[q0]? = some (a, .inr (0, fs))) {v : Value} (hv : fs[7]? = some v) (hd : decode cc pc = .ok (.getfield 29, 3)) (k : xW l R D nL K ws lv (pc + 3) (v :: st)) : xW l R D nL K ws lv pc (.ref a :: st) := xr_get C in_X0 q0 he rfl 7 (by decide) q36 rfl hv hd k
theorem x0g_32 {l : Launch} {R : Room} {D : va_G} {tys : List (ClassId × FieldType)} {nL : Nat} {K : xK} {cc : ByteArray} {ws : va_W} {lv : List (Option Value)} {pc : Nat} {st : List Value} (C : xOk R D tys nL K cc RX0) (q0 : Nat) {a : Nat} {fs : List Value} (he : ws[q0]? = some (a, .inr (0, fs))) {v : Value} (hv : fs[8]? = some v) (hd : decode cc pc = .ok (.getfield 32, 3)) (k : xW l R D nL K ws lv (pc + 3) (v :: st)) : xW l R D nL K ws lv pc (.ref a :: st) := xr_get C in_X0 q0 he rfl 8 (by decide) q37 rfl hv hd k
theorem x0g_35 {l : Launch} {R : Room} {D : va_G} {tys : List (ClassId × FieldType)} {nL : Nat} {K : xK} {cc : ByteArray} {ws : va_W} {lv : List (Option Value)} {pc : Nat} {st : List Value} (C : xOk R D tys nL K cc RX0) (q0 : Nat) {a : Nat} {fs : List Value} (he : ws[q0]? = some (a, .inr (0, fs))) {v : Value} (hv : fs[9]? = some v) (hd : decode cc pc = .ok (.getfield 35, 3)) (k : xW l R D nL K ws lv (pc + 3) (v :: st)) : xW l R D nL K ws lv pc (.ref a :: st) := xr_get C in_X0 q0 he rfl 9 (by decide) q38 rfl hv hd k
theorem x0g_38 {l : Launch} {R : Room} {D : va_G} {tys : List (ClassId × FieldType)} {nL : Nat} {K : xK} {cc : ByteArray} {ws : va_W} {lv : List (Option Value)} {pc : Nat} {st : List Value} (C : xOk R D tys nL K cc RX0) (q0 : Nat) {a : Nat} {fs : List Value} (he : ws[q0]? = some (a, .inr (0, fs))) {v : Value} (hv : fs[10]? = some v) (hd : decode cc pc = .ok (.getfield 38, 3)) (k : xW l R D nL K ws lv (pc + 3) (v :: st)) : xW l R D nL K ws lv pc (.ref a :: st) := xr_get C in_X0 q0 he rfl 10 (by decide) q39 rfl hv hd k
theorem x0g_54 {l : Launch} {R : Room} {D : va_G} {tys : List (ClassId × FieldType)} {nL : Nat} {K : xK} {cc : ByteArray} {ws : va_W} {lv : List (Option Value)} {pc : Nat} {st : List Value} (C : xOk R D tys nL K cc RX0) (q0 : Nat) {a : Nat} {fs : List Value} (he : ws[q0]? = some (a, .inr (0, fs))) {v : Value} (hv : fs[2]? = some v) (hd : decode cc pc = .ok (.getfield 54, 3)) (k : xW l R D nL K ws lv (pc + 3) (v :: st)) : xW l R D nL K ws lv pc (.ref a :: st) := xr_get C in_X0 q0 he rfl 2 (by decide) q31 rfl hv hd k
theorem x0p_54 {l : Launch} {R : Room} {D : va_G} {tys : List (ClassId × FieldType)} {nL : Nat} {K : xK} {cc : ByteArray} {ws : va_W} {lv : List (Option Value)} {pc : Nat} {st : List Value} (C : xOk R D tys nL K cc RX0) (q0 : Nat) {a : Nat} {fs : List Value} (he : ws[q0]? = some (a, .inr (0, fs))) {v : Int32} (hlen : 2 < fs.length) {ws' : va_W} (hw : ws.set q0 (a, .inr (0, fs.set 2 (.int v))) = ws') (hd : decode cc pc = .ok (.putfield 54, 3)) (k : xW l R D nL K ws' lv (pc + 3) st) : xW l R D nL K ws lv pc (.int v :: .ref a :: st) := xr_put C in_X0 tyX0 tyX0_ok nmX0 q0 he rfl 2 (by decide) q31 rfl rfl (ty := .int) (by decide +kernel) rfl rfl hlen hw hd k
theorem x1g_7 {l : Launch} {R : Room} {D : va_G} {tys : List (ClassId × FieldType)} {nL : Nat} {K : xK} {cc : ByteArray} {ws : va_W} {lv : List (Option Value)} {pc : Nat} {st : List Value} (C : xOk R D tys nL K cc RX1) (q0 : Nat) {a : Nat} {fs : List Value} (he : ws[q0]? = some (a, .inr (1, fs))) {v : Value} (hv : fs[0]? = some v) (hd : decode cc pc = .ok (.getfield 7, 3)) (k : xW l R D nL K ws lv (pc + 3) (v :: st)) : xW l R D nL K ws lv pc (.ref a :: st) := xr_get C in_X1 q0 he rfl 0 (by decide) q187 rfl hv hd k
theorem x1g_13 {l : Launch} {R : Room} {D : va_G} {tys : List (ClassId × FieldType)} {nL : Nat} {K : xK} {cc : ByteArray} {ws : va_W} {lv : List (Option Value)} {pc : Nat} {st : List Value} (C : xOk R D tys nL K cc RX1) (q0 : Nat) {a : Nat} {fs : List Value} (he : ws[q0]? = some (a, .inr (1, fs))) {v : Value} (hv : fs[1]? = some v) (hd : decode cc pc = .ok (.getfield 13, 3)) (k : xW l R D nL K ws lv (pc + 3) (v :: st)) : xW l R D nL K ws lv pc (.ref a :: st) := xr_get C in_X1 q0 he rfl 1 (by decide) q188 rfl hv hd k
theorem x1g_16 {l : Launch} {R : Room} {D : va_G} {tys : List (ClassId × FieldType)} {nL : Nat} {K : xK} {cc : ByteArray} {ws : va_W} {lv : List (Option Value)} {pc : Nat} {st : List Value} (C : xOk R D tys nL K cc RX1) (q0 : Nat) {a : Nat} {fs : List Value} (he : ws[q0]? = some (a, .inr (1, fs))) {v : Value} (hv : fs[2]? = some v) (hd : decode cc pc = .ok (.getfield 16, 3)) (k : xW l R D nL K ws lv (pc + 3) (v :: st)) : xW l R D nL K ws lv pc (.ref a :: st) := xr_get C in_X1 q0 he rfl 2 (by decide) q189 rfl hv hd k
theorem x1g_19 {l : Launch} {R : Room} {D : va_G} {tys : List (ClassId × FieldType)} {nL : Nat} {K : xK} {cc : ByteArray} {ws : va_W} {lv : List (Option Value)} {pc : Nat} {st : List Value} (C : xOk R D tys nL K cc RX1) (q0 : Nat) {a : Nat} {fs : List Value} (he : ws[q0]? = some (a, .inr (1, fs))) {v : Value} (hv : fs[3]? = some v) (hd : decode cc pc = .ok (.getfield 19, 3)) (k : xW l R D nL K ws lv (pc + 3) (v :: st)) : xW l R D nL K ws lv pc (.ref a :: st) := xr_get C in_X1 q0 he rfl 3 (by decide) q190 rfl hv hd k
theorem x1g_22 {l : Launch} {R : Room} {D : va_G} {tys : List (ClassId × FieldType)} {nL : Nat} {K : xK} {cc : ByteArray} {ws : va_W} {lv : List (Option Value)} {pc : Nat} {st : List Value} (C : xOk R D tys nL K cc RX1) (q0 : Nat) {a : Nat} {fs : List Value} (he : ws[q0]? = some (a, .inr (1, fs))) {v : Value} (hv : fs[4]? = some v) (hd : decode cc pc = .ok (.getfield 22, 3)) (k : xW l R D nL K ws lv (pc + 3) (v :: st)) : xW l R D nL K ws lv pc (.ref a :: st) := xr_get C in_X1 q0 he rfl 4 (by decide) q191 rfl hv hd k
end
section
/-! TreeScorer: its cells, and its small methods -/
set_option maxRecDepth 100000
section XT
variable {l : Launch} {R : Room} {D : va_G} {tys : List (ClassId × FieldType)} {nL : Nat} {K : xK} {cc : ByteArray} {own : String} {ws : va_W} {lv : List (Option Value)} {pc : Nat} {st : List Value}
theorem xr_tern_le (C : xOk R D tys nL K cc own) {a b : Nat} {off off2 : Int} {tgt j : Nat} (ha : a < 2 ^ 31) (hb : b < 2 ^ 31) (hd0 : decode cc pc = .ok (.if_icmp .le off, 3)) (ht : (pc : Int) + off = (tgt : Int)) (hd1 : decode cc (pc + 3) = .ok (.iconst 1, 1)) (hd2 : decode cc (pc + 4) = .ok (.goto off2, 3)) (ht2 : ((pc + 4 : Nat) : Int) + off2 = (j : Int)) (hd3 : decode cc tgt = .ok (.iconst 0, 1)) (hj : tgt + 1 = j) (k : ∀ z : Nat, z = (if b < a then 1 else 0) → xW l R D nL K ws lv j (.int (nI z) :: st)) : xW l R D nL K ws lv pc (.int (nI b) :: .int (nI a) :: st) := by
  subst hj
  refine xr_icmp_leN C ha hb hd0 ht (fun h => ?_) (fun h => ?_)
  · exact xr_iconst (v := nI 0) C hd3 (by decide) (k 0 (by rw [if_neg (by omega)]))
  · exact xr_iconst (v := nI 1) C hd1 (by decide) (xr_goto C hd2 ht2 (k 1 (by rw [if_pos h])))
theorem xr_tern_lt (C : xOk R D tys nL K cc own) {a b : Nat} {off off2 : Int} {tgt j : Nat} (ha : a < 2 ^ 31) (hb : b < 2 ^ 31) (hd0 : decode cc pc = .ok (.if_icmp .lt off, 3)) (ht : (pc : Int) + off = (tgt : Int)) (hd1 : decode cc (pc + 3) = .ok (.iconst 1, 1)) (hd2 : decode cc (pc + 4) = .ok (.goto off2, 3)) (ht2 : ((pc + 4 : Nat) : Int) + off2 = (j : Int)) (hd3 : decode cc tgt = .ok (.iconst 0, 1)) (hj : tgt + 1 = j) (k : ∀ z : Nat, z = (if b ≤ a then 1 else 0) → xW l R D nL K ws lv j (.int (nI z) :: st)) : xW l R D nL K ws lv pc (.int (nI b) :: .int (nI a) :: st) := by
  subst hj
  refine xr_icmp_ltN C ha hb hd0 ht (fun h => ?_) (fun h => ?_)
  · exact xr_iconst (v := nI 0) C hd3 (by decide) (k 0 (by rw [if_neg (by omega)]))
  · exact xr_iconst (v := nI 1) C hd1 (by decide) (xr_goto C hd2 ht2 (k 1 (by rw [if_pos h])))
theorem xr_tern_ge (C : xOk R D tys nL K cc own) {a b : Nat} {off off2 : Int} {tgt j : Nat} (ha : a < 2 ^ 31) (hb : b < 2 ^ 31) (hd0 : decode cc pc = .ok (.if_icmp .ge off, 3)) (ht : (pc : Int) + off = (tgt : Int)) (hd1 : decode cc (pc + 3) = .ok (.iconst 1, 1)) (hd2 : decode cc (pc + 4) = .ok (.goto off2, 3)) (ht2 : ((pc + 4 : Nat) : Int) + off2 = (j : Int)) (hd3 : decode cc tgt = .ok (.iconst 0, 1)) (hj : tgt + 1 = j) (k : ∀ z : Nat, z = (if a < b then 1 else 0) → xW l R D nL K ws lv j (.int (nI z) :: st)) : xW l R D nL K ws lv pc (.int (nI b) :: .int (nI a) :: st) := by
  subst hj
  refine xr_icmp_geN C ha hb hd0 ht (fun h => ?_) (fun h => ?_)
  · exact xr_iconst (v := nI 0) C hd3 (by decide) (k 0 (by rw [if_neg (by omega)]))
  · exact xr_iconst (v := nI 1) C hd1 (by decide) (xr_goto C hd2 ht2 (k 1 (by rw [if_pos h])))
end XT
def xin (p : Int32) (N : Nat) : Prop := ∃ t : Nat, t < N ∧ p = nI t
theorem xin_neg {p : Int32} {N : Nat} (hN : N < 2 ^ 31) (h : p < 0) : ¬ xin p N := by
  rintro ⟨t, ht, rfl⟩
  exact nI_pos (by omega) h
theorem xin_ge {p : Int32} {N : Nat} (hN : N < 2 ^ 31) (h : nI N ≤ p) : ¬ xin p N := by
  rintro ⟨t, ht, rfl⟩
  exact nI_ge ht hN h
theorem xin_of {p : Int32} {N : Nat} (hN : N < 2 ^ 31) (h1 : ¬ p < 0) (h2 : ¬ nI N ≤ p) : xin p N := by
  rcases pk_ix p hN with h | h | h
  · exact absurd h h1
  · exact absurd h h2
  · exact h
theorem xin_gt {p : Int32} {N : Nat} (hN : N < 2 ^ 31) (h : nI N < p) : ¬ xin p (N + 1) := by
  rintro ⟨t, ht, rfl⟩
  exact nI_nlt (show t ≤ N by omega) hN h
theorem xin_of' {p : Int32} {N : Nat} (hN : N < 2 ^ 31) (h1 : ¬ p < 0) (h2 : ¬ nI N < p) : xin p (N + 1) := by
  obtain ⟨j, hj, rfl⟩ := nI_of h1
  refine ⟨j, ?_, rfl⟩
  have : ¬ N < j := fun h => h2 (nI_lt h hj)
  omega
abbrev xT (cB cI cS : ClassId) : List (ClassId × FieldType) := [(cB, .byte), (cI, .int), (cS, .short)]
/-- a fork: tree, feature, limit, first leaf, last leaf of the left part, last leaf -/
abbrev Fk : Type := Nat × Nat × Nat × Nat × Nat × Nat
def x0r (g : Nat → Nat) (cB cI cS : ClassId) (lc : Nat → Nat) (vs : Nat → Int32) (n : Nat) (tr ft lm fl ll le sa lf : Nat → Nat) : va_W :=
  [(g 0, .inr (0, [.ref (g 1), .ref (g 2), .int (nI n), .ref (g 3), .ref (g 4), .ref (g 5), .ref (g 6), .ref (g 7), .ref (g 8), .ref (g 9), .ref (g 10)])),
   (g 1, .inl (cB, 4, .inl (fun j => nI (lc j)))), (g 2, .inl (cI, 32, .inl vs)), (g 3, .inl (cB, 28, .inl (fun j => nI (tr j)))), (g 4, .inl (cB, 28, .inl (fun j => nI (ft j)))), (g 5, .inl (cB, 28, .inl (fun j => nI (lm j)))),
   (g 6, .inl (cB, 28, .inl (fun j => nI (fl j)))), (g 7, .inl (cB, 28, .inl (fun j => nI (ll j)))), (g 8, .inl (cB, 28, .inl (fun j => nI (le j)))), (g 9, .inl (cB, 5, .inl (fun j => nI (sa j)))), (g 10, .inl (cS, 4, .inl (fun j => nI (lf j))))]
def x0w (g : Nat → Nat) (cB cI cS : ClassId) (lc : Nat → Nat) (vs : Nat → Int32) (n : Nat) (fk : Nat → Fk) (sa lf : Nat → Nat) : va_W :=
  x0r g cB cI cS lc vs n (fun j => (fk j).1) (fun j => (fk j).2.1) (fun j => (fk j).2.2.1) (fun j => (fk j).2.2.2.1) (fun j => (fk j).2.2.2.2.1) (fun j => (fk j).2.2.2.2.2) sa lf
def okF (q : Fk) : Prop := q.1 < 4 ∧ q.2.1 < 4 ∧ q.2.2.1 < 16 ∧ q.2.2.2.1 < 8 ∧ q.2.2.2.2.1 < 8 ∧ q.2.2.2.2.2 < 8
def mvF (i : Nat) (q : Fk) : Fk := (q.1, q.2.1, q.2.2.1, q.2.2.2.1 + (if i < q.2.2.2.1 then 1 else 0), q.2.2.2.2.1 + (if i ≤ q.2.2.2.2.1 then 1 else 0), q.2.2.2.2.2 + (if i ≤ q.2.2.2.2.2 then 1 else 0))
theorem up_self {α : Type} (f : Nat → α) (k : Nat) : va_up f k (f k) = f := by
  funext j
  unfold va_up
  split
  · rename_i h; rw [h]
  · rfl
theorem up_map {α β : Type} (φ : α → β) (f : Nat → α) (k : Nat) (x : α) : (fun j => φ (va_up f k x j)) = va_up (fun j => φ (f j)) k (φ x) := by
  funext j
  unfold va_up
  split <;> rfl
theorem x0w_up {g : Nat → Nat} {cB cI cS : ClassId} {lc : Nat → Nat} {vs : Nat → Int32} {n : Nat} {fk : Nat → Fk} {sa lf : Nat → Nat} (k : Nat) (x : Fk) : x0w g cB cI cS lc vs n (va_up fk k x) sa lf = x0r g cB cI cS lc vs n (va_up (fun j => (fk j).1) k x.1) (va_up (fun j => (fk j).2.1) k x.2.1) (va_up (fun j => (fk j).2.2.1) k x.2.2.1) (va_up (fun j => (fk j).2.2.2.1) k x.2.2.2.1) (va_up (fun j => (fk j).2.2.2.2.1) k x.2.2.2.2.1) (va_up (fun j => (fk j).2.2.2.2.2) k x.2.2.2.2.2) sa lf := by
  unfold x0w
  rw [up_map (fun q : Fk => q.1), up_map (fun q : Fk => q.2.1), up_map (fun q : Fk => q.2.2.1), up_map (fun q : Fk => q.2.2.2.1), up_map (fun q : Fk => q.2.2.2.2.1), up_map (fun q : Fk => q.2.2.2.2.2)]
section X0A
variable {l : Launch} {D : va_G} {g : Nat → Nat} {cB cI cS : ClassId} {lc : Nat → Nat} {vs : Nat → Int32} {n : Nat} {fk : Nat → Fk} {sa lf : Nat → Nat} {tys : List (ClassId × FieldType)}
/-- isTree -/
theorem m0_isTree (p : Int32) : xMi l D tys yX0_isTree cX0_isTree 1 .boolean ({ frames := 0, cells := 0, slots := 0, locals := 0 } : Room) [.int p] [] (fun r w => (r = 1 ∧ xin p 4) ∨ (r = 0 ∧ ¬ xin p 4)) := by
  refine xMi_of 0 rfl rfl (Nat.le_of_ble_eq_true rfl) (fun K C E => ?_)
  refine xr_iload_n C dX0_isTree_0 rfl ?_
  refine xr_if_lt (tgt := 13) C dX0_isTree_1 (by decide) (fun h1 => ?_) (fun h1 => ?_)
  · refine xr_iconst (v := nI 0) C dX0_isTree_13 (by decide) ?_
    exact xr_ireturn C E rfl dX0_isTree_14 (Or.inr ⟨by decide, xin_neg (by decide) h1⟩)
  · refine xr_iload_n C dX0_isTree_4 rfl ?_
    refine xr_iconst (v := nI 4) C dX0_isTree_5 (by decide) ?_
    refine xr_icmp_ge (tgt := 13) C dX0_isTree_6 (by decide) (fun h2 => ?_) (fun h2 => ?_)
    · refine xr_iconst (v := nI 0) C dX0_isTree_13 (by decide) ?_
      exact xr_ireturn C E rfl dX0_isTree_14 (Or.inr ⟨by decide, xin_ge (by decide) h2⟩)
    · refine xr_iconst (v := nI 1) C dX0_isTree_9 (by decide) ?_
      refine xr_goto (tgt := 14) C dX0_isTree_10 (by decide) ?_
      exact xr_ireturn C E rfl dX0_isTree_14 (Or.inl ⟨by decide, xin_of (by decide) h1 h2⟩)
theorem m0_isFeature (p : Int32) : xMi l D tys yX0_isFeature cX0_isFeature 1 .boolean ({ frames := 0, cells := 0, slots := 0, locals := 0 } : Room) [.int p] [] (fun r w => (r = 1 ∧ xin p 4) ∨ (r = 0 ∧ ¬ xin p 4)) := by
  refine xMi_of 0 rfl rfl (Nat.le_of_ble_eq_true rfl) (fun K C E => ?_)
  refine xr_iload_n C dX0_isFeature_0 rfl ?_
  refine xr_if_lt (tgt := 13) C dX0_isFeature_1 (by decide) (fun h1 => ?_) (fun h1 => ?_)
  · refine xr_iconst (v := nI 0) C dX0_isFeature_13 (by decide) ?_
    exact xr_ireturn C E rfl dX0_isFeature_14 (Or.inr ⟨by decide, xin_neg (by decide) h1⟩)
  · refine xr_iload_n C dX0_isFeature_4 rfl ?_
    refine xr_iconst (v := nI 4) C dX0_isFeature_5 (by decide) ?_
    refine xr_icmp_ge (tgt := 13) C dX0_isFeature_6 (by decide) (fun h2 => ?_) (fun h2 => ?_)
    · refine xr_iconst (v := nI 0) C dX0_isFeature_13 (by decide) ?_
      exact xr_ireturn C E rfl dX0_isFeature_14 (Or.inr ⟨by decide, xin_ge (by decide) h2⟩)
    · refine xr_iconst (v := nI 1) C dX0_isFeature_9 (by decide) ?_
      refine xr_goto (tgt := 14) C dX0_isFeature_10 (by decide) ?_
      exact xr_ireturn C E rfl dX0_isFeature_14 (Or.inl ⟨by decide, xin_of (by decide) h1 h2⟩)
theorem nI_65535 : (65535 : Int32) = nI 65535 := by decide
theorem m0_isPoint (p : Int32) : xMi l D tys yX0_isPoint cX0_isPoint 1 .boolean ({ frames := 0, cells := 0, slots := 0, locals := 0 } : Room) [.int p] [] (fun r w => (r = 1 ∧ xin p 65536) ∨ (r = 0 ∧ ¬ xin p 65536)) := by
  refine xMi_of 0 rfl rfl (Nat.le_of_ble_eq_true rfl) (fun K C E => ?_)
  refine xr_iload_n C dX0_isPoint_0 rfl ?_
  refine xr_if_lt (tgt := 14) C dX0_isPoint_1 (by decide) (fun h1 => ?_) (fun h1 => ?_)
  · refine xr_iconst (v := nI 0) C dX0_isPoint_14 (by decide) ?_
    exact xr_ireturn C E rfl dX0_isPoint_15 (Or.inr ⟨by decide, xin_neg (by decide) h1⟩)
  · refine xr_iload_n C dX0_isPoint_4 rfl ?_
    refine xr_ldc C q119 dX0_isPoint_5 ?_
    refine xr_icmp_gt (tgt := 14) C dX0_isPoint_7 (by decide) (fun h2 => ?_) (fun h2 => ?_)
    · refine xr_iconst (v := nI 0) C dX0_isPoint_14 (by decide) ?_
      exact xr_ireturn C E rfl dX0_isPoint_15 (Or.inr ⟨by decide, xin_gt (N := 65535) (by decide) (nI_65535 ▸ h2)⟩)
    · refine xr_iconst (v := nI 1) C dX0_isPoint_10 (by decide) ?_
      refine xr_goto (tgt := 15) C dX0_isPoint_11 (by decide) ?_
      exact xr_ireturn C E rfl dX0_isPoint_15 (Or.inl ⟨by decide, xin_of' (N := 65535) (by decide) h1 (nI_65535 ▸ h2)⟩)
def xlf (lc : Nat → Nat) (p q : Int32) : Prop := ∃ t i : Nat, t < 4 ∧ i < lc t ∧ p = nI t ∧ q = nI i
theorem nI_inj {a b : Nat} (ha : a < 2 ^ 31) (hb : b < 2 ^ 31) (h : nI a = nI b) : a = b := (nI_eq ha hb).1 h
/-- isLeaf -/
theorem m0_isLeaf (hlc : ∀ t, t < 4 → lc t ≤ 8) (p q : Int32) : xMi l D (xT cB cI cS) yX0_isLeaf cX0_isLeaf 3 .boolean ({ frames := 1, cells := 0, slots := 0, locals := 20 } : Room) [.ref (g 0), .int p, .int q] (x0w g cB cI cS lc vs n fk sa lf) (fun r w => w = x0w g cB cI cS lc vs n fk sa lf ∧ ((r = 1 ∧ xlf lc p q) ∨ (r = 0 ∧ ¬ xlf lc p q))) := by
  refine xMi_of 0 rfl rfl (Nat.le_of_ble_eq_true rfl) (fun K C E => ?_)
  refine xr_iload_n C dX0_isLeaf_0 rfl ?_
  refine xr_callSi C (m0_isTree p) (cs0_isTree ⟨by decide, by decide⟩) rfl rfl (Nat.le_of_ble_eq_true rfl) dX0_isLeaf_1 (fun r w hw => ?_)
  rcases hw with ⟨rfl, t, ht, rfl⟩ | ⟨rfl, hno⟩
  · have hl8 := hlc t ht
    refine xr_ifF_eq (tgt := 25) C (by decide) dX0_isLeaf_4 (by decide) ?_
    refine xr_iload_n C dX0_isLeaf_7 rfl ?_
    refine xr_if_lt (tgt := 25) C dX0_isLeaf_8 (by decide) (fun h1 => ?_) (fun h1 => ?_)
    · refine xr_iconst (v := nI 0) C dX0_isLeaf_25 (by decide) ?_
      exact xr_ireturn C E rfl dX0_isLeaf_26 ⟨rfl, Or.inr ⟨by decide, fun ⟨t', i, h3, h4, e1, e2⟩ => xin_neg (N := 8) (by decide) h1 ⟨i, by have := hlc t' h3; omega, e2⟩⟩⟩
    · obtain ⟨i, hi, rfl⟩ := nI_of h1
      refine xr_iload_n C dX0_isLeaf_11 rfl ?_
      refine xr_aload_n C dX0_isLeaf_12 rfl ?_
      refine x0g_7 C 0 rfl rfl dX0_isLeaf_13 ?_
      refine xr_iload_n C dX0_isLeaf_16 rfl ?_
      refine xr_baldN C 1 0 rfl rfl (by omega) (by decide) dX0_isLeaf_17 ?_
      refine xr_icmp_geN (tgt := 25) C (by omega) (by omega) dX0_isLeaf_18 (by decide) (fun h2 => ?_) (fun h2 => ?_)
      · refine xr_iconst (v := nI 0) C dX0_isLeaf_25 (by decide) ?_
        exact xr_ireturn C E rfl dX0_isLeaf_26 ⟨rfl, Or.inr ⟨by decide, fun ⟨t', i', h3, h4, e1, e2⟩ => by
          have := hlc t' h3
          have e1 := nI_inj (by omega) (by omega) e1
          have e2 := nI_inj (by omega) (by omega) e2
          subst e1; subst e2
          omega⟩⟩
      · refine xr_iconst (v := nI 1) C dX0_isLeaf_21 (by decide) ?_
        refine xr_goto (tgt := 26) C dX0_isLeaf_22 (by decide) ?_
        exact xr_ireturn C E rfl dX0_isLeaf_26 ⟨rfl, Or.inl ⟨by decide, t, i, ht, h2, rfl, rfl⟩⟩
  · refine xr_ifT_eq (tgt := 25) C rfl dX0_isLeaf_4 (by decide) ?_
    refine xr_iconst (v := nI 0) C dX0_isLeaf_25 (by decide) ?_
    exact xr_ireturn C E rfl dX0_isLeaf_26 ⟨rfl, Or.inr ⟨by decide, fun ⟨t', i', h3, h4, e1, e2⟩ => hno ⟨t', h3, e1⟩⟩⟩
/-- moveUp -/
theorem m0_moveUp (k i : Nat) (hk : k < 28) (hi : i < 8) (hf : okF (fk k)) : xMv l D (xT cB cI cS) yX0_moveUp cX0_moveUp 3 ({ frames := 0, cells := 0, slots := 0, locals := 0 } : Room) [.ref (g 0), .int (nI k), .int (nI i)] (x0w g cB cI cS lc vs n fk sa lf) (fun w => w = x0w g cB cI cS lc vs n (va_up fk k (mvF i (fk k))) sa lf) := by
  obtain ⟨-, -, -, hf1, hf2, hf3⟩ := hf
  refine xMv_of 0 rfl rfl (Nat.le_of_ble_eq_true rfl) (fun K C E => ?_)
  refine xr_aload_n C dX0_moveUp_0 rfl ?_
  refine x0g_26 C 0 rfl rfl dX0_moveUp_1 ?_
  refine xr_iload_n C dX0_moveUp_4 rfl ?_
  refine xr_dup2 C dX0_moveUp_5 rfl rfl ?_
  refine xr_baldN C 6 0 rfl rfl (by omega) (by decide) dX0_moveUp_6 ?_
  refine xr_aload_n C dX0_moveUp_7 rfl ?_
  refine x0g_26 C 0 rfl rfl dX0_moveUp_8 ?_
  refine xr_iload_n C dX0_moveUp_11 rfl ?_
  refine xr_baldN C 6 0 rfl rfl (by omega) (by decide) dX0_moveUp_12 ?_
  refine xr_iload_n C dX0_moveUp_13 rfl ?_
  refine xr_tern_le (tgt := 21) (j := 22) C (by omega) (by omega) dX0_moveUp_14 (by decide) dX0_moveUp_17 dX0_moveUp_18 (by decide) dX0_moveUp_21 rfl (fun b1 hb1 => ?_)
  have : b1 ≤ 1 := by rw [hb1]; split <;> omega
  refine xr_iaddN C dX0_moveUp_22 ?_
  refine xr_i2bN C (by omega) dX0_moveUp_23 ?_
  refine xr_bastN C 6 0 rfl rfl (by omega) (by decide) (by omega) rfl dX0_moveUp_24 ?_
  refine xr_aload_n C dX0_moveUp_25 rfl ?_
  refine x0g_29 C 0 rfl rfl dX0_moveUp_26 ?_
  refine xr_iload_n C dX0_moveUp_29 rfl ?_
  refine xr_dup2 C dX0_moveUp_30 rfl rfl ?_
  refine xr_baldN C 7 0 rfl rfl (by omega) (by decide) dX0_moveUp_31 ?_
  refine xr_aload_n C dX0_moveUp_32 rfl ?_
  refine x0g_29 C 0 rfl rfl dX0_moveUp_33 ?_
  refine xr_iload_n C dX0_moveUp_36 rfl ?_
  refine xr_baldN C 7 0 rfl rfl (by omega) (by decide) dX0_moveUp_37 ?_
  refine xr_iload_n C dX0_moveUp_38 rfl ?_
  refine xr_tern_lt (tgt := 46) (j := 47) C (by omega) (by omega) dX0_moveUp_39 (by decide) dX0_moveUp_42 dX0_moveUp_43 (by decide) dX0_moveUp_46 rfl (fun b2 hb2 => ?_)
  have : b2 ≤ 1 := by rw [hb2]; split <;> omega
  refine xr_iaddN C dX0_moveUp_47 ?_
  refine xr_i2bN C (by omega) dX0_moveUp_48 ?_
  refine xr_bastN C 7 0 rfl rfl (by omega) (by decide) (by omega) rfl dX0_moveUp_49 ?_
  refine xr_aload_n C dX0_moveUp_50 rfl ?_
  refine x0g_32 C 0 rfl rfl dX0_moveUp_51 ?_
  refine xr_iload_n C dX0_moveUp_54 rfl ?_
  refine xr_dup2 C dX0_moveUp_55 rfl rfl ?_
  refine xr_baldN C 8 0 rfl rfl (by omega) (by decide) dX0_moveUp_56 ?_
  refine xr_aload_n C dX0_moveUp_57 rfl ?_
  refine x0g_32 C 0 rfl rfl dX0_moveUp_58 ?_
  refine xr_iload_n C dX0_moveUp_61 rfl ?_
  refine xr_baldN C 8 0 rfl rfl (by omega) (by decide) dX0_moveUp_62 ?_
  refine xr_iload_n C dX0_moveUp_63 rfl ?_
  refine xr_tern_lt (tgt := 71) (j := 72) C (by omega) (by omega) dX0_moveUp_64 (by decide) dX0_moveUp_67 dX0_moveUp_68 (by decide) dX0_moveUp_71 rfl (fun b3 hb3 => ?_)
  have : b3 ≤ 1 := by rw [hb3]; split <;> omega
  refine xr_iaddN C dX0_moveUp_72 ?_
  refine xr_i2bN C (by omega) dX0_moveUp_73 ?_
  refine xr_bastN C 8 0 rfl rfl (by omega) (by decide) (by omega) rfl dX0_moveUp_74 ?_
  exact xr_return C E dX0_moveUp_75 (by
    rw [x0w_up, hb1, hb2, hb3]
    show x0r g cB cI cS lc vs n _ _ _ _ _ _ sa lf = _
    congr 1
    · exact (up_self _ k).symm
    · exact (up_self _ k).symm
    · exact (up_self _ k).symm)
/-- copyFork -/
theorem m0_copyFork (a b : Nat) (ha : a < 28) (hb : b < 28) (hf : okF (fk a)) : xMv l D (xT cB cI cS) yX0_copyFork cX0_copyFork 3 ({ frames := 0, cells := 0, slots := 0, locals := 0 } : Room) [.ref (g 0), .int (nI a), .int (nI b)] (x0w g cB cI cS lc vs n fk sa lf) (fun w => w = x0w g cB cI cS lc vs n (va_up fk b (fk a)) sa lf) := by
  obtain ⟨hf0, hf1, hf2, hf3, hf4, hf5⟩ := hf
  refine xMv_of 0 rfl rfl (Nat.le_of_ble_eq_true rfl) (fun K C E => ?_)
  refine xr_aload_n C dX0_copyFork_0 rfl ?_
  refine x0g_17 C 0 rfl rfl dX0_copyFork_1 ?_
  refine xr_iload_n C dX0_copyFork_4 rfl ?_
  refine xr_aload_n C dX0_copyFork_5 rfl ?_
  refine x0g_17 C 0 rfl rfl dX0_copyFork_6 ?_
  refine xr_iload_n C dX0_copyFork_9 rfl ?_
  refine xr_baldN C 3 0 rfl rfl (by omega) (by decide) dX0_copyFork_10 ?_
  refine xr_bastN C 3 0 rfl rfl (by omega) (by decide) (by omega) rfl dX0_copyFork_11 ?_
  refine xr_aload_n C dX0_copyFork_12 rfl ?_
  refine x0g_20 C 0 rfl rfl dX0_copyFork_13 ?_
  refine xr_iload_n C dX0_copyFork_16 rfl ?_
  refine xr_aload_n C dX0_copyFork_17 rfl ?_
  refine x0g_20 C 0 rfl rfl dX0_copyFork_18 ?_
  refine xr_iload_n C dX0_copyFork_21 rfl ?_
  refine xr_baldN C 4 0 rfl rfl (by omega) (by decide) dX0_copyFork_22 ?_
  refine xr_bastN C 4 0 rfl rfl (by omega) (by decide) (by omega) rfl dX0_copyFork_23 ?_
  refine xr_aload_n C dX0_copyFork_24 rfl ?_
  refine x0g_23 C 0 rfl rfl dX0_copyFork_25 ?_
  refine xr_iload_n C dX0_copyFork_28 rfl ?_
  refine xr_aload_n C dX0_copyFork_29 rfl ?_
  refine x0g_23 C 0 rfl rfl dX0_copyFork_30 ?_
  refine xr_iload_n C dX0_copyFork_33 rfl ?_
  refine xr_baldN C 5 0 rfl rfl (by omega) (by decide) dX0_copyFork_34 ?_
  refine xr_bastN C 5 0 rfl rfl (by omega) (by decide) (by omega) rfl dX0_copyFork_35 ?_
  refine xr_aload_n C dX0_copyFork_36 rfl ?_
  refine x0g_26 C 0 rfl rfl dX0_copyFork_37 ?_
  refine xr_iload_n C dX0_copyFork_40 rfl ?_
  refine xr_aload_n C dX0_copyFork_41 rfl ?_
  refine x0g_26 C 0 rfl rfl dX0_copyFork_42 ?_
  refine xr_iload_n C dX0_copyFork_45 rfl ?_
  refine xr_baldN C 6 0 rfl rfl (by omega) (by decide) dX0_copyFork_46 ?_
  refine xr_bastN C 6 0 rfl rfl (by omega) (by decide) (by omega) rfl dX0_copyFork_47 ?_
  refine xr_aload_n C dX0_copyFork_48 rfl ?_
  refine x0g_29 C 0 rfl rfl dX0_copyFork_49 ?_
  refine xr_iload_n C dX0_copyFork_52 rfl ?_
  refine xr_aload_n C dX0_copyFork_53 rfl ?_
  refine x0g_29 C 0 rfl rfl dX0_copyFork_54 ?_
  refine xr_iload_n C dX0_copyFork_57 rfl ?_
  refine xr_baldN C 7 0 rfl rfl (by omega) (by decide) dX0_copyFork_58 ?_
  refine xr_bastN C 7 0 rfl rfl (by omega) (by decide) (by omega) rfl dX0_copyFork_59 ?_
  refine xr_aload_n C dX0_copyFork_60 rfl ?_
  refine x0g_32 C 0 rfl rfl dX0_copyFork_61 ?_
  refine xr_iload_n C dX0_copyFork_64 rfl ?_
  refine xr_aload_n C dX0_copyFork_65 rfl ?_
  refine x0g_32 C 0 rfl rfl dX0_copyFork_66 ?_
  refine xr_iload_n C dX0_copyFork_69 rfl ?_
  refine xr_baldN C 8 0 rfl rfl (by omega) (by decide) dX0_copyFork_70 ?_
  refine xr_bastN C 8 0 rfl rfl (by omega) (by decide) (by omega) rfl dX0_copyFork_71 ?_
  exact xr_return C E dX0_copyFork_72 (by
    rw [x0w_up]
    rfl)
end X0A
end
section
/-! TreeScorer: bits, count, insert -/
set_option maxRecDepth 100000
section XT2
variable {l : Launch} {R : Room} {D : va_G} {tys : List (ClassId × FieldType)} {nL : Nat} {K : xK} {cc : ByteArray} {own : String} {ws : va_W} {lv : List (Option Value)} {pc : Nat} {st : List Value}
theorem xr_if_leN (C : xOk R D tys nL K cc own) {a : Nat} {off : Int} {tgt : Nat} (ha : a < 2 ^ 31) (hd : decode cc pc = .ok (.ifCond .le off, 3)) (ht : (pc : Int) + off = (tgt : Int)) (kt : a = 0 → xW l R D nL K ws lv tgt st) (kf : 0 < a → xW l R D nL K ws lv (pc + 3) st) : xW l R D nL K ws lv pc (.int (nI a) :: st) :=
  xr_if_le C hd ht (fun h => kt (by
    rcases Nat.eq_zero_or_pos a with q | q
    · exact q
    · exact absurd h (nI_nle q ha))) (fun h => kf (by
    rcases Nat.eq_zero_or_pos a with q | q
    · subst q; exact absurd (by decide) h
    · exact q))
theorem xr_if_eqN (C : xOk R D tys nL K cc own) {a : Nat} {off : Int} {tgt : Nat} (ha : a < 2 ^ 31) (hd : decode cc pc = .ok (.ifCond .eq off, 3)) (ht : (pc : Int) + off = (tgt : Int)) (kt : a = 0 → xW l R D nL K ws lv tgt st) (kf : 0 < a → xW l R D nL K ws lv (pc + 3) st) : xW l R D nL K ws lv pc (.int (nI a) :: st) :=
  xr_if_eq C hd ht (fun h => kt (by
    rcases Nat.eq_zero_or_pos a with q | q
    · exact q
    · exact absurd h (nI_ne0 q ha))) (fun h => kf (by
    rcases Nat.eq_zero_or_pos a with q | q
    · subst q; exact absurd (by decide) h
    · exact q))
theorem xr_if_neN (C : xOk R D tys nL K cc own) {a : Nat} {off : Int} {tgt : Nat} (ha : a < 2 ^ 31) (hd : decode cc pc = .ok (.ifCond .ne off, 3)) (ht : (pc : Int) + off = (tgt : Int)) (kt : 0 < a → xW l R D nL K ws lv tgt st) (kf : a = 0 → xW l R D nL K ws lv (pc + 3) st) : xW l R D nL K ws lv pc (.int (nI a) :: st) :=
  xr_if_ne C hd ht (fun h => kt (by
    rcases Nat.eq_zero_or_pos a with q | q
    · subst q; exact absurd (by decide) h
    · exact q)) (fun h => kf (by
    rcases Nat.eq_zero_or_pos a with q | q
    · exact q
    · exact absurd h (nI_ne0 q ha)))
end XT2
/-- a point's feature -/
def ftv (p : Int32) (f : Nat) : Nat := (p >>> (nI (4 * f) &&& 31)).toBitVec.toNat % 16
theorem ftv_lt (p : Int32) (f : Nat) : ftv p f < 16 := Nat.mod_lt _ (by decide)
theorem ftv_eq (p : Int32) (f : Nat) : (p >>> (nI (4 * f) &&& 31)) &&& nI 15 = nI (ftv p f) := pk_and _ 4 (by decide)
def spn (a b : Nat) : Nat := if a ≤ b then 2 ^ (b + 1) - 2 ^ a else 0
theorem spn_eq : ∀ a, a < 8 → ∀ b, b < 8 → ((nI 1 <<< (nI (b + 1) &&& 31)) - nI 1) &&& (((nI 1 <<< (nI a &&& 31)) - nI 1) ^^^ (-1)) = nI (spn a b) := by decide +kernel
/-- a point with another feature -/
def wfI (p : Int32) (f v : Nat) : Int32 := (p &&& ((nI 15 <<< (nI (4 * f) &&& 31)) ^^^ (-1))) ||| (nI v <<< (nI (4 * f) &&& 31))
theorem wfI_sh : ∀ f, f < 4 → ∀ v, v < 16 → (nI v <<< (nI (4 * f) &&& 31)).toBitVec.toNat < 2 ^ 16 := by decide +kernel
theorem nI_toBitVec (x : Int32) : x = nI x.toBitVec.toNat := by
  apply Int32.toBitVec_inj.mp
  show x.toBitVec = BitVec.ofNat 32 _
  simp
theorem wfI_in {p : Int32} (hp : xin p 65536) {f v : Nat} (hf : f < 4) (hv : v < 16) : xin (wfI p f v) 65536 := by
  obtain ⟨P, hP, rfl⟩ := hp
  refine ⟨(wfI (nI P) f v).toBitVec.toNat, ?_, nI_toBitVec _⟩
  unfold wfI
  rw [Int32.toBitVec_or, BitVec.toNat_or, Int32.toBitVec_and, BitVec.toNat_and]
  refine Nat.or_lt_two_pow (n := 16) ?_ (wfI_sh f hf v hv)
  refine Nat.lt_of_le_of_lt Nat.and_le_left ?_
  rw [pk_tn (by omega)]
  exact hP
def cntF (fk : Nat → Fk) (f : Nat) : Nat → Nat
  | 0 => 0
  | k + 1 => cntF fk f k + (if (fk k).2.1 < f then 1 else 0)
theorem cntF_le (fk : Nat → Fk) (f : Nat) : ∀ k, cntF fk f k ≤ k
  | 0 => Nat.le_refl _
  | k + 1 => by
    have := cntF_le fk f k
    unfold cntF
    split <;> omega
section X0B
variable {l : Launch} {D : va_G} {g : Nat → Nat} {cB cI cS : ClassId} {lc : Nat → Nat} {vs : Nat → Int32} {n : Nat} {fk : Nat → Fk} {sa lf : Nat → Nat} {tys : List (ClassId × FieldType)}
theorem m0_featureIn (p : Int32) (f : Nat) : xMi l D tys yX0_featureIn cX0_featureIn 2 .int ({ frames := 0, cells := 0, slots := 0, locals := 0 } : Room) [.int p, .int (nI f)] [] (fun r w => r = nI (ftv p f)) := by
  refine xMi_of 0 rfl rfl (Nat.le_of_ble_eq_true rfl) (fun K C E => ?_)
  refine xr_iload_n C dX0_featureIn_0 rfl ?_
  refine xr_iconst (v := nI 4) C dX0_featureIn_1 (by decide) ?_
  refine xr_iload_n C dX0_featureIn_2 rfl ?_
  refine xr_imulN C dX0_featureIn_3 ?_
  refine xr_ishr C dX0_featureIn_4 ?_
  refine xr_bipush (v := nI 15) C dX0_featureIn_5 (by decide) ?_
  refine xr_iand C dX0_featureIn_7 ?_
  exact xr_ireturn C E rfl dX0_featureIn_8 (ftv_eq p f)
theorem m0_span (a b : Nat) (ha : a < 8) (hb : b < 8) : xMi l D tys yX0_span cX0_span 2 .int ({ frames := 0, cells := 0, slots := 0, locals := 0 } : Room) [.int (nI a), .int (nI b)] [] (fun r w => r = nI (spn a b)) := by
  refine xMi_of 0 rfl rfl (Nat.le_of_ble_eq_true rfl) (fun K C E => ?_)
  refine xr_iconst (v := nI 1) C dX0_span_0 (by decide) ?_
  refine xr_iload_n C dX0_span_1 rfl ?_
  refine xr_iconst (v := nI 1) C dX0_span_2 (by decide) ?_
  refine xr_iaddN C dX0_span_3 ?_
  refine xr_ishl C dX0_span_4 ?_
  refine xr_iconst (v := nI 1) C dX0_span_5 (by decide) ?_
  refine xr_isub C dX0_span_6 ?_
  refine xr_iconst (v := nI 1) C dX0_span_7 (by decide) ?_
  refine xr_iload_n C dX0_span_8 rfl ?_
  refine xr_ishl C dX0_span_9 ?_
  refine xr_iconst (v := nI 1) C dX0_span_10 (by decide) ?_
  refine xr_isub C dX0_span_11 ?_
  refine xr_iconst (v := (-1)) C dX0_span_12 (by decide) ?_
  refine xr_ixor C dX0_span_13 ?_
  refine xr_iand C dX0_span_14 ?_
  exact xr_ireturn C E rfl dX0_span_15 (spn_eq a ha b hb)
theorem m0_withFeature (p : Int32) (f v : Nat) : xMi l D tys yX0_withFeature cX0_withFeature 3 .int ({ frames := 0, cells := 0, slots := 0, locals := 0 } : Room) [.int p, .int (nI f), .int (nI v)] [] (fun r w => r = wfI p f v) := by
  refine xMi_of 0 rfl rfl (Nat.le_of_ble_eq_true rfl) (fun K C E => ?_)
  refine xr_iload_n C dX0_withFeature_0 rfl ?_
  refine xr_bipush (v := nI 15) C dX0_withFeature_1 (by decide) ?_
  refine xr_iconst (v := nI 4) C dX0_withFeature_3 (by decide) ?_
  refine xr_iload_n C dX0_withFeature_4 rfl ?_
  refine xr_imulN C dX0_withFeature_5 ?_
  refine xr_ishl C dX0_withFeature_6 ?_
  refine xr_iconst (v := (-1)) C dX0_withFeature_7 (by decide) ?_
  refine xr_ixor C dX0_withFeature_8 ?_
  refine xr_iand C dX0_withFeature_9 ?_
  refine xr_iload_n C dX0_withFeature_10 rfl ?_
  refine xr_iconst (v := nI 4) C dX0_withFeature_11 (by decide) ?_
  refine xr_iload_n C dX0_withFeature_12 rfl ?_
  refine xr_imulN C dX0_withFeature_13 ?_
  refine xr_ishl C dX0_withFeature_14 ?_
  refine xr_ior C dX0_withFeature_15 ?_
  exact xr_ireturn C E rfl dX0_withFeature_16 rfl
/-- count's inner loop -/
theorem lp0_count {R : Room} {K : xK} (C : xOk R D (xT cB cI cS) 3 K cX0_count RX0) (hn : n ≤ 28) (hf : ∀ j, okF (fk j)) (f : Nat) (hf5 : f < 5) (hk : xW l R D 3 K (x0w g cB cI cS lc vs n fk (va_up sa f (cntF fk f n)) lf) [some (.ref (g 0)), some (.int (nI f)), some (.int (nI n))] 55 []) :
    ∀ m k : Nat, k + m = n → xW l R D 3 K (x0w g cB cI cS lc vs n fk (va_up sa f (cntF fk f k)) lf) [some (.ref (g 0)), some (.int (nI f)), some (.int (nI k))] 16 [] := by
  intro m
  induction m with
  | zero =>
    intro k hkm
    have : k = n := by omega
    subst this
    refine xr_iload_n C dX0_count_16 rfl ?_
    refine xr_aload_n C dX0_count_17 rfl ?_
    refine x0g_54 C 0 rfl rfl dX0_count_18 ?_
    refine xr_icmp_geN (tgt := 55) C (by omega) (by omega) dX0_count_21 (by decide) (fun hc => ?_) (fun hc => ?_)
    · exact hk
    · omega
  | succ m ih =>
    intro k hkm
    have e : va_up sa f (cntF fk f k) f = cntF fk f k := by simp [va_up]
    have hle := cntF_le fk f k
    have hfk := (hf k).2.1
    refine xr_iload_n C dX0_count_16 rfl ?_
    refine xr_aload_n C dX0_count_17 rfl ?_
    refine x0g_54 C 0 rfl rfl dX0_count_18 ?_
    refine xr_icmp_geN (tgt := 55) C (by omega) (by omega) dX0_count_21 (by decide) (fun hc => ?_) (fun hc => ?_)
    · omega
    · refine xr_aload_n C dX0_count_24 rfl ?_
      refine x0g_35 C 0 rfl rfl dX0_count_25 ?_
      refine xr_iload_n C dX0_count_28 rfl ?_
      refine xr_dup2 C dX0_count_29 rfl rfl ?_
      refine xr_baldN C 9 0 rfl rfl (by omega) (by decide) dX0_count_30 ?_
      refine xr_aload_n C dX0_count_31 rfl ?_
      refine x0g_20 C 0 rfl rfl dX0_count_32 ?_
      refine xr_iload_n C dX0_count_35 rfl ?_
      refine xr_baldN C 4 0 rfl rfl (by omega) (by decide) dX0_count_36 ?_
      refine xr_iload_n C dX0_count_37 rfl ?_
      refine xr_tern_ge (tgt := 45) (j := 46) C (by omega) (by omega) dX0_count_38 (by decide) dX0_count_41 dX0_count_42 (by decide) dX0_count_45 rfl (fun b hb => ?_)
      have : b ≤ 1 := by rw [hb]; split <;> omega
      refine xr_iaddN C dX0_count_46 ?_
      refine xr_i2bN C (by omega) dX0_count_47 ?_
      refine xr_bastN C 9 0 rfl rfl (by omega) (by decide) (by omega) rfl dX0_count_48 ?_
      refine xr_iinc1 C dX0_count_49 rfl (by decide) rfl ?_
      refine xr_goto (tgt := 16) C dX0_count_52 (by decide) ?_
      refine xr_ws (ws' := x0w g cB cI cS lc vs n fk (va_up sa f (cntF fk f (k + 1))) lf) ?_ (ih (k + 1) (by omega))
      show x0w g cB cI cS lc vs n fk (va_up (va_up sa f (cntF fk f k)) f _) lf = _
      rw [bx_uu, e, hb]
      rfl
/-- count -/
theorem m0_count (hn : n ≤ 28) (hf : ∀ j, okF (fk j)) : xMv l D (xT cB cI cS) yX0_count cX0_count 3 ({ frames := 0, cells := 0, slots := 0, locals := 0 } : Room) [.ref (g 0)] (x0w g cB cI cS lc vs n fk sa lf) (fun w => ∃ sa' : Nat → Nat, (∀ f, f < 5 → sa' f = cntF fk f n) ∧ w = x0w g cB cI cS lc vs n fk sa' lf) := by
  refine xMv_of 2 rfl rfl (Nat.le_of_ble_eq_true rfl) (fun K C E => ?_)
  refine xr_iconst (v := nI 0) C dX0_count_0 (by decide) ?_
  refine xr_istore_n C dX0_count_1 (by decide) rfl ?_
  suffices H : ∀ (m f : Nat) (sa' : Nat → Nat) (o : Option Value), f + m = 5 → (∀ j, j < f → sa' j = cntF fk j n) → xW l ({ frames := 0, cells := 0, slots := 0, locals := 0 } : Room) D 3 K (x0w g cB cI cS lc vs n fk sa' lf) [some (.ref (g 0)), some (.int (nI f)), o] 2 [] by
    exact H 5 0 sa none rfl (fun j h => absurd h (Nat.not_lt_zero j))
  intro m
  induction m with
  | zero =>
    intro f sa' o hfm hsa
    have : f = 5 := by omega
    subst this
    refine xr_iload_n C dX0_count_2 rfl ?_
    refine xr_iconst (v := nI 4) C dX0_count_3 (by decide) ?_
    refine xr_icmp_gtN (tgt := 61) C (by omega) (by omega) dX0_count_4 (by decide) (fun hc => ?_) (fun hc => ?_)
    · exact xr_return C E dX0_count_61 ⟨sa', hsa, rfl⟩
    · omega
  | succ m ih =>
    intro f sa' o hfm hsa
    refine xr_iload_n C dX0_count_2 rfl ?_
    refine xr_iconst (v := nI 4) C dX0_count_3 (by decide) ?_
    refine xr_icmp_gtN (tgt := 61) C (by omega) (by omega) dX0_count_4 (by decide) (fun hc => ?_) (fun hc => ?_)
    · omega
    · refine xr_aload_n C dX0_count_7 rfl ?_
      refine x0g_35 C 0 rfl rfl dX0_count_8 ?_
      refine xr_iload_n C dX0_count_11 rfl ?_
      refine xr_iconst (v := nI 0) C dX0_count_12 (by decide) ?_
      refine xr_bastN C 9 0 rfl rfl (by omega) (by decide) (by omega) rfl dX0_count_13 ?_
      refine xr_iconst (v := nI 0) C dX0_count_14 (by decide) ?_
      refine xr_istore_n C dX0_count_15 (by decide) rfl ?_
      refine lp0_count (sa := sa') C hn hf f (by omega) ?_ n 0 (by omega)
      refine xr_iinc1 C dX0_count_55 rfl (by decide) rfl ?_
      refine xr_goto (tgt := 2) C dX0_count_58 (by decide) ?_
      refine ih (f + 1) _ _ (by omega) (fun j hj => ?_)
      by_cases h : j = f
      · subst h; simp [va_up]
      · simp only [va_up, if_neg h]; exact hsa j (by omega)
def gtK (f lim : Nat) (q : Fk) : Prop := f < q.2.1 ∨ (q.2.1 = f ∧ lim < q.2.2.1)
/-- the table fk with a new fork x at place k of n + 1 -/
def insAt (fk fk' : Nat → Fk) (n k : Nat) (x : Fk) : Prop := (∀ j, j < k → fk' j = fk j) ∧ fk' k = x ∧ (∀ j, k < j → j ≤ n → fk' j = fk (j - 1)) ∧ ∀ j, n < j → fk' j = fk j
/-- insert -/
theorem m0_insert (t i f lim : Nat) (ht : t < 4) (hi : i + 1 < 8) (hf4 : f < 4) (hlim : lim < 16) (hn : n < 28) (hf : ∀ j, okF (fk j)) : xMv l D (xT cB cI cS) yX0_insert cX0_insert 6 ({ frames := 1, cells := 0, slots := 0, locals := 22 } : Room) [.ref (g 0), .int (nI t), .int (nI i), .int (nI f), .int (nI lim)] (x0w g cB cI cS lc vs n fk sa lf)
    (fun w => ∃ (k : Nat) (fk' : Nat → Fk) (sa' : Nat → Nat), k ≤ n ∧ insAt fk fk' n k (t, f, lim, i, i, i + 1) ∧ (0 < k → ¬ gtK f lim (fk (k - 1))) ∧ (∀ j, k ≤ j → j < n → gtK f lim (fk j)) ∧ (∀ f, f < 5 → sa' f = cntF fk' f (n + 1)) ∧ w = x0w g cB cI cS lc vs (n + 1) fk' sa' lf) := by
  refine xMv_of 1 rfl rfl (Nat.le_of_ble_eq_true rfl) (fun K C E => ?_)
  refine xr_aload_n C dX0_insert_0 rfl ?_
  refine x0g_54 C 0 rfl rfl dX0_insert_1 ?_
  refine xr_istore C dX0_insert_4 (by decide) rfl ?_
  suffices H : ∀ (k : Nat) (fc : Nat → Fk), k ≤ n → (∀ j, j < k → fc j = fk j) → (∀ j, k < j → j ≤ n → fc j = fk (j - 1)) → (∀ j, n < j → fc j = fk j) → (∀ j, k ≤ j → j < n → gtK f lim (fk j)) → (∀ j, okF (fc j)) → xW l ({ frames := 1, cells := 0, slots := 0, locals := 22 } : Room) D 6 K (x0w g cB cI cS lc vs n fc sa lf) [some (.ref (g 0)), some (.int (nI t)), some (.int (nI i)), some (.int (nI f)), some (.int (nI lim)), some (.int (nI k))] 6 [] by
    exact H n fk (Nat.le_refl n) (fun _ _ => rfl) (fun j h1 h2 => by omega) (fun _ _ => rfl) (fun j h1 h2 => by omega) hf
  intro k
  have fin : ∀ (k : Nat) (fc : Nat → Fk), k ≤ n → (∀ j, j < k → fc j = fk j) → (∀ j, k < j → j ≤ n → fc j = fk (j - 1)) → (∀ j, n < j → fc j = fk j) → (∀ j, k ≤ j → j < n → gtK f lim (fk j)) → (∀ j, okF (fc j)) → (0 < k → ¬ gtK f lim (fk (k - 1))) → xW l ({ frames := 1, cells := 0, slots := 0, locals := 22 } : Room) D 6 K (x0w g cB cI cS lc vs n fc sa lf) [some (.ref (g 0)), some (.int (nI t)), some (.int (nI i)), some (.int (nI f)), some (.int (nI lim)), some (.int (nI k))] 67 [] := by
    intro k fc hkn h1 h2 h3 h4 h5 h6
    refine xr_aload_n C dX0_insert_67 rfl ?_
    refine x0g_17 C 0 rfl rfl dX0_insert_68 ?_
    refine xr_iload C dX0_insert_71 rfl ?_
    refine xr_iload_n C dX0_insert_73 rfl ?_
    refine xr_i2bN C (by omega) dX0_insert_74 ?_
    refine xr_bastN C 3 0 rfl rfl (by omega) (by decide) (by omega) rfl dX0_insert_75 ?_
    refine xr_aload_n C dX0_insert_76 rfl ?_
    refine x0g_20 C 0 rfl rfl dX0_insert_77 ?_
    refine xr_iload C dX0_insert_80 rfl ?_
    refine xr_iload_n C dX0_insert_82 rfl ?_
    refine xr_i2bN C (by omega) dX0_insert_83 ?_
    refine xr_bastN C 4 0 rfl rfl (by omega) (by decide) (by omega) rfl dX0_insert_84 ?_
    refine xr_aload_n C dX0_insert_85 rfl ?_
    refine x0g_23 C 0 rfl rfl dX0_insert_86 ?_
    refine xr_iload C dX0_insert_89 rfl ?_
    refine xr_iload C dX0_insert_91 rfl ?_
    refine xr_i2bN C (by omega) dX0_insert_93 ?_
    refine xr_bastN C 5 0 rfl rfl (by omega) (by decide) (by omega) rfl dX0_insert_94 ?_
    refine xr_aload_n C dX0_insert_95 rfl ?_
    refine x0g_26 C 0 rfl rfl dX0_insert_96 ?_
    refine xr_iload C dX0_insert_99 rfl ?_
    refine xr_iload_n C dX0_insert_101 rfl ?_
    refine xr_i2bN C (by omega) dX0_insert_102 ?_
    refine xr_bastN C 6 0 rfl rfl (by omega) (by decide) (by omega) rfl dX0_insert_103 ?_
    refine xr_aload_n C dX0_insert_104 rfl ?_
    refine x0g_29 C 0 rfl rfl dX0_insert_105 ?_
    refine xr_iload C dX0_insert_108 rfl ?_
    refine xr_iload_n C dX0_insert_110 rfl ?_
    refine xr_i2bN C (by omega) dX0_insert_111 ?_
    refine xr_bastN C 7 0 rfl rfl (by omega) (by decide) (by omega) rfl dX0_insert_112 ?_
    refine xr_aload_n C dX0_insert_113 rfl ?_
    refine x0g_32 C 0 rfl rfl dX0_insert_114 ?_
    refine xr_iload C dX0_insert_117 rfl ?_
    refine xr_iload_n C dX0_insert_119 rfl ?_
    refine xr_iconst (v := nI 1) C dX0_insert_120 (by decide) ?_
    refine xr_iaddN C dX0_insert_121 ?_
    refine xr_i2bN C (by omega) dX0_insert_122 ?_
    refine xr_bastN C 8 0 rfl rfl (by omega) (by decide) (by omega) rfl dX0_insert_123 ?_
    refine xr_aload_n C dX0_insert_124 rfl ?_
    refine xr_dup C dX0_insert_125 rfl ?_
    refine x0g_54 C 0 rfl rfl dX0_insert_126 ?_
    refine xr_iconst (v := nI 1) C dX0_insert_129 (by decide) ?_
    refine xr_iaddN C dX0_insert_130 ?_
    refine x0p_54 C 0 rfl (Nat.le_of_ble_eq_true rfl) rfl dX0_insert_131 ?_
    refine xr_aload_n C dX0_insert_134 rfl ?_
    refine xr_ws (ws' := x0w g cB cI cS lc vs (n + 1) (va_up fc k (t, f, lim, i, i, i + 1)) sa lf) (by rw [x0w_up]; rfl) ?_
    have hok : ∀ j, okF (va_up fc k (t, f, lim, i, i, i + 1) j) := by
      intro j
      unfold va_up
      split
      · exact ⟨ht, hf4, hlim, show i < 8 by omega, show i < 8 by omega, hi⟩
      · exact h5 j
    refine xr_callWv C (m0_count (n := n + 1) (by omega) hok) (cw0_count ⟨by decide, by decide⟩) 0 rfl rfl rfl rfl (Nat.le_of_ble_eq_true rfl) dX0_insert_135 (fun w hw => ?_)
    obtain ⟨sa', hsa, rfl⟩ := hw
    exact xr_return C E dX0_insert_138 ⟨k, _, sa', hkn, ⟨fun j hj => by simp only [va_up, if_neg (show ¬ j = k by omega)]; exact h1 j hj, by simp [va_up], fun j q1 q2 => by simp only [va_up, if_neg (show ¬ j = k by omega)]; exact h2 j q1 q2, fun j q1 => by simp only [va_up, if_neg (show ¬ j = k by omega)]; exact h3 j q1⟩, h6, h4, hsa, rfl⟩
  induction k with
  | zero =>
    intro fc hkn h1 h2 h3 h4 h5
    refine xr_iload C dX0_insert_6 rfl ?_
    refine xr_if_leN (tgt := 67) C (by omega) dX0_insert_8 (by decide) (fun hc => ?_) (fun hc => ?_)
    · exact fin 0 fc hkn h1 h2 h3 h4 h5 (fun h => absurd h (Nat.lt_irrefl 0))
    · omega
  | succ k ih =>
    intro fc hkn h1 h2 h3 h4 h5
    have e1 : fc k = fk k := h1 k (by omega)
    have hok := h5 k
    have hb1 := hok.2.1
    have hb2 := hok.2.2.1
    have step : gtK f lim (fk k) → xW l ({ frames := 1, cells := 0, slots := 0, locals := 22 } : Room) D 6 K (x0w g cB cI cS lc vs n fc sa lf) [some (.ref (g 0)), some (.int (nI t)), some (.int (nI i)), some (.int (nI f)), some (.int (nI lim)), some (.int (nI (k + 1)))] 51 [] := by
      intro hgt
      refine xr_aload_n C dX0_insert_51 rfl ?_
      refine xr_iload C dX0_insert_52 rfl ?_
      refine xr_iconst (v := nI 1) C dX0_insert_54 (by decide) ?_
      refine xr_isubN C (by omega) dX0_insert_55 ?_
      refine xr_iload C dX0_insert_56 rfl ?_
      refine xr_callWv C (m0_copyFork (k + 1 - 1) (k + 1) (by omega) (by omega) hok) (cw0_copyFork ⟨by decide, by decide⟩) 0 rfl rfl rfl rfl (Nat.le_of_ble_eq_true rfl) dX0_insert_58 (fun w hw => ?_)
      subst hw
      refine xr_iincM C (by omega) dX0_insert_61 rfl (by decide) rfl ?_
      refine xr_goto (tgt := 6) C dX0_insert_64 (by decide) ?_
      refine ih _ (by omega) (fun j hj => ?_) (fun j q1 q2 => ?_) (fun j q1 => ?_) (fun j q1 q2 => ?_) (fun j => ?_)
      · simp only [va_up, if_neg (show ¬ j = k + 1 by omega)]; exact h1 j (by omega)
      · by_cases hj : j = k + 1
        · subst hj; simp only [va_up, if_true]; exact e1
        · simp only [va_up, if_neg hj]; exact h2 j (by omega) q2
      · simp only [va_up, if_neg (show ¬ j = k + 1 by omega)]; exact h3 j q1
      · by_cases hj : j = k
        · subst hj; exact hgt
        · exact h4 j (by omega) q2
      · unfold va_up
        split
        · exact hok
        · exact h5 j
    refine xr_iload C dX0_insert_6 rfl ?_
    refine xr_if_leN (tgt := 67) C (by omega) dX0_insert_8 (by decide) (fun hc => ?_) (fun hc => ?_)
    · omega
    · refine xr_aload_n C dX0_insert_11 rfl ?_
      refine x0g_20 C 0 rfl rfl dX0_insert_12 ?_
      refine xr_iload C dX0_insert_15 rfl ?_
      refine xr_iconst (v := nI 1) C dX0_insert_17 (by decide) ?_
      refine xr_isubN C (by omega) dX0_insert_18 ?_
      refine xr_baldN C 4 0 rfl rfl (by omega) (by decide) dX0_insert_19 ?_
      refine xr_iload_n C dX0_insert_20 rfl ?_
      simp only [Nat.add_sub_cancel]
      refine xr_icmp_gtN (tgt := 51) C (by omega) (by omega) dX0_insert_21 (by decide) (fun h7 => ?_) (fun h7 => ?_)
      · exact step (Or.inl (by rw [← e1]; exact h7))
      · refine xr_aload_n C dX0_insert_24 rfl ?_
        refine x0g_20 C 0 rfl rfl dX0_insert_25 ?_
        refine xr_iload C dX0_insert_28 rfl ?_
        refine xr_iconst (v := nI 1) C dX0_insert_30 (by decide) ?_
        refine xr_isubN C (by omega) dX0_insert_31 ?_
        refine xr_baldN C 4 0 rfl rfl (by omega) (by decide) dX0_insert_32 ?_
        refine xr_iload_n C dX0_insert_33 rfl ?_
        simp only [Nat.add_sub_cancel]
        refine xr_icmp_neN (tgt := 67) C (by omega) (by omega) dX0_insert_34 (by decide) (fun h8 => ?_) (fun h8 => ?_)
        · exact fin (k + 1) fc hkn h1 h2 h3 h4 h5 (fun _ hg => by
            rw [Nat.add_sub_cancel, ← e1] at hg
            rcases hg with hg | ⟨hg, -⟩ <;> omega)
        · refine xr_aload_n C dX0_insert_37 rfl ?_
          refine x0g_23 C 0 rfl rfl dX0_insert_38 ?_
          refine xr_iload C dX0_insert_41 rfl ?_
          refine xr_iconst (v := nI 1) C dX0_insert_43 (by decide) ?_
          refine xr_isubN C (by omega) dX0_insert_44 ?_
          refine xr_baldN C 5 0 rfl rfl (by omega) (by decide) dX0_insert_45 ?_
          refine xr_iload C dX0_insert_46 rfl ?_
          simp only [Nat.add_sub_cancel]
          refine xr_icmp_leN (tgt := 67) C (by omega) (by omega) dX0_insert_48 (by decide) (fun h9 => ?_) (fun h9 => ?_)
          · exact fin (k + 1) fc hkn h1 h2 h3 h4 h5 (fun _ hg => by
              rw [Nat.add_sub_cancel, ← e1] at hg
              rcases hg with hg | ⟨-, hg⟩ <;> omega)
          · exact step (Or.inr (by rw [← e1]; exact ⟨h8, h9⟩))
end X0B
end
section
/-! TreeScorer: split, setValue, clear -/
set_option maxRecDepth 100000
def mvAll (fk : Nat → Fk) (k t i : Nat) : Nat → Fk := fun j => if j < k ∧ (fk j).1 = t then mvF i (fk j) else fk j
theorem mvAll_0 (fk : Nat → Fk) (t i : Nat) : mvAll fk 0 t i = fk := by
  funext j
  unfold mvAll
  rw [if_neg (fun h => absurd h.1 (Nat.not_lt_zero j))]
theorem mvAll_at (fk : Nat → Fk) (k t i : Nat) : mvAll fk k t i k = fk k := by
  unfold mvAll
  rw [if_neg (fun h => absurd h.1 (Nat.lt_irrefl k))]
theorem mvAll_yes {fk : Nat → Fk} {k t i : Nat} (h : (fk k).1 = t) : va_up (mvAll fk k t i) k (mvF i (fk k)) = mvAll fk (k + 1) t i := by
  funext j
  unfold va_up mvAll
  by_cases hj : j = k
  · subst hj
    rw [if_pos rfl, if_pos ⟨Nat.lt_succ_self j, h⟩]
  · rw [if_neg hj]
    by_cases h2 : j < k ∧ (fk j).1 = t
    · rw [if_pos h2, if_pos ⟨by omega, h2.2⟩]
    · rw [if_neg h2, if_neg (fun h3 => h2 ⟨by omega, h3.2⟩)]
theorem mvAll_no {fk : Nat → Fk} {k t i : Nat} (h : (fk k).1 ≠ t) : mvAll fk k t i = mvAll fk (k + 1) t i := by
  funext j
  unfold mvAll
  by_cases h2 : j < k ∧ (fk j).1 = t
  · rw [if_pos h2, if_pos ⟨by omega, h2.2⟩]
  · rw [if_neg h2, if_neg (fun h3 => ?_)]
    by_cases hj : j = k
    · subst hj; exact h h3.2
    · exact h2 ⟨by omega, h3.2⟩
/-- values: the places behind b + j up to b + m hold what lay one place ahead -/
def shV (vs : Nat → Int32) (b j m : Nat) : Nat → Int32 := fun x => if b + j < x ∧ x ≤ b + m then vs (x - 1) else vs x
theorem shV_0 (vs : Nat → Int32) (b m : Nat) : shV vs b m m = vs := by
  funext x
  unfold shV
  rw [if_neg (fun h => by omega)]
theorem shV_step (vs : Nat → Int32) (b j m : Nat) (h0 : 0 < j) (hj : j ≤ m) : upd (shV vs b j m) (b + j) (shV vs b j m (b + j - 1)) = shV vs b (j - 1) m := by
  have e : shV vs b j m (b + j - 1) = vs (b + j - 1) := by
    unfold shV
    rw [if_neg (fun h => by omega)]
  rw [e]
  funext x
  unfold upd shV
  by_cases hx : x = b + j
  · subst hx
    rw [if_pos rfl, if_pos ⟨by omega, by omega⟩]
  · rw [if_neg hx]
    by_cases h2 : b + j < x ∧ x ≤ b + m
    · rw [if_pos h2, if_pos ⟨by omega, h2.2⟩]
    · rw [if_neg h2, if_neg (fun h3 => h2 ⟨by omega, h3.2⟩)]
def keyF (q : Fk) : Nat := 16 * q.2.1 + q.2.2.1
def wf0 (lc : Nat → Nat) (n : Nat) (fk : Nat → Fk) (sa : Nat → Nat) : Prop := (∀ t, t < 4 → 1 ≤ lc t ∧ lc t ≤ 8) ∧ n + 4 = lc 0 + lc 1 + lc 2 + lc 3 ∧ (∀ j, okF (fk j)) ∧ (∀ j, j < n → (fk j).2.2.2.1 ≤ (fk j).2.2.2.2.1 ∧ (fk j).2.2.2.2.1 < (fk j).2.2.2.2.2 ∧ (fk j).2.2.2.2.2 < lc (fk j).1) ∧ (∀ j k, j < k → k < n → keyF (fk j) ≤ keyF (fk k)) ∧ (∀ f, f < 5 → sa f = cntF fk f n)
theorem wf0_n {lc : Nat → Nat} {n : Nat} {fk : Nat → Fk} {sa : Nat → Nat} (h : wf0 lc n fk sa) : n ≤ 28 := by
  obtain ⟨h1, h2, -⟩ := h
  have := h1 0 (by omega); have := h1 1 (by omega); have := h1 2 (by omega); have := h1 3 (by omega)
  omega
theorem wf0_n' {lc : Nat → Nat} {n : Nat} {fk : Nat → Fk} {sa : Nat → Nat} (h : wf0 lc n fk sa) {t : Nat} (ht : t < 4) (h8 : lc t < 8) : n < 28 := by
  obtain ⟨h1, h2, -⟩ := h
  have := h1 0 (by omega); have := h1 1 (by omega); have := h1 2 (by omega); have := h1 3 (by omega)
  have h4 : t = 0 ∨ t = 1 ∨ t = 2 ∨ t = 3 := by omega
  rcases h4 with e | e | e | e <;> subst e <;> omega
theorem mvAll_ok {lc : Nat → Nat} {n : Nat} {fk : Nat → Fk} {sa : Nat → Nat} (h : wf0 lc n fk sa) {t i : Nat} (h8 : lc t < 8) (k : Nat) (hk : k ≤ n) : ∀ j, okF (mvAll fk k t i j) := by
  intro j
  unfold mvAll
  split
  · rename_i h2
    have hj := h.2.2.1 j
    have hs := h.2.2.2.1 j (by omega)
    rw [h2.2] at hs
    obtain ⟨q1, q2, q3, q4, q5, q6⟩ := hj
    unfold mvF
    refine ⟨q1, q2, q3, ?_, ?_, ?_⟩
    · show (fk j).2.2.2.1 + (if i < (fk j).2.2.2.1 then 1 else 0) < 8
      split <;> omega
    · show (fk j).2.2.2.2.1 + (if i ≤ (fk j).2.2.2.2.1 then 1 else 0) < 8
      split <;> omega
    · show (fk j).2.2.2.2.2 + (if i ≤ (fk j).2.2.2.2.2 then 1 else 0) < 8
      split <;> omega
  · exact h.2.2.1 j
/-- what split leaves -/
def splR (lc : Nat → Nat) (vs : Nat → Int32) (n : Nat) (fk : Nat → Fk) (t i f lim : Nat) (vs' : Nat → Int32) (fk' : Nat → Fk) (sa' : Nat → Nat) : Prop := vs' = upd (shV vs (t * 8) (i + 1) (lc t)) (t * 8 + i + 1) 0 ∧ (∃ k, k ≤ n ∧ insAt (mvAll fk n t i) fk' n k (t, f, lim, i, i, i + 1) ∧ (0 < k → ¬ gtK f lim (mvAll fk n t i (k - 1))) ∧ ∀ j, k ≤ j → j < n → gtK f lim (mvAll fk n t i j)) ∧ ∀ f, f < 5 → sa' f = cntF fk' f (n + 1)
section X0C
variable {l : Launch} {D : va_G} {g : Nat → Nat} {cB cI cS : ClassId} {lc : Nat → Nat} {vs : Nat → Int32} {n : Nat} {fk : Nat → Fk} {sa lf : Nat → Nat} {tys : List (ClassId × FieldType)}
/-- split's second loop, and what follows -/
theorem lp0_split {K : xK} {R : Room} (C : xOk R D (xT cB cI cS) 6 K cX0_split RX0) (t i f lim m : Nat) (ht : t < 4) (hm : m < 8) (fc : Nat → Fk) (hk : xW l R D 6 K (x0w g cB cI cS lc (shV vs (t * 8) (i + 1) m) n fc sa lf) [some (.ref (g 0)), some (.int (nI t)), some (.int (nI i)), some (.int (nI f)), some (.int (nI lim)), some (.int (nI (i + 1)))] 128 []) :
    ∀ d j : Nat, j = i + 1 + d → j ≤ m → xW l R D 6 K (x0w g cB cI cS lc (shV vs (t * 8) j m) n fc sa lf) [some (.ref (g 0)), some (.int (nI t)), some (.int (nI i)), some (.int (nI f)), some (.int (nI lim)), some (.int (nI j))] 88 [] := by
  intro d
  induction d with
  | zero =>
    intro j hj hjm
    have : j = i + 1 := by omega
    subst this
    refine xr_iload C dX0_split_88 rfl ?_
    refine xr_iload_n C dX0_split_90 rfl ?_
    refine xr_iconst (v := nI 1) C dX0_split_91 (by decide) ?_
    refine xr_iaddN C dX0_split_92 ?_
    refine xr_icmp_leN (tgt := 128) C (by omega) (by omega) dX0_split_93 (by decide) (fun hc => ?_) (fun hc => ?_)
    · exact hk
    · omega
  | succ d ih =>
    intro j hj hjm
    refine xr_iload C dX0_split_88 rfl ?_
    refine xr_iload_n C dX0_split_90 rfl ?_
    refine xr_iconst (v := nI 1) C dX0_split_91 (by decide) ?_
    refine xr_iaddN C dX0_split_92 ?_
    refine xr_icmp_leN (tgt := 128) C (by omega) (by omega) dX0_split_93 (by decide) (fun hc => ?_) (fun hc => ?_)
    · omega
    · refine xr_aload_n C dX0_split_96 rfl ?_
      refine x0g_13 C 0 rfl rfl dX0_split_97 ?_
      refine xr_iload_n C dX0_split_100 rfl ?_
      refine xr_bipush (v := nI 8) C dX0_split_101 (by decide) ?_
      refine xr_imulN C dX0_split_103 ?_
      refine xr_iload C dX0_split_104 rfl ?_
      refine xr_iaddN C dX0_split_106 ?_
      refine xr_aload_n C dX0_split_107 rfl ?_
      refine x0g_13 C 0 rfl rfl dX0_split_108 ?_
      refine xr_iload_n C dX0_split_111 rfl ?_
      refine xr_bipush (v := nI 8) C dX0_split_112 (by decide) ?_
      refine xr_imulN C dX0_split_114 ?_
      refine xr_iload C dX0_split_115 rfl ?_
      refine xr_iaddN C dX0_split_117 ?_
      refine xr_iconst (v := nI 1) C dX0_split_118 (by decide) ?_
      refine xr_isubN C (by omega) dX0_split_119 ?_
      refine xr_iald C 2 1 rfl rfl (by omega) (by decide) dX0_split_120 ?_
      refine xr_iast C 2 1 rfl rfl (by omega) (by decide) rfl dX0_split_121 ?_
      refine xr_iincM C (by omega) dX0_split_122 rfl (by decide) rfl ?_
      refine xr_goto (tgt := 88) C dX0_split_125 (by decide) ?_
      refine xr_ws (ws' := x0w g cB cI cS lc (shV vs (t * 8) (j - 1) m) n fc sa lf) ?_ (ih (j - 1) (by omega) (by omega))
      rw [← shV_step vs (t * 8) j m (by omega) hjm]
      rfl
/-- split -/
theorem m0_split (hw : wf0 lc n fk sa) (p1 p2 p3 p4 : Int32) : xMi l D (xT cB cI cS) yX0_split cX0_split 6 .int ({ frames := 2, cells := 0, slots := 0, locals := 47 } : Room) [.ref (g 0), .int p1, .int p2, .int p3, .int p4] (x0w g cB cI cS lc vs n fk sa lf)
    (fun r w => (¬ (xlf lc p1 p2 ∧ xin p3 4 ∧ xin p4 16) ∧ r = -1 ∧ w = x0w g cB cI cS lc vs n fk sa lf) ∨ ∃ t i f lim : Nat, t < 4 ∧ i < lc t ∧ f < 4 ∧ lim < 16 ∧ p1 = nI t ∧ p2 = nI i ∧ p3 = nI f ∧ p4 = nI lim ∧
      ((lc t = 8 ∧ r = -2 ∧ w = x0w g cB cI cS lc vs n fk sa lf) ∨ (lc t < 8 ∧ r = nI (lc t + 1) ∧ ∃ vs' fk' sa', splR lc vs n fk t i f lim vs' fk' sa' ∧ w = x0w g cB cI cS (va_up lc t (lc t + 1)) vs' (n + 1) fk' sa' lf))) := by
  refine xMi_of 1 rfl rfl (Nat.le_of_ble_eq_true rfl) (fun K C E => ?_)
  refine xr_aload_n C dX0_split_0 rfl ?_
  refine xr_iload_n C dX0_split_1 rfl ?_
  refine xr_iload_n C dX0_split_2 rfl ?_
  refine xr_callWi C (m0_isLeaf (fun t ht => (hw.1 t ht).2) p1 p2) (cw0_isLeaf ⟨by decide, by decide⟩) 0 rfl rfl rfl rfl (Nat.le_of_ble_eq_true rfl) dX0_split_3 (fun r w hw1 => ?_)
  obtain ⟨rfl, hw1⟩ := hw1
  rcases hw1 with ⟨rfl, t, i, ht, hi, rfl, rfl⟩ | ⟨rfl, hno⟩
  · refine xr_ifF_eq (tgt := 28) C (by decide) dX0_split_6 (by decide) ?_
    refine xr_iload_n C dX0_split_9 rfl ?_
    refine xr_callSi C (m0_isFeature p3) (cs0_isFeature ⟨by decide, by decide⟩) rfl rfl (Nat.le_of_ble_eq_true rfl) dX0_split_10 (fun r w hw1 => ?_)
    rcases hw1 with ⟨rfl, f, hf, rfl⟩ | ⟨rfl, hno⟩
    · refine xr_ifF_eq (tgt := 28) C (by decide) dX0_split_13 (by decide) ?_
      refine xr_iload C dX0_split_16 rfl ?_
      refine xr_if_lt (tgt := 28) C dX0_split_18 (by decide) (fun h1 => ?_) (fun h1 => ?_)
      · refine xr_iconst (v := (-1)) C dX0_split_28 (by decide) ?_
        exact xr_ireturn C E rfl dX0_split_29 (Or.inl ⟨fun h => xin_neg (by decide) h1 h.2.2, rfl, rfl⟩)
      · obtain ⟨lim, hlim, rfl⟩ := nI_of h1
        refine xr_iload C dX0_split_21 rfl ?_
        refine xr_bipush (v := nI 15) C dX0_split_23 (by decide) ?_
        refine xr_icmp_leN (tgt := 30) C (by omega) (by omega) dX0_split_25 (by decide) (fun h2 => ?_) (fun h2 => ?_)
        · have hl8 := (hw.1 t ht).2
          have hl1 := (hw.1 t ht).1
          have hn := wf0_n hw
          refine xr_aload_n C dX0_split_30 rfl ?_
          refine x0g_7 C 0 rfl rfl dX0_split_31 ?_
          refine xr_iload_n C dX0_split_34 rfl ?_
          refine xr_baldN C 1 0 rfl rfl (by omega) (by decide) dX0_split_35 ?_
          refine xr_bipush (v := nI 8) C dX0_split_36 (by decide) ?_
          refine xr_icmp_ltN (tgt := 44) C (by omega) (by omega) dX0_split_38 (by decide) (fun h3 => ?_) (fun h3 => ?_)
          · have hn' := wf0_n' hw ht h3
            refine xr_iconst (v := nI 0) C dX0_split_44 (by decide) ?_
            refine xr_istore C dX0_split_45 (by decide) rfl ?_
            suffices H : ∀ m k : Nat, k + m = n → xW l ({ frames := 2, cells := 0, slots := 0, locals := 47 } : Room) D 6 K (x0w g cB cI cS lc vs n (mvAll fk k t i) sa lf) [some (.ref (g 0)), some (.int (nI t)), some (.int (nI i)), some (.int (nI f)), some (.int (nI lim)), some (.int (nI k))] 47 [] by
              have := H n 0 (by omega)
              rw [mvAll_0] at this
              exact this
            intro m
            induction m with
            | zero =>
              intro k hk
              have : k = n := by omega
              subst this
              refine xr_iload C dX0_split_47 rfl ?_
              refine xr_aload_n C dX0_split_49 rfl ?_
              refine x0g_54 C 0 rfl rfl dX0_split_50 ?_
              refine xr_icmp_geN (tgt := 80) C (by omega) (by omega) dX0_split_53 (by decide) (fun hc => ?_) (fun hc => ?_)
              · refine xr_aload_n C dX0_split_80 rfl ?_
                refine x0g_7 C 0 rfl rfl dX0_split_81 ?_
                refine xr_iload_n C dX0_split_84 rfl ?_
                refine xr_baldN C 1 0 rfl rfl (by omega) (by decide) dX0_split_85 ?_
                refine xr_istore C dX0_split_86 (by decide) rfl ?_
                refine xr_ws (ws' := x0w g cB cI cS lc (shV vs (t * 8) (lc t) (lc t)) k (mvAll fk k t i) sa lf) (by rw [shV_0]) ?_
                refine lp0_split C t i f lim (lc t) ht h3 _ ?_ (lc t - (i + 1)) (lc t) (by omega) (Nat.le_refl _)
                refine xr_aload_n C dX0_split_128 rfl ?_
                refine x0g_13 C 0 rfl rfl dX0_split_129 ?_
                refine xr_iload_n C dX0_split_132 rfl ?_
                refine xr_bipush (v := nI 8) C dX0_split_133 (by decide) ?_
                refine xr_imulN C dX0_split_135 ?_
                refine xr_iload_n C dX0_split_136 rfl ?_
                refine xr_iaddN C dX0_split_137 ?_
                refine xr_iconst (v := nI 1) C dX0_split_138 (by decide) ?_
                refine xr_iaddN C dX0_split_139 ?_
                refine xr_iconst (v := nI 0) C dX0_split_140 (by decide) ?_
                refine xr_iast C 2 1 rfl rfl (by omega) (by decide) rfl dX0_split_141 ?_
                refine xr_aload_n C dX0_split_142 rfl ?_
                refine x0g_7 C 0 rfl rfl dX0_split_143 ?_
                refine xr_iload_n C dX0_split_146 rfl ?_
                refine xr_dup2 C dX0_split_147 rfl rfl ?_
                refine xr_baldN C 1 0 rfl rfl (by omega) (by decide) dX0_split_148 ?_
                refine xr_iconst (v := nI 1) C dX0_split_149 (by decide) ?_
                refine xr_iaddN C dX0_split_150 ?_
                refine xr_i2bN C (by omega) dX0_split_151 ?_
                refine xr_bastN C 1 0 rfl rfl (by omega) (by decide) (by omega) rfl dX0_split_152 ?_
                refine xr_aload_n C dX0_split_153 rfl ?_
                refine xr_iload_n C dX0_split_154 rfl ?_
                refine xr_iload_n C dX0_split_155 rfl ?_
                refine xr_iload_n C dX0_split_156 rfl ?_
                refine xr_iload C dX0_split_157 rfl ?_
                refine xr_ws (ws' := x0w g cB cI cS (va_up lc t (lc t + 1)) (upd (shV vs (t * 8) (i + 1) (lc t)) (t * 8 + i + 1) 0) k (mvAll fk k t i) sa lf) rfl ?_
                refine xr_callWv C (m0_insert t i f lim ht (by omega) hf (by omega) hn' (mvAll_ok hw h3 k (Nat.le_refl k))) (cw0_insert ⟨by decide, by decide⟩) 0 rfl rfl rfl rfl (Nat.le_of_ble_eq_true rfl) dX0_split_159 (fun w hw2 => ?_)
                obtain ⟨k', fk', sa', a1, a2, a3, a4, a5, rfl⟩ := hw2
                refine xr_aload_n C dX0_split_162 rfl ?_
                refine x0g_7 C 0 rfl rfl dX0_split_163 ?_
                refine xr_iload_n C dX0_split_166 rfl ?_
                refine xr_baldN C 1 0 rfl rfl (by omega) (by decide) dX0_split_167 ?_
                have e : va_up lc t (lc t + 1) t = lc t + 1 := by simp [va_up]
                exact xr_ireturn C E rfl dX0_split_168 (Or.inr ⟨t, i, f, lim, ht, hi, hf, by omega, rfl, rfl, rfl, rfl, Or.inr ⟨h3, by rw [e], _, fk', sa', ⟨rfl, ⟨k', a1, a2, a3, a4⟩, a5⟩, rfl⟩⟩)
              · omega
            | succ m ih =>
              intro k hk
              have ek := mvAll_at fk k t i
              have hok := hw.2.2.1 k
              have hb := hok.1
              refine xr_iload C dX0_split_47 rfl ?_
              refine xr_aload_n C dX0_split_49 rfl ?_
              refine x0g_54 C 0 rfl rfl dX0_split_50 ?_
              refine xr_icmp_geN (tgt := 80) C (by omega) (by omega) dX0_split_53 (by decide) (fun hc => ?_) (fun hc => ?_)
              · omega
              · refine xr_aload_n C dX0_split_56 rfl ?_
                refine x0g_17 C 0 rfl rfl dX0_split_57 ?_
                refine xr_iload C dX0_split_60 rfl ?_
                refine xr_baldN C 3 0 rfl rfl (by omega) (by decide) dX0_split_62 ?_
                refine xr_iload_n C dX0_split_63 rfl ?_
                rw [ek]
                refine xr_icmp_neN (tgt := 74) C (by omega) (by omega) dX0_split_64 (by decide) (fun h5 => ?_) (fun h5 => ?_)
                · refine xr_iinc1 C dX0_split_74 rfl (by decide) rfl ?_
                  refine xr_goto (tgt := 47) C dX0_split_77 (by decide) ?_
                  rw [mvAll_no h5]
                  exact ih (k + 1) (by omega)
                · refine xr_aload_n C dX0_split_67 rfl ?_
                  refine xr_iload C dX0_split_68 rfl ?_
                  refine xr_iload_n C dX0_split_70 rfl ?_
                  refine xr_callWv C (m0_moveUp k i (by omega) (by omega) (by rw [ek]; exact hok)) (cw0_moveUp ⟨by decide, by decide⟩) 0 rfl rfl rfl rfl (Nat.le_of_ble_eq_true rfl) dX0_split_71 (fun w hw2 => ?_)
                  subst hw2
                  rw [ek, mvAll_yes h5]
                  refine xr_iinc1 C dX0_split_74 rfl (by decide) rfl ?_
                  refine xr_goto (tgt := 47) C dX0_split_77 (by decide) ?_
                  exact ih (k + 1) (by omega)
          · refine xr_bipush (v := (-2)) C dX0_split_41 (by decide) ?_
            exact xr_ireturn C E rfl dX0_split_43 (Or.inr ⟨t, i, f, lim, ht, hi, hf, by omega, rfl, rfl, rfl, rfl, Or.inl ⟨by omega, rfl, rfl⟩⟩)
        · refine xr_iconst (v := (-1)) C dX0_split_28 (by decide) ?_
          exact xr_ireturn C E rfl dX0_split_29 (Or.inl ⟨fun h => by
            obtain ⟨-, -, x, hx, e⟩ := h
            have := nI_inj (by omega) (by omega) e
            omega, rfl, rfl⟩)
    · refine xr_ifT_eq (tgt := 28) C rfl dX0_split_13 (by decide) ?_
      refine xr_iconst (v := (-1)) C dX0_split_28 (by decide) ?_
      exact xr_ireturn C E rfl dX0_split_29 (Or.inl ⟨fun h => hno h.2.1, rfl, rfl⟩)
  · refine xr_ifT_eq (tgt := 28) C rfl dX0_split_6 (by decide) ?_
    refine xr_iconst (v := (-1)) C dX0_split_28 (by decide) ?_
    exact xr_ireturn C E rfl dX0_split_29 (Or.inl ⟨fun h => hno h.1, rfl, rfl⟩)
/-- setValue -/
theorem m0_setValue (hw : wf0 lc n fk sa) (p1 p2 v : Int32) : xMi l D (xT cB cI cS) yX0_setValue cX0_setValue 4 .boolean ({ frames := 2, cells := 0, slots := 0, locals := 42 } : Room) [.ref (g 0), .int p1, .int p2, .int v] (x0w g cB cI cS lc vs n fk sa lf)
    (fun r w => (¬ xlf lc p1 p2 ∧ r = 0 ∧ w = x0w g cB cI cS lc vs n fk sa lf) ∨ ∃ t i : Nat, t < 4 ∧ i < lc t ∧ p1 = nI t ∧ p2 = nI i ∧ r = 1 ∧ w = x0w g cB cI cS lc (upd vs (t * 8 + i) v) n fk sa lf) := by
  refine xMi_of 0 rfl rfl (Nat.le_of_ble_eq_true rfl) (fun K C E => ?_)
  refine xr_aload_n C dX0_setValue_0 rfl ?_
  refine xr_iload_n C dX0_setValue_1 rfl ?_
  refine xr_iload_n C dX0_setValue_2 rfl ?_
  refine xr_callWi C (m0_isLeaf (fun t ht => (hw.1 t ht).2) p1 p2) (cw0_isLeaf ⟨by decide, by decide⟩) 0 rfl rfl rfl rfl (Nat.le_of_ble_eq_true rfl) dX0_setValue_3 (fun r w hw1 => ?_)
  obtain ⟨rfl, hw1⟩ := hw1
  rcases hw1 with ⟨rfl, t, i, ht, hi, rfl, rfl⟩ | ⟨rfl, hno⟩
  · have hl8 := (hw.1 t ht).2
    refine xr_ifT_ne (tgt := 11) C (by decide) dX0_setValue_6 (by decide) ?_
    refine xr_aload_n C dX0_setValue_11 rfl ?_
    refine x0g_13 C 0 rfl rfl dX0_setValue_12 ?_
    refine xr_iload_n C dX0_setValue_15 rfl ?_
    refine xr_bipush (v := nI 8) C dX0_setValue_16 (by decide) ?_
    refine xr_imulN C dX0_setValue_18 ?_
    refine xr_iload_n C dX0_setValue_19 rfl ?_
    refine xr_iaddN C dX0_setValue_20 ?_
    refine xr_iload_n C dX0_setValue_21 rfl ?_
    refine xr_iast C 2 1 rfl rfl (by omega) (by decide) rfl dX0_setValue_22 ?_
    refine xr_iconst (v := nI 1) C dX0_setValue_23 (by decide) ?_
    exact xr_ireturn C E rfl dX0_setValue_24 (Or.inr ⟨t, i, ht, hi, rfl, rfl, by decide, rfl⟩)
  · refine xr_ifF_ne (tgt := 11) C rfl dX0_setValue_6 (by decide) ?_
    refine xr_iconst (v := nI 0) C dX0_setValue_9 (by decide) ?_
    exact xr_ireturn C E rfl dX0_setValue_10 (Or.inl ⟨hno, by decide, rfl⟩)
/-- clear -/
theorem m0_clear (hw : wf0 lc n fk sa) (p1 : Int32) : xMi l D (xT cB cI cS) yX0_clear cX0_clear 4 .boolean ({ frames := 1, cells := 0, slots := 0, locals := 22 } : Room) [.ref (g 0), .int p1] (x0w g cB cI cS lc vs n fk sa lf)
    (fun r w => (¬ xin p1 4 ∧ r = 0 ∧ w = x0w g cB cI cS lc vs n fk sa lf) ∨ ∃ t : Nat, t < 4 ∧ p1 = nI t ∧ r = 1 ∧ ∃ (n' : Nat) (fk' : Nat → Fk) (sa' : Nat → Nat), n' ≤ n ∧ (List.range n').map fk' = ((List.range n).map fk).filter (fun q => !(q.1 == t)) ∧ (∀ j, okF (fk' j)) ∧ (∀ f, f < 5 → sa' f = cntF fk' f n') ∧ w = x0w g cB cI cS (va_up lc t 1) (upd vs (t * 8) 0) n' fk' sa' lf) := by
  refine xMi_of 2 rfl rfl (Nat.le_of_ble_eq_true rfl) (fun K C E => ?_)
  have hn := wf0_n hw
  refine xr_iload_n C dX0_clear_0 rfl ?_
  refine xr_callSi C (m0_isTree p1) (cs0_isTree ⟨by decide, by decide⟩) rfl rfl (Nat.le_of_ble_eq_true rfl) dX0_clear_1 (fun r w hw1 => ?_)
  rcases hw1 with ⟨rfl, t, ht, rfl⟩ | ⟨rfl, hno⟩
  · refine xr_ifT_ne (tgt := 9) C (by decide) dX0_clear_4 (by decide) ?_
    refine xr_iconst (v := nI 0) C dX0_clear_9 (by decide) ?_
    refine xr_istore_n C dX0_clear_10 (by decide) rfl ?_
    refine xr_iconst (v := nI 0) C dX0_clear_11 (by decide) ?_
    refine xr_istore_n C dX0_clear_12 (by decide) rfl ?_
    suffices H : ∀ (m k c : Nat) (fc : Nat → Fk), k + m = n → c ≤ k → (List.range c).map fc = ((List.range k).map fk).filter (fun q => !(q.1 == t)) → (∀ j, k ≤ j → fc j = fk j) → (∀ j, okF (fc j)) → xW l ({ frames := 1, cells := 0, slots := 0, locals := 22 } : Room) D 4 K (x0w g cB cI cS lc vs n fc sa lf) [some (.ref (g 0)), some (.int (nI t)), some (.int (nI c)), some (.int (nI k))] 13 [] by
      exact H n 0 0 fk (by omega) (Nat.le_refl 0) rfl (fun _ _ => rfl) hw.2.2.1
    intro m
    induction m with
    | zero =>
      intro k c fc hk hck h1 h2 h3
      have : k = n := by omega
      subst this
      refine xr_iload_n C dX0_clear_13 rfl ?_
      refine xr_aload_n C dX0_clear_14 rfl ?_
      refine x0g_54 C 0 rfl rfl dX0_clear_15 ?_
      refine xr_icmp_geN (tgt := 46) C (by omega) (by omega) dX0_clear_18 (by decide) (fun hc => ?_) (fun hc => ?_)
      · refine xr_aload_n C dX0_clear_46 rfl ?_
        refine xr_iload_n C dX0_clear_47 rfl ?_
        refine x0p_54 C 0 rfl (Nat.le_of_ble_eq_true rfl) rfl dX0_clear_48 ?_
        refine xr_aload_n C dX0_clear_51 rfl ?_
        refine x0g_7 C 0 rfl rfl dX0_clear_52 ?_
        refine xr_iload_n C dX0_clear_55 rfl ?_
        refine xr_iconst (v := nI 1) C dX0_clear_56 (by decide) ?_
        refine xr_bastN C 1 0 rfl rfl (by omega) (by decide) (by omega) rfl dX0_clear_57 ?_
        refine xr_aload_n C dX0_clear_58 rfl ?_
        refine x0g_13 C 0 rfl rfl dX0_clear_59 ?_
        refine xr_iload_n C dX0_clear_62 rfl ?_
        refine xr_bipush (v := nI 8) C dX0_clear_63 (by decide) ?_
        refine xr_imulN C dX0_clear_65 ?_
        refine xr_iconst (v := nI 0) C dX0_clear_66 (by decide) ?_
        refine xr_iast C 2 1 rfl rfl (by omega) (by decide) rfl dX0_clear_67 ?_
        refine xr_aload_n C dX0_clear_68 rfl ?_
        refine xr_ws (ws' := x0w g cB cI cS (va_up lc t 1) (upd vs (t * 8) 0) c fc sa lf) rfl ?_
        refine xr_callWv C (m0_count (n := c) (by omega) h3) (cw0_count ⟨by decide, by decide⟩) 0 rfl rfl rfl rfl (Nat.le_of_ble_eq_true rfl) dX0_clear_69 (fun w hw2 => ?_)
        obtain ⟨sa', hsa, rfl⟩ := hw2
        refine xr_iconst (v := nI 1) C dX0_clear_72 (by decide) ?_
        exact xr_ireturn C E rfl dX0_clear_73 (Or.inr ⟨t, ht, rfl, by decide, c, fc, sa', hck, h1, h3, hsa, rfl⟩)
      · omega
    | succ m ih =>
      intro k c fc hk hck h1 h2 h3
      have ek := h2 k (Nat.le_refl k)
      have hb := (h3 k).1
      refine xr_iload_n C dX0_clear_13 rfl ?_
      refine xr_aload_n C dX0_clear_14 rfl ?_
      refine x0g_54 C 0 rfl rfl dX0_clear_15 ?_
      refine xr_icmp_geN (tgt := 46) C (by omega) (by omega) dX0_clear_18 (by decide) (fun hc => ?_) (fun hc => ?_)
      · omega
      · refine xr_aload_n C dX0_clear_21 rfl ?_
        refine x0g_17 C 0 rfl rfl dX0_clear_22 ?_
        refine xr_iload_n C dX0_clear_25 rfl ?_
        refine xr_baldN C 3 0 rfl rfl (by omega) (by decide) dX0_clear_26 ?_
        refine xr_iload_n C dX0_clear_27 rfl ?_
        rw [ek] at hb ⊢
        refine xr_icmp_eqN (tgt := 40) C (by omega) (by omega) dX0_clear_28 (by decide) (fun h5 => ?_) (fun h5 => ?_)
        · refine xr_iinc1 C dX0_clear_40 rfl (by decide) rfl ?_
          refine xr_goto (tgt := 13) C dX0_clear_43 (by decide) ?_
          refine ih (k + 1) c fc (by omega) (by omega) ?_ (fun j hj => h2 j (by omega)) h3
          rw [h1, List.range_succ, List.map_append, List.filter_append]
          simp [h5]
        · refine xr_aload_n C dX0_clear_31 rfl ?_
          refine xr_iload_n C dX0_clear_32 rfl ?_
          refine xr_iload_n C dX0_clear_33 rfl ?_
          refine xr_callWv C (m0_copyFork k c (by omega) (by omega) (h3 k)) (cw0_copyFork ⟨by decide, by decide⟩) 0 rfl rfl rfl rfl (Nat.le_of_ble_eq_true rfl) dX0_clear_34 (fun w hw2 => ?_)
          subst hw2
          refine xr_iinc1 C dX0_clear_37 rfl (by decide) rfl ?_
          refine xr_iinc1 C dX0_clear_40 rfl (by decide) rfl ?_
          refine xr_goto (tgt := 13) C dX0_clear_43 (by decide) ?_
          refine ih (k + 1) (c + 1) _ (by omega) (by omega) ?_ (fun j hj => ?_) (fun j => ?_)
          · rw [List.range_succ, List.map_append, List.range_succ, List.map_append, List.filter_append, ← h1]
            congr 1
            · refine List.map_congr_left (fun j hj => ?_)
              have := List.mem_range.mp hj
              simp only [va_up, if_neg (show ¬ j = c by omega)]
            · simp [va_up, ek, h5]
          · simp only [va_up, if_neg (show ¬ j = c by omega)]; exact h2 j (by omega)
          · unfold va_up
            split
            · exact h3 k
            · exact h3 j
  · refine xr_ifF_ne (tgt := 9) C rfl dX0_clear_4 (by decide) ?_
    refine xr_iconst (v := nI 0) C dX0_clear_7 (by decide) ?_
    exact xr_ireturn C E rfl dX0_clear_8 (Or.inl ⟨hno, by decide, rfl⟩)
end X0C
end
section
/-! TreeScorer: bits, sift, firstLeft -/
set_option maxRecDepth 100000
theorem xs_l : ∀ n, n < 32 → ((nI n &&& 31).toBitVec.smod 32).toNat = n := by decide +kernel
theorem sh_1 : ∀ m, m < 9 → (nI 1 <<< (nI m &&& 31)) - nI 1 = nI (2 ^ m - 1) := by decide +kernel
theorem sh_lt : ∀ m, m < 9 → 2 ^ m - 1 < 256 := by decide +kernel
def difN (L S : Nat) : Nat := (nI L &&& (nI S ^^^ (-1))).toBitVec.toNat
theorem difN_eq (L S : Nat) : nI L &&& (nI S ^^^ (-1)) = nI (difN L S) := nI_toBitVec _
theorem difN_lt {L S : Nat} (h : L < 256) : difN L S < 256 := by
  unfold difN
  rw [Int32.toBitVec_and, BitVec.toNat_and]
  refine Nat.lt_of_le_of_lt Nat.and_le_left ?_
  rw [pk_tn (by omega)]
  exact h
theorem difN_bit {L S i : Nat} (h : L < 256) (hi : i < 32) : (difN L S).testBit i = (L.testBit i && !S.testBit i) := by
  unfold difN
  rw [Int32.toBitVec_and, BitVec.toNat_and, Nat.testBit_and, pk_tn (by omega), BitVec.testBit_toNat, Int32.toBitVec_xor, BitVec.getLsbD_xor]
  have h1 : (-1 : Int32).toBitVec = BitVec.allOnes 32 := by decide
  have h2 : (nI S).toBitVec.getLsbD i = S.testBit i := by
    show (BitVec.ofNat 32 S).getLsbD i = _
    rw [BitVec.getLsbD_ofNat]
    simp [hi]
  rw [h1, h2, BitVec.getLsbD_allOnes]
  simp [hi]
theorem spn_bit : ∀ a, a < 8 → ∀ b, b < 8 → ∀ i, i < 8 → (spn a b).testBit i = decide (a ≤ i ∧ i ≤ b) := by decide +kernel
theorem bit_eq {L i : Nat} (h : L < 256) (hi : i < 8) : (nI L >>> (nI i &&& 31)) &&& nI 1 = nI (L / 2 ^ i % 2) := by
  rw [pk_shrN (by omega) _ i (xs_l i (by omega))]
  exact pk_andN (Nat.lt_of_le_of_lt (Nat.div_le_self _ _) (by omega)) 1 (by decide)
theorem bit_t {L i : Nat} : (0 < L / 2 ^ i % 2) ↔ L.testBit i = true := by
  rw [Nat.testBit_eq_decide_div_mod_eq]
  have := Nat.mod_lt (L / 2 ^ i) (show 2 > 0 by decide)
  simp only [decide_eq_true_eq]
  omega
/-- a fork among those of P takes leaf i of tree t away at the point p -/
def rmF (fk : Nat → Fk) (P : Nat → Prop) (p : Int32) (t i : Nat) : Prop := ∃ j, P j ∧ (fk j).1 = t ∧ (fk j).2.2.1 < ftv p (fk j).2.1 ∧ (fk j).2.2.2.1 ≤ i ∧ i ≤ (fk j).2.2.2.2.1
def lfI (lc : Nat → Nat) (fk : Nat → Fk) (P : Nat → Prop) (p : Int32) (lf : Nat → Nat) : Prop := ∀ t, t < 4 → lf t < 256 ∧ ∀ i, i < 8 → ((lf t).testBit i = true ↔ (i < lc t ∧ ¬ rmF fk P p t i))
theorem lfI_congr {lc : Nat → Nat} {fk : Nat → Fk} {P P' : Nat → Prop} {p : Int32} {lf : Nat → Nat} (h : ∀ t i, rmF fk P p t i ↔ rmF fk P' p t i) (hI : lfI lc fk P p lf) : lfI lc fk P' p lf := by
  intro t ht
  refine ⟨(hI t ht).1, fun i hi => ?_⟩
  rw [(hI t ht).2 i hi, h t i]
theorem lfI_step {lc : Nat → Nat} {fk : Nat → Fk} {P : Nat → Prop} {p : Int32} {lf : Nat → Nat} (hI : lfI lc fk P p lf) {k : Nat} (hok : okF (fk k)) (hlim : (fk k).2.2.1 < ftv p (fk k).2.1) : lfI lc fk (fun j => P j ∨ j = k) p (va_up lf (fk k).1 (difN (lf (fk k).1) (spn (fk k).2.2.2.1 (fk k).2.2.2.2.1))) := by
  obtain ⟨o1, o2, o3, o4, o5, o6⟩ := hok
  have key : ∀ t i, rmF fk (fun j => P j ∨ j = k) p t i ↔ rmF fk P p t i ∨ ((fk k).1 = t ∧ (fk k).2.2.2.1 ≤ i ∧ i ≤ (fk k).2.2.2.2.1) := by
    intro t i
    constructor
    · rintro ⟨j, hj | rfl, a, b, c⟩
      · exact Or.inl ⟨j, hj, a, b, c⟩
      · exact Or.inr ⟨a, c⟩
    · rintro (⟨j, hj, h⟩ | ⟨a, c⟩)
      · exact ⟨j, Or.inl hj, h⟩
      · exact ⟨k, Or.inr rfl, a, hlim, c⟩
  intro t ht
  by_cases htk : t = (fk k).1
  · subst htk
    have e : va_up lf (fk k).1 (difN (lf (fk k).1) (spn (fk k).2.2.2.1 (fk k).2.2.2.2.1)) (fk k).1 = difN (lf (fk k).1) (spn (fk k).2.2.2.1 (fk k).2.2.2.2.1) := by simp [va_up]
    rw [e]
    refine ⟨difN_lt (hI _ ht).1, fun i hi => ?_⟩
    rw [difN_bit (hI _ ht).1 (by omega), spn_bit _ o4 _ o5 i hi, key]
    have h := (hI _ ht).2 i hi
    simp only [Bool.and_eq_true, Bool.not_eq_true', decide_eq_false_iff_not, h, true_and]
    constructor
    · rintro ⟨⟨a, b⟩, c⟩
      exact ⟨a, fun h => h.elim b c⟩
    · rintro ⟨a, b⟩
      exact ⟨⟨a, fun h => b (Or.inl h)⟩, fun h => b (Or.inr h)⟩
  · have e : va_up lf (fk k).1 (difN (lf (fk k).1) (spn (fk k).2.2.2.1 (fk k).2.2.2.2.1)) t = lf t := by simp [va_up, htk]
    rw [e]
    refine ⟨(hI t ht).1, fun i hi => ?_⟩
    rw [(hI t ht).2 i hi, key]
    constructor
    · rintro ⟨a, b⟩
      exact ⟨a, fun h => h.elim b (fun q => htk q.1.symm)⟩
    · rintro ⟨a, b⟩
      exact ⟨a, fun h => b (Or.inl h)⟩
theorem wf0_ft {lc : Nat → Nat} {n : Nat} {fk : Nat → Fk} {sa : Nat → Nat} (h : wf0 lc n fk sa) {j k : Nat} (hjk : j ≤ k) (hk : k < n) : (fk j).2.1 ≤ (fk k).2.1 := by
  rcases Nat.lt_or_ge j k with q | q
  · have h1 := h.2.2.2.2.1 j k q hk
    have h2 := (h.2.2.1 j).2.2.1
    have h3 := (h.2.2.1 k).2.2.1
    unfold keyF at h1
    omega
  · have : j = k := by omega
    subst this
    exact Nat.le_refl _
theorem wf0_lim {lc : Nat → Nat} {n : Nat} {fk : Nat → Fk} {sa : Nat → Nat} (h : wf0 lc n fk sa) {j k : Nat} (hjk : j ≤ k) (hk : k < n) (e : (fk j).2.1 = (fk k).2.1) : (fk j).2.2.1 ≤ (fk k).2.2.1 := by
  rcases Nat.lt_or_ge j k with q | q
  · have h1 := h.2.2.2.2.1 j k q hk
    unfold keyF at h1
    omega
  · have : j = k := by omega
    subst this
    exact Nat.le_refl _
theorem cntF_iff {fk : Nat → Fk} {n : Nat} (hs : ∀ j k, j ≤ k → k < n → (fk j).2.1 ≤ (fk k).2.1) (f : Nat) : ∀ m, m ≤ n → ∀ j, j < cntF fk f m ↔ j < m ∧ (fk j).2.1 < f := by
  intro m
  induction m with
  | zero => intro _ j; simp [cntF]
  | succ m ih =>
    intro hm j
    have ih := ih (by omega)
    have hle := cntF_le fk f m
    unfold cntF
    by_cases hf : (fk m).2.1 < f
    · have hc : cntF fk f m = m := by
        rcases Nat.lt_or_ge (cntF fk f m) m with q | q
        · have h1 := hs _ m (Nat.le_of_lt q) (by omega)
          exact absurd ((ih _).2 ⟨q, by omega⟩) (Nat.lt_irrefl _)
        · omega
      rw [if_pos hf, hc]
      constructor
      · intro hj
        have h1 := hs j m (by omega) (by omega)
        exact ⟨hj, by omega⟩
      · exact fun h => h.1
    · rw [if_neg hf, Nat.add_zero, ih j]
      constructor
      · rintro ⟨a, b⟩
        exact ⟨by omega, b⟩
      · rintro ⟨a, b⟩
        refine ⟨?_, b⟩
        rcases Nat.lt_or_ge j m with q | q
        · exact q
        · have : j = m := by omega
          subst this
          exact absurd b hf
theorem wf0_seg {lc : Nat → Nat} {n : Nat} {fk : Nat → Fk} {sa : Nat → Nat} (h : wf0 lc n fk sa) {f : Nat} (hf : f < 4) (j : Nat) : (sa f ≤ j ∧ j < sa (f + 1)) ↔ (j < n ∧ (fk j).2.1 = f) := by
  have hs : ∀ j k, j ≤ k → k < n → (fk j).2.1 ≤ (fk k).2.1 := fun j k a b => wf0_ft h a b
  have e1 := h.2.2.2.2.2 f (by omega)
  have e2 := h.2.2.2.2.2 (f + 1) (by omega)
  have c1 := cntF_iff hs f n (Nat.le_refl n) j
  have c2 := cntF_iff hs (f + 1) n (Nat.le_refl n) j
  rw [e1, e2, c2, ← Nat.not_lt, c1]
  constructor
  · rintro ⟨a, b, c⟩
    refine ⟨b, ?_⟩
    have : ¬ (fk j).2.1 < f := fun q => a ⟨b, q⟩
    omega
  · rintro ⟨a, b⟩
    exact ⟨fun q => by omega, a, by omega⟩
theorem wf0_sa {lc : Nat → Nat} {n : Nat} {fk : Nat → Fk} {sa : Nat → Nat} (h : wf0 lc n fk sa) {f : Nat} (hf : f < 5) : sa f ≤ 28 := by
  rw [h.2.2.2.2.2 f hf]
  exact Nat.le_trans (cntF_le fk f n) (wf0_n h)
section X0D
variable {l : Launch} {D : va_G} {g : Nat → Nat} {cB cI cS : ClassId} {lc : Nat → Nat} {vs : Nat → Int32} {n : Nat} {fk : Nat → Fk} {sa lf : Nat → Nat} {tys : List (ClassId × FieldType)}
/-- sift's inner loop -/
theorem lp0_sift {K : xK} {R : Room} (hR : 1 ≤ R.frames ∧ 21 ≤ R.locals) (C : xOk R D (xT cB cI cS) 7 K cX0_sift RX0) (hw : wf0 lc n fk sa) (p : Int32) (f : Nat) (hf : f < 4)
    (hk : ∀ (lf' : Nat → Nat) (k : Nat) (o6 : Option Value), lfI lc fk (fun j => j < n ∧ (fk j).2.1 < f + 1) p lf' → xW l R D 7 K (x0w g cB cI cS lc vs n fk sa lf') [some (.ref (g 0)), some (.int p), some (.int (nI f)), some (.int (nI (ftv p f))), some (.int (nI (sa (f + 1)))), some (.int (nI k)), o6] 134 []) :
    ∀ (d k : Nat) (lf' : Nat → Nat) (o6 : Option Value), k + d = 28 → sa f ≤ k → lfI lc fk (fun j => j < n ∧ ((fk j).2.1 < f ∨ ((fk j).2.1 = f ∧ j < k))) p lf' → xW l R D 7 K (x0w g cB cI cS lc vs n fk sa lf') [some (.ref (g 0)), some (.int p), some (.int (nI f)), some (.int (nI (ftv p f))), some (.int (nI (sa (f + 1)))), some (.int (nI k)), o6] 61 [] := by
  have hs5 := wf0_sa hw (show f + 1 < 5 by omega)
  have hv := ftv_lt p f
  have hseg := fun j => wf0_seg hw hf j
  have fin : ∀ (k : Nat) (lf' : Nat → Nat), sa f ≤ k → lfI lc fk (fun j => j < n ∧ ((fk j).2.1 < f ∨ ((fk j).2.1 = f ∧ j < k))) p lf' → (∀ j, k ≤ j → j < n → (fk j).2.1 = f → ftv p f ≤ (fk j).2.2.1) → lfI lc fk (fun j => j < n ∧ (fk j).2.1 < f + 1) p lf' := by
    intro k lf' h1 h2 h3
    refine lfI_congr (fun t i => ?_) h2
    constructor
    · rintro ⟨j, ⟨a, b⟩, c⟩
      exact ⟨j, ⟨a, by omega⟩, c⟩
    · rintro ⟨j, ⟨a, b⟩, c1, c2, c3⟩
      refine ⟨j, ⟨a, ?_⟩, c1, c2, c3⟩
      rcases Nat.lt_or_ge (fk j).2.1 f with q | q
      · exact Or.inl q
      · have hjf : (fk j).2.1 = f := by omega
        refine Or.inr ⟨hjf, ?_⟩
        rcases Nat.lt_or_ge j k with q | q
        · exact q
        · have := h3 j q a hjf
          rw [hjf] at c2
          omega
  intro d
  induction d with
  | zero =>
    intro k lf' o6 hkd hsk hI
    refine xr_iload C dX0_sift_61 rfl ?_
    refine xr_iload C dX0_sift_63 rfl ?_
    refine xr_icmp_geN (tgt := 134) C (by omega) (by omega) dX0_sift_65 (by decide) (fun hc => ?_) (fun hc => ?_)
    · refine hk lf' k o6 (fin k lf' hsk hI (fun j h1 h2 h3 => ?_))
      have := (hseg j).2 ⟨h2, h3⟩
      omega
    · omega
  | succ d ih =>
    intro k lf' o6 hkd hsk hI
    refine xr_iload C dX0_sift_61 rfl ?_
    refine xr_iload C dX0_sift_63 rfl ?_
    refine xr_icmp_geN (tgt := 134) C (by omega) (by omega) dX0_sift_65 (by decide) (fun hc => ?_) (fun hc => ?_)
    · refine hk lf' k o6 (fin k lf' hsk hI (fun j h1 h2 h3 => ?_))
      have := (hseg j).2 ⟨h2, h3⟩
      omega
    · obtain ⟨hkn, hkf⟩ := (hseg k).1 ⟨hsk, hc⟩
      have hok := hw.2.2.1 k
      obtain ⟨o1, o2, o3, o4, o5, o6'⟩ := hok
      refine xr_aload_n C dX0_sift_68 rfl ?_
      refine x0g_23 C 0 rfl rfl dX0_sift_69 ?_
      refine xr_iload C dX0_sift_72 rfl ?_
      refine xr_baldN C 5 0 rfl rfl (by omega) (by decide) dX0_sift_74 ?_
      refine xr_iload_n C dX0_sift_75 rfl ?_
      refine xr_icmp_geN (tgt := 134) C (by omega) (by omega) dX0_sift_76 (by decide) (fun hc2 => ?_) (fun hc2 => ?_)
      · refine hk lf' k o6 (fin k lf' hsk hI (fun j h1 h2 h3 => ?_))
        have := wf0_lim hw h1 h2 (by omega)
        omega
      · refine xr_aload_n C dX0_sift_79 rfl ?_
        refine x0g_26 C 0 rfl rfl dX0_sift_80 ?_
        refine xr_iload C dX0_sift_83 rfl ?_
        refine xr_baldN C 6 0 rfl rfl (by omega) (by decide) dX0_sift_85 ?_
        refine xr_aload_n C dX0_sift_86 rfl ?_
        refine x0g_29 C 0 rfl rfl dX0_sift_87 ?_
        refine xr_iload C dX0_sift_90 rfl ?_
        refine xr_baldN C 7 0 rfl rfl (by omega) (by decide) dX0_sift_92 ?_
        refine xr_callSi C (m0_span _ _ o4 o5) (cs0_span hR) rfl rfl (Nat.le_of_ble_eq_true rfl) dX0_sift_93 (fun r w hw1 => ?_)
        subst hw1
        have hlf := (hI _ o1).1
        refine xr_istore C dX0_sift_96 (by decide) rfl ?_
        refine xr_aload_n C dX0_sift_98 rfl ?_
        refine x0g_38 C 0 rfl rfl dX0_sift_99 ?_
        refine xr_aload_n C dX0_sift_102 rfl ?_
        refine x0g_17 C 0 rfl rfl dX0_sift_103 ?_
        refine xr_iload C dX0_sift_106 rfl ?_
        refine xr_baldN C 3 0 rfl rfl (by omega) (by decide) dX0_sift_108 ?_
        refine xr_aload_n C dX0_sift_109 rfl ?_
        refine x0g_38 C 0 rfl rfl dX0_sift_110 ?_
        refine xr_aload_n C dX0_sift_113 rfl ?_
        refine x0g_17 C 0 rfl rfl dX0_sift_114 ?_
        refine xr_iload C dX0_sift_117 rfl ?_
        refine xr_baldN C 3 0 rfl rfl (by omega) (by decide) dX0_sift_119 ?_
        refine xr_saldN C 10 2 rfl rfl (by omega) (by decide) dX0_sift_120 ?_
        refine xr_iload C dX0_sift_121 rfl ?_
        refine xr_iconst (v := (-1)) C dX0_sift_123 (by decide) ?_
        refine xr_ixor C dX0_sift_124 ?_
        refine xr_iand C dX0_sift_125 ?_
        refine xr_top (difN_eq _ _) ?_
        refine xr_i2sN C (difN_lt hlf) dX0_sift_126 ?_
        refine xr_sastN C 10 2 rfl rfl (by omega) (by decide) (difN_lt hlf) rfl dX0_sift_127 ?_
        refine xr_iinc1 C dX0_sift_128 rfl (by decide) rfl ?_
        refine xr_goto (tgt := 61) C dX0_sift_131 (by decide) ?_
        refine ih (k + 1) _ _ (by omega) (by omega) (lfI_congr (fun t i => ?_) (lfI_step hI (hw.2.2.1 k) (by rw [hkf]; exact hc2)))
        constructor
        · rintro ⟨j, h | rfl, c⟩
          · exact ⟨j, ⟨h.1, h.2.imp id (fun q => ⟨q.1, by omega⟩)⟩, c⟩
          · exact ⟨j, ⟨hkn, Or.inr ⟨hkf, by omega⟩⟩, c⟩
        · rintro ⟨j, ⟨a, b⟩, c⟩
          refine ⟨j, ?_, c⟩
          by_cases hjk : j = k
          · exact Or.inr hjk
          · exact Or.inl ⟨a, b.imp id (fun q => ⟨q.1, by omega⟩)⟩
/-- sift -/
theorem m0_sift (hw : wf0 lc n fk sa) (p : Int32) : xMv l D (xT cB cI cS) yX0_sift cX0_sift 7 ({ frames := 1, cells := 0, slots := 0, locals := 21 } : Room) [.ref (g 0), .int p] (x0w g cB cI cS lc vs n fk sa lf) (fun w => ∃ lf' : Nat → Nat, lfI lc fk (fun j => j < n) p lf' ∧ w = x0w g cB cI cS lc vs n fk sa lf') := by
  refine xMv_of 5 rfl rfl (Nat.le_of_ble_eq_true rfl) (fun K C E => ?_)
  refine xr_iconst (v := nI 0) C dX0_sift_0 (by decide) ?_
  refine xr_istore_n C dX0_sift_1 (by decide) rfl ?_
  have HB : ∀ (m f : Nat) (lf' : Nat → Nat) (o3 o4 o5 o6 : Option Value), f + m = 4 → lfI lc fk (fun j => j < n ∧ (fk j).2.1 < f) p lf' → xW l ({ frames := 1, cells := 0, slots := 0, locals := 21 } : Room) D 7 K (x0w g cB cI cS lc vs n fk sa lf') [some (.ref (g 0)), some (.int p), some (.int (nI f)), o3, o4, o5, o6] 32 [] := by
    intro m
    induction m with
    | zero =>
      intro f lf' o3 o4 o5 o6 hfm hI
      have : f = 4 := by omega
      subst this
      refine xr_iload_n C dX0_sift_32 rfl ?_
      refine xr_iconst (v := nI 4) C dX0_sift_33 (by decide) ?_
      refine xr_icmp_geN (tgt := 140) C (by omega) (by omega) dX0_sift_34 (by decide) (fun hc => ?_) (fun hc => ?_)
      · exact xr_return C E dX0_sift_140 ⟨lf', lfI_congr (fun t i => ⟨fun ⟨j, a, b⟩ => ⟨j, a.1, b⟩, fun ⟨j, a, b⟩ => ⟨j, ⟨a, (hw.2.2.1 j).2.1⟩, b⟩⟩) hI, rfl⟩
      · omega
    | succ m ih =>
      intro f lf' o3 o4 o5 o6 hfm hI
      have hs4 := wf0_sa hw (show f < 5 by omega)
      have hs5 := wf0_sa hw (show f + 1 < 5 by omega)
      refine xr_iload_n C dX0_sift_32 rfl ?_
      refine xr_iconst (v := nI 4) C dX0_sift_33 (by decide) ?_
      refine xr_icmp_geN (tgt := 140) C (by omega) (by omega) dX0_sift_34 (by decide) (fun hc => ?_) (fun hc => ?_)
      · omega
      · refine xr_iload_n C dX0_sift_37 rfl ?_
        refine xr_iload_n C dX0_sift_38 rfl ?_
        refine xr_callSi C (m0_featureIn p f) (cs0_featureIn ⟨by decide, by decide⟩) rfl rfl (Nat.le_of_ble_eq_true rfl) dX0_sift_39 (fun r w hw1 => ?_)
        subst hw1
        refine xr_istore_n C dX0_sift_42 (by decide) rfl ?_
        refine xr_aload_n C dX0_sift_43 rfl ?_
        refine x0g_35 C 0 rfl rfl dX0_sift_44 ?_
        refine xr_iload_n C dX0_sift_47 rfl ?_
        refine xr_iconst (v := nI 1) C dX0_sift_48 (by decide) ?_
        refine xr_iaddN C dX0_sift_49 ?_
        refine xr_baldN C 9 0 rfl rfl (by omega) (by decide) dX0_sift_50 ?_
        refine xr_istore C dX0_sift_51 (by decide) rfl ?_
        refine xr_aload_n C dX0_sift_53 rfl ?_
        refine x0g_35 C 0 rfl rfl dX0_sift_54 ?_
        refine xr_iload_n C dX0_sift_57 rfl ?_
        refine xr_baldN C 9 0 rfl rfl (by omega) (by decide) dX0_sift_58 ?_
        refine xr_istore C dX0_sift_59 (by decide) rfl ?_
        refine lp0_sift ⟨by decide, by decide⟩ C hw p f (by omega) (fun lf2 k o6 hI2 => ?_) (28 - sa f) (sa f) lf' o6 (by omega) (Nat.le_refl _) (lfI_congr (fun t i => ?_) hI)
        · refine xr_iinc1 C dX0_sift_134 rfl (by decide) rfl ?_
          refine xr_goto (tgt := 32) C dX0_sift_137 (by decide) ?_
          exact ih (f + 1) lf2 _ _ _ _ (by omega) hI2
        · constructor
          · rintro ⟨j, a, b⟩
            exact ⟨j, ⟨a.1, Or.inl a.2⟩, b⟩
          · rintro ⟨j, ⟨a, a2⟩, b⟩
            refine ⟨j, ⟨a, ?_⟩, b⟩
            rcases a2 with q | ⟨q, q2⟩
            · exact q
            · have := (wf0_seg hw (show f < 4 by omega) j).2 ⟨a, q⟩
              omega
  suffices H : ∀ (m t : Nat) (lf' : Nat → Nat), t + m = 4 → (∀ j, j < t → lf' j = 2 ^ lc j - 1) → xW l ({ frames := 1, cells := 0, slots := 0, locals := 21 } : Room) D 7 K (x0w g cB cI cS lc vs n fk sa lf') [some (.ref (g 0)), some (.int p), some (.int (nI t)), none, none, none, none] 2 [] by
    exact H 4 0 lf rfl (fun j h => absurd h (Nat.not_lt_zero j))
  intro m
  induction m with
  | zero =>
    intro t lf' htm hlf
    have : t = 4 := by omega
    subst this
    refine xr_iload_n C dX0_sift_2 rfl ?_
    refine xr_iconst (v := nI 4) C dX0_sift_3 (by decide) ?_
    refine xr_icmp_geN (tgt := 30) C (by omega) (by omega) dX0_sift_4 (by decide) (fun hc => ?_) (fun hc => ?_)
    · refine xr_iconst (v := nI 0) C dX0_sift_30 (by decide) ?_
      refine xr_istore_n C dX0_sift_31 (by decide) rfl ?_
      refine HB 4 0 lf' _ _ _ _ rfl (fun t ht => ?_)
      have hl8 := (hw.1 t ht).2
      rw [hlf t ht]
      refine ⟨sh_lt _ (by omega), fun i hi => ?_⟩
      rw [Nat.testBit_two_pow_sub_one, decide_eq_true_eq]
      constructor
      · intro h
        exact ⟨h, fun ⟨j, a, _⟩ => absurd a.2 (Nat.not_lt_zero _)⟩
      · exact fun h => h.1
    · omega
  | succ m ih =>
    intro t lf' htm hlf
    have hl8 := (hw.1 t (by omega)).2
    refine xr_iload_n C dX0_sift_2 rfl ?_
    refine xr_iconst (v := nI 4) C dX0_sift_3 (by decide) ?_
    refine xr_icmp_geN (tgt := 30) C (by omega) (by omega) dX0_sift_4 (by decide) (fun hc => ?_) (fun hc => ?_)
    · omega
    · refine xr_aload_n C dX0_sift_7 rfl ?_
      refine x0g_38 C 0 rfl rfl dX0_sift_8 ?_
      refine xr_iload_n C dX0_sift_11 rfl ?_
      refine xr_iconst (v := nI 1) C dX0_sift_12 (by decide) ?_
      refine xr_aload_n C dX0_sift_13 rfl ?_
      refine x0g_7 C 0 rfl rfl dX0_sift_14 ?_
      refine xr_iload_n C dX0_sift_17 rfl ?_
      refine xr_baldN C 1 0 rfl rfl (by omega) (by decide) dX0_sift_18 ?_
      refine xr_ishl C dX0_sift_19 ?_
      refine xr_iconst (v := nI 1) C dX0_sift_20 (by decide) ?_
      refine xr_isub C dX0_sift_21 ?_
      refine xr_top (sh_1 _ (by omega)) ?_
      refine xr_i2sN C (sh_lt _ (by omega)) dX0_sift_22 ?_
      refine xr_sastN C 10 2 rfl rfl (by omega) (by decide) (sh_lt _ (by omega)) rfl dX0_sift_23 ?_
      refine xr_iinc1 C dX0_sift_24 rfl (by decide) rfl ?_
      refine xr_goto (tgt := 2) C dX0_sift_27 (by decide) ?_
      refine ih (t + 1) _ (by omega) (fun j hj => ?_)
      by_cases h : j = t
      · subst h; simp [va_up]
      · simp only [va_up, if_neg h]; exact hlf j (by omega)
/-- firstLeft: the first leaf that is left -/
theorem m0_firstLeft (t x : Nat) (ht : t < 4) (hx : x < 8) (hL : lf t < 256) (h0 : ∀ i, i < x → (lf t).testBit i = false) (h1 : (lf t).testBit x = true) : xMi l D (xT cB cI cS) yX0_firstLeft cX0_firstLeft 3 .int ({ frames := 0, cells := 0, slots := 0, locals := 0 } : Room) [.ref (g 0), .int (nI t)] (x0w g cB cI cS lc vs n fk sa lf) (fun r w => r = nI x ∧ w = x0w g cB cI cS lc vs n fk sa lf) := by
  refine xMi_of 1 rfl rfl (Nat.le_of_ble_eq_true rfl) (fun K C E => ?_)
  refine xr_iconst (v := nI 0) C dX0_firstLeft_0 (by decide) ?_
  refine xr_istore_n C dX0_firstLeft_1 (by decide) rfl ?_
  suffices H : ∀ m i : Nat, i + m = x → xW l ({ frames := 0, cells := 0, slots := 0, locals := 0 } : Room) D 3 K (x0w g cB cI cS lc vs n fk sa lf) [some (.ref (g 0)), some (.int (nI t)), some (.int (nI i))] 2 [] by
    exact H x 0 (by omega)
  intro m
  induction m with
  | zero =>
    intro i hi
    have : i = x := by omega
    subst this
    refine xr_iload_n C dX0_firstLeft_2 rfl ?_
    refine xr_bipush (v := nI 7) C dX0_firstLeft_3 (by decide) ?_
    refine xr_icmp_geN (tgt := 27) C (by omega) (by omega) dX0_firstLeft_5 (by decide) (fun hc => ?_) (fun hc => ?_)
    · refine xr_iload_n C dX0_firstLeft_27 rfl ?_
      exact xr_ireturn C E rfl dX0_firstLeft_28 ⟨rfl, rfl⟩
    · refine xr_aload_n C dX0_firstLeft_8 rfl ?_
      refine x0g_38 C 0 rfl rfl dX0_firstLeft_9 ?_
      refine xr_iload_n C dX0_firstLeft_12 rfl ?_
      refine xr_saldN C 10 2 rfl rfl (by omega) (by decide) dX0_firstLeft_13 ?_
      refine xr_iload_n C dX0_firstLeft_14 rfl ?_
      refine xr_ishr C dX0_firstLeft_15 ?_
      refine xr_iconst (v := nI 1) C dX0_firstLeft_16 (by decide) ?_
      refine xr_iand C dX0_firstLeft_17 ?_
      refine xr_top (bit_eq hL hx) ?_
      refine xr_if_ne (tgt := 27) C dX0_firstLeft_18 (by decide) (fun hc2 => ?_) (fun hc2 => ?_)
      · refine xr_iload_n C dX0_firstLeft_27 rfl ?_
        exact xr_ireturn C E rfl dX0_firstLeft_28 ⟨rfl, rfl⟩
      · exfalso
        have h3 := bit_t.2 h1
        have h4 := Nat.mod_lt (lf t / 2 ^ i) (show 2 > 0 by decide)
        exact nI_ne0 h3 (by omega) hc2
  | succ m ih =>
    intro i hi
    refine xr_iload_n C dX0_firstLeft_2 rfl ?_
    refine xr_bipush (v := nI 7) C dX0_firstLeft_3 (by decide) ?_
    refine xr_icmp_geN (tgt := 27) C (by omega) (by omega) dX0_firstLeft_5 (by decide) (fun hc => ?_) (fun hc => ?_)
    · omega
    · refine xr_aload_n C dX0_firstLeft_8 rfl ?_
      refine x0g_38 C 0 rfl rfl dX0_firstLeft_9 ?_
      refine xr_iload_n C dX0_firstLeft_12 rfl ?_
      refine xr_saldN C 10 2 rfl rfl (by omega) (by decide) dX0_firstLeft_13 ?_
      refine xr_iload_n C dX0_firstLeft_14 rfl ?_
      refine xr_ishr C dX0_firstLeft_15 ?_
      refine xr_iconst (v := nI 1) C dX0_firstLeft_16 (by decide) ?_
      refine xr_iand C dX0_firstLeft_17 ?_
      refine xr_top (bit_eq hL (by omega)) ?_
      have h3 : lf t / 2 ^ i % 2 = 0 := by
        rcases Nat.eq_zero_or_pos (lf t / 2 ^ i % 2) with q | q
        · exact q
        · have h5 := bit_t.1 q
          rw [h0 i (by omega)] at h5
          cases h5
      rw [h3]
      refine xr_ifF_ne (tgt := 27) C (by decide) dX0_firstLeft_18 (by decide) ?_
      refine xr_iinc1 C dX0_firstLeft_21 rfl (by decide) rfl ?_
      refine xr_goto (tgt := 2) C dX0_firstLeft_24 (by decide) ?_
      exact ih (i + 1) (by omega)
end X0D
end
section
/-! TreeScorer: what is asked of points -/
set_option maxRecDepth 100000
/-- ex p t is the leaf of tree t where the point p comes to -/
def exOk (lc : Nat → Nat) (n : Nat) (fk : Nat → Fk) (ex : Int32 → Nat → Nat) : Prop := ∀ p t, t < 4 → ex p t < lc t ∧ (∀ i, i < ex p t → rmF fk (fun j => j < n) p t i) ∧ ¬ rmF fk (fun j => j < n) p t (ex p t)
def scV (vs : Nat → Int32) (ex : Int32 → Nat → Nat) (p : Int32) : Nat → Int32
  | 0 => nI 0
  | t + 1 => scV vs ex p t + vs (t * 8 + ex p t)
def dpC (fk : Nat → Fk) (ex : Int32 → Nat → Nat) (p : Int32) : Nat → Nat
  | 0 => 0
  | k + 1 => dpC fk ex p k + (if (fk k).2.2.2.1 ≤ ex p (fk k).1 ∧ ex p (fk k).1 ≤ (fk k).2.2.2.2.2 then 1 else 0)
def laF (ex : Int32 → Nat → Nat) (p : Int32) (f t : Nat) : Nat → Int32
  | 0 => nI 0
  | v + 1 => laF ex p f t v ||| (nI 1 <<< (nI (ex (wfI p f v) t) &&& 31))
def bvF (sc : Nat → Int32) : Nat → Nat × Int32
  | 0 => (0, nI 0)
  | v + 1 => if v = 0 ∨ (bvF sc v).2 < sc v then (v, sc v) else bvF sc v
section X0E
variable {l : Launch} {D : va_G} {g : Nat → Nat} {cB cI cS : ClassId} {lc : Nat → Nat} {vs : Nat → Int32} {n : Nat} {fk : Nat → Fk} {sa lf : Nat → Nat} {tys : List (ClassId × FieldType)}
theorem m0_firstEx (hw : wf0 lc n fk sa) {ex : Int32 → Nat → Nat} (hx : exOk lc n fk ex) {p : Int32} (hI : lfI lc fk (fun j => j < n) p lf) (t : Nat) (ht : t < 4) : xMi l D (xT cB cI cS) yX0_firstLeft cX0_firstLeft 3 .int ({ frames := 0, cells := 0, slots := 0, locals := 0 } : Room) [.ref (g 0), .int (nI t)] (x0w g cB cI cS lc vs n fk sa lf) (fun r w => r = nI (ex p t) ∧ w = x0w g cB cI cS lc vs n fk sa lf) := by
  obtain ⟨h1, h2, h3⟩ := hx p t ht
  have hl8 := (hw.1 t ht).2
  refine m0_firstLeft t (ex p t) ht (by omega) (hI t ht).1 (fun i hi => ?_) (((hI t ht).2 _ (by omega)).2 ⟨h1, h3⟩)
  cases hb : (lf t).testBit i with
  | false => rfl
  | true => exact absurd (h2 i hi) (((hI t ht).2 i (by omega)).1 hb).2
theorem m0_leaves (hw : wf0 lc n fk sa) (p1 : Int32) : xMi l D (xT cB cI cS) yX0_leaves cX0_leaves 2 .int ({ frames := 1, cells := 0, slots := 0, locals := 20 } : Room) [.ref (g 0), .int p1] (x0w g cB cI cS lc vs n fk sa lf) (fun r w => w = x0w g cB cI cS lc vs n fk sa lf ∧ ((¬ xin p1 4 ∧ r = -1) ∨ ∃ t, t < 4 ∧ p1 = nI t ∧ r = nI (lc t))) := by
  refine xMi_of 0 rfl rfl (Nat.le_of_ble_eq_true rfl) (fun K C E => ?_)
  refine xr_iload_n C dX0_leaves_0 rfl ?_
  refine xr_callSi C (m0_isTree p1) (cs0_isTree ⟨by decide, by decide⟩) rfl rfl (Nat.le_of_ble_eq_true rfl) dX0_leaves_1 (fun r w hw1 => ?_)
  rcases hw1 with ⟨rfl, t, ht, rfl⟩ | ⟨rfl, hno⟩
  · refine xr_ifF_eq (tgt := 16) C (by decide) dX0_leaves_4 (by decide) ?_
    refine xr_aload_n C dX0_leaves_7 rfl ?_
    refine x0g_7 C 0 rfl rfl dX0_leaves_8 ?_
    refine xr_iload_n C dX0_leaves_11 rfl ?_
    refine xr_baldN C 1 0 rfl rfl (by omega) (by decide) dX0_leaves_12 ?_
    refine xr_goto (tgt := 17) C dX0_leaves_13 (by decide) ?_
    exact xr_ireturn C E rfl dX0_leaves_17 ⟨rfl, Or.inr ⟨t, ht, rfl, rfl⟩⟩
  · refine xr_ifT_eq (tgt := 16) C rfl dX0_leaves_4 (by decide) ?_
    refine xr_iconst (v := (-1)) C dX0_leaves_16 (by decide) ?_
    exact xr_ireturn C E rfl dX0_leaves_17 ⟨rfl, Or.inl ⟨hno, rfl⟩⟩
theorem m0_value (hw : wf0 lc n fk sa) (p1 p2 : Int32) : xMi l D (xT cB cI cS) yX0_value cX0_value 3 .int ({ frames := 2, cells := 0, slots := 0, locals := 42 } : Room) [.ref (g 0), .int p1, .int p2] (x0w g cB cI cS lc vs n fk sa lf) (fun r w => w = x0w g cB cI cS lc vs n fk sa lf ∧ ((¬ xlf lc p1 p2 ∧ r = nI 0) ∨ ∃ t i, t < 4 ∧ i < lc t ∧ p1 = nI t ∧ p2 = nI i ∧ r = vs (t * 8 + i))) := by
  refine xMi_of 0 rfl rfl (Nat.le_of_ble_eq_true rfl) (fun K C E => ?_)
  refine xr_aload_n C dX0_value_0 rfl ?_
  refine xr_iload_n C dX0_value_1 rfl ?_
  refine xr_iload_n C dX0_value_2 rfl ?_
  refine xr_callWi C (m0_isLeaf (fun t ht => (hw.1 t ht).2) p1 p2) (cw0_isLeaf ⟨by decide, by decide⟩) 0 rfl rfl rfl rfl (Nat.le_of_ble_eq_true rfl) dX0_value_3 (fun r w hw1 => ?_)
  obtain ⟨rfl, hw1⟩ := hw1
  rcases hw1 with ⟨rfl, t, i, ht, hi, rfl, rfl⟩ | ⟨rfl, hno⟩
  · have hl8 := (hw.1 t ht).2
    refine xr_ifF_eq (tgt := 23) C (by decide) dX0_value_6 (by decide) ?_
    refine xr_aload_n C dX0_value_9 rfl ?_
    refine x0g_13 C 0 rfl rfl dX0_value_10 ?_
    refine xr_iload_n C dX0_value_13 rfl ?_
    refine xr_bipush (v := nI 8) C dX0_value_14 (by decide) ?_
    refine xr_imulN C dX0_value_16 ?_
    refine xr_iload_n C dX0_value_17 rfl ?_
    refine xr_iaddN C dX0_value_18 ?_
    refine xr_iald C 2 1 rfl rfl (by omega) (by decide) dX0_value_19 ?_
    refine xr_goto (tgt := 24) C dX0_value_20 (by decide) ?_
    exact xr_ireturn C E rfl dX0_value_24 ⟨rfl, Or.inr ⟨t, i, ht, hi, rfl, rfl, rfl⟩⟩
  · refine xr_ifT_eq (tgt := 23) C rfl dX0_value_6 (by decide) ?_
    refine xr_iconst (v := nI 0) C dX0_value_23 (by decide) ?_
    exact xr_ireturn C E rfl dX0_value_24 ⟨rfl, Or.inl ⟨hno, rfl⟩⟩
theorem m0_leafOf (hw : wf0 lc n fk sa) {ex : Int32 → Nat → Nat} (hx : exOk lc n fk ex) (p1 p2 : Int32) : xMi l D (xT cB cI cS) yX0_leafOf cX0_leafOf 3 .int ({ frames := 2, cells := 0, slots := 0, locals := 47 } : Room) [.ref (g 0), .int p1, .int p2] (x0w g cB cI cS lc vs n fk sa lf) (fun r w => (∃ lf', w = x0w g cB cI cS lc vs n fk sa lf') ∧ ((¬ (xin p1 4 ∧ xin p2 65536) ∧ r = -1) ∨ ∃ t, t < 4 ∧ p1 = nI t ∧ xin p2 65536 ∧ r = nI (ex p2 t))) := by
  refine xMi_of 0 rfl rfl (Nat.le_of_ble_eq_true rfl) (fun K C E => ?_)
  refine xr_iload_n C dX0_leafOf_0 rfl ?_
  refine xr_callSi C (m0_isTree p1) (cs0_isTree ⟨by decide, by decide⟩) rfl rfl (Nat.le_of_ble_eq_true rfl) dX0_leafOf_1 (fun r w hw1 => ?_)
  rcases hw1 with ⟨rfl, t, ht, rfl⟩ | ⟨rfl, hno⟩
  · refine xr_ifF_eq (tgt := 14) C (by decide) dX0_leafOf_4 (by decide) ?_
    refine xr_iload_n C dX0_leafOf_7 rfl ?_
    refine xr_callSi C (m0_isPoint p2) (cs0_isPoint ⟨by decide, by decide⟩) rfl rfl (Nat.le_of_ble_eq_true rfl) dX0_leafOf_8 (fun r w hw1 => ?_)
    rcases hw1 with ⟨rfl, hp⟩ | ⟨rfl, hno⟩
    · refine xr_ifT_ne (tgt := 16) C (by decide) dX0_leafOf_11 (by decide) ?_
      refine xr_aload_n C dX0_leafOf_16 rfl ?_
      refine xr_iload_n C dX0_leafOf_17 rfl ?_
      refine xr_callWv C (m0_sift hw p2) (cw0_sift ⟨by decide, by decide⟩) 0 rfl rfl rfl rfl (Nat.le_of_ble_eq_true rfl) dX0_leafOf_18 (fun w hw1 => ?_)
      obtain ⟨lf', hI, rfl⟩ := hw1
      refine xr_aload_n C dX0_leafOf_21 rfl ?_
      refine xr_iload_n C dX0_leafOf_22 rfl ?_
      refine xr_callWi C (m0_firstEx hw hx hI t ht) (cw0_firstLeft ⟨by decide, by decide⟩) 0 rfl rfl rfl rfl (Nat.le_of_ble_eq_true rfl) dX0_leafOf_23 (fun r w hw1 => ?_)
      obtain ⟨rfl, rfl⟩ := hw1
      exact xr_ireturn C E rfl dX0_leafOf_26 ⟨⟨lf', rfl⟩, Or.inr ⟨t, ht, rfl, hp, rfl⟩⟩
    · refine xr_ifF_ne (tgt := 16) C rfl dX0_leafOf_11 (by decide) ?_
      refine xr_iconst (v := (-1)) C dX0_leafOf_14 (by decide) ?_
      exact xr_ireturn C E rfl dX0_leafOf_15 ⟨⟨lf, rfl⟩, Or.inl ⟨fun h => hno h.2, rfl⟩⟩
  · refine xr_ifT_eq (tgt := 14) C rfl dX0_leafOf_4 (by decide) ?_
    refine xr_iconst (v := (-1)) C dX0_leafOf_14 (by decide) ?_
    exact xr_ireturn C E rfl dX0_leafOf_15 ⟨⟨lf, rfl⟩, Or.inl ⟨fun h => hno h.1, rfl⟩⟩
theorem m0_scoreOf (hw : wf0 lc n fk sa) {ex : Int32 → Nat → Nat} (hx : exOk lc n fk ex) (p : Int32) : xMi l D (xT cB cI cS) yX0_scoreOf cX0_scoreOf 5 .int ({ frames := 2, cells := 0, slots := 0, locals := 47 } : Room) [.ref (g 0), .int p] (x0w g cB cI cS lc vs n fk sa lf) (fun r w => (∃ lf', w = x0w g cB cI cS lc vs n fk sa lf') ∧ r = scV vs ex p 4) := by
  refine xMi_of 3 rfl rfl (Nat.le_of_ble_eq_true rfl) (fun K C E => ?_)
  refine xr_aload_n C dX0_scoreOf_0 rfl ?_
  refine xr_iload_n C dX0_scoreOf_1 rfl ?_
  refine xr_callWv C (m0_sift hw p) (cw0_sift ⟨by decide, by decide⟩) 0 rfl rfl rfl rfl (Nat.le_of_ble_eq_true rfl) dX0_scoreOf_2 (fun w hw1 => ?_)
  obtain ⟨lf', hI, rfl⟩ := hw1
  refine xr_iconst (v := nI 0) C dX0_scoreOf_5 (by decide) ?_
  refine xr_istore_n C dX0_scoreOf_6 (by decide) rfl ?_
  refine xr_iconst (v := nI 0) C dX0_scoreOf_7 (by decide) ?_
  refine xr_istore_n C dX0_scoreOf_8 (by decide) rfl ?_
  suffices H : ∀ (m t : Nat) (o4 : Option Value), t + m = 4 → xW l ({ frames := 2, cells := 0, slots := 0, locals := 47 } : Room) D 5 K (x0w g cB cI cS lc vs n fk sa lf') [some (.ref (g 0)), some (.int p), some (.int (scV vs ex p t)), some (.int (nI t)), o4] 9 [] by
    exact H 4 0 none rfl
  intro m
  induction m with
  | zero =>
    intro t o4 htm
    have : t = 4 := by omega
    subst this
    refine xr_iload_n C dX0_scoreOf_9 rfl ?_
    refine xr_iconst (v := nI 4) C dX0_scoreOf_10 (by decide) ?_
    refine xr_icmp_geN (tgt := 42) C (by omega) (by omega) dX0_scoreOf_11 (by decide) (fun hc => ?_) (fun hc => ?_)
    · refine xr_iload_n C dX0_scoreOf_42 rfl ?_
      exact xr_ireturn C E rfl dX0_scoreOf_43 ⟨⟨lf', rfl⟩, rfl⟩
    · omega
  | succ m ih =>
    intro t o4 htm
    have h1 := (hx p t (by omega)).1
    have h2 := (hw.1 t (by omega)).2
    refine xr_iload_n C dX0_scoreOf_9 rfl ?_
    refine xr_iconst (v := nI 4) C dX0_scoreOf_10 (by decide) ?_
    refine xr_icmp_geN (tgt := 42) C (by omega) (by omega) dX0_scoreOf_11 (by decide) (fun hc => ?_) (fun hc => ?_)
    · omega
    · refine xr_aload_n C dX0_scoreOf_14 rfl ?_
      refine xr_iload_n C dX0_scoreOf_15 rfl ?_
      refine xr_callWi C (m0_firstEx hw hx hI t (by omega)) (cw0_firstLeft ⟨by decide, by decide⟩) 0 rfl rfl rfl rfl (Nat.le_of_ble_eq_true rfl) dX0_scoreOf_16 (fun r w hw1 => ?_)
      obtain ⟨rfl, rfl⟩ := hw1
      refine xr_istore C dX0_scoreOf_19 (by decide) rfl ?_
      refine xr_iload_n C dX0_scoreOf_21 rfl ?_
      refine xr_aload_n C dX0_scoreOf_22 rfl ?_
      refine x0g_13 C 0 rfl rfl dX0_scoreOf_23 ?_
      refine xr_iload_n C dX0_scoreOf_26 rfl ?_
      refine xr_bipush (v := nI 8) C dX0_scoreOf_27 (by decide) ?_
      refine xr_imulN C dX0_scoreOf_29 ?_
      refine xr_iload C dX0_scoreOf_30 rfl ?_
      refine xr_iaddN C dX0_scoreOf_32 ?_
      refine xr_iald C 2 1 rfl rfl (by omega) (by decide) dX0_scoreOf_33 ?_
      refine xr_iadd C dX0_scoreOf_34 ?_
      refine xr_istore_n C dX0_scoreOf_35 (by decide) rfl ?_
      refine xr_iinc1 C dX0_scoreOf_36 rfl (by decide) rfl ?_
      refine xr_goto (tgt := 9) C dX0_scoreOf_39 (by decide) ?_
      exact ih (t + 1) _ (by omega)
theorem m0_score (hw : wf0 lc n fk sa) {ex : Int32 → Nat → Nat} (hx : exOk lc n fk ex) (p : Int32) : xMi l D (xT cB cI cS) yX0_score cX0_score 2 .int ({ frames := 3, cells := 0, slots := 0, locals := 71 } : Room) [.ref (g 0), .int p] (x0w g cB cI cS lc vs n fk sa lf) (fun r w => (∃ lf', w = x0w g cB cI cS lc vs n fk sa lf') ∧ ((¬ xin p 65536 ∧ r = nI 0) ∨ (xin p 65536 ∧ r = scV vs ex p 4))) := by
  refine xMi_of 0 rfl rfl (Nat.le_of_ble_eq_true rfl) (fun K C E => ?_)
  refine xr_iload_n C dX0_score_0 rfl ?_
  refine xr_callSi C (m0_isPoint p) (cs0_isPoint ⟨by decide, by decide⟩) rfl rfl (Nat.le_of_ble_eq_true rfl) dX0_score_1 (fun r w hw1 => ?_)
  rcases hw1 with ⟨rfl, hp⟩ | ⟨rfl, hno⟩
  · refine xr_ifF_eq (tgt := 15) C (by decide) dX0_score_4 (by decide) ?_
    refine xr_aload_n C dX0_score_7 rfl ?_
    refine xr_iload_n C dX0_score_8 rfl ?_
    refine xr_callWi C (m0_scoreOf hw hx p) (cw0_scoreOf ⟨by decide, by decide⟩) 0 rfl rfl rfl rfl (Nat.le_of_ble_eq_true rfl) dX0_score_9 (fun r w hw1 => ?_)
    obtain ⟨⟨lf', rfl⟩, rfl⟩ := hw1
    refine xr_goto (tgt := 16) C dX0_score_12 (by decide) ?_
    exact xr_ireturn C E rfl dX0_score_16 ⟨⟨lf', rfl⟩, Or.inr ⟨hp, rfl⟩⟩
  · refine xr_ifT_eq (tgt := 15) C rfl dX0_score_4 (by decide) ?_
    refine xr_iconst (v := nI 0) C dX0_score_15 (by decide) ?_
    exact xr_ireturn C E rfl dX0_score_16 ⟨⟨lf, rfl⟩, Or.inl ⟨hno, rfl⟩⟩
theorem m0_depth (hw : wf0 lc n fk sa) {ex : Int32 → Nat → Nat} (hx : exOk lc n fk ex) (p : Int32) : xMi l D (xT cB cI cS) yX0_depth cX0_depth 5 .int ({ frames := 2, cells := 0, slots := 0, locals := 47 } : Room) [.ref (g 0), .int p] (x0w g cB cI cS lc vs n fk sa lf) (fun r w => (∃ lf', w = x0w g cB cI cS lc vs n fk sa lf') ∧ ((¬ xin p 65536 ∧ r = -1) ∨ (xin p 65536 ∧ r = nI (dpC fk ex p n)))) := by
  have hn := wf0_n hw
  refine xMi_of 3 rfl rfl (Nat.le_of_ble_eq_true rfl) (fun K C E => ?_)
  refine xr_iload_n C dX0_depth_0 rfl ?_
  refine xr_callSi C (m0_isPoint p) (cs0_isPoint ⟨by decide, by decide⟩) rfl rfl (Nat.le_of_ble_eq_true rfl) dX0_depth_1 (fun r w hw1 => ?_)
  rcases hw1 with ⟨rfl, hp⟩ | ⟨rfl, hno⟩
  · refine xr_ifT_ne (tgt := 9) C (by decide) dX0_depth_4 (by decide) ?_
    refine xr_aload_n C dX0_depth_9 rfl ?_
    refine xr_iload_n C dX0_depth_10 rfl ?_
    refine xr_callWv C (m0_sift hw p) (cw0_sift ⟨by decide, by decide⟩) 0 rfl rfl rfl rfl (Nat.le_of_ble_eq_true rfl) dX0_depth_11 (fun w hw1 => ?_)
    obtain ⟨lf', hI, rfl⟩ := hw1
    refine xr_iconst (v := nI 0) C dX0_depth_14 (by decide) ?_
    refine xr_istore_n C dX0_depth_15 (by decide) rfl ?_
    refine xr_iconst (v := nI 0) C dX0_depth_16 (by decide) ?_
    refine xr_istore_n C dX0_depth_17 (by decide) rfl ?_
    suffices H : ∀ (m k : Nat) (o4 : Option Value), k + m = n → xW l ({ frames := 2, cells := 0, slots := 0, locals := 47 } : Room) D 5 K (x0w g cB cI cS lc vs n fk sa lf') [some (.ref (g 0)), some (.int p), some (.int (nI (dpC fk ex p k))), some (.int (nI k)), o4] 18 [] by
      exact H n 0 none (by omega)
    intro m
    induction m with
    | zero =>
      intro k o4 hkm
      have : k = n := by omega
      subst this
      refine xr_iload_n C dX0_depth_18 rfl ?_
      refine xr_aload_n C dX0_depth_19 rfl ?_
      refine x0g_54 C 0 rfl rfl dX0_depth_20 ?_
      refine xr_icmp_geN (tgt := 74) C (by omega) (by omega) dX0_depth_23 (by decide) (fun hc => ?_) (fun hc => ?_)
      · refine xr_iload_n C dX0_depth_74 rfl ?_
        exact xr_ireturn C E rfl dX0_depth_75 ⟨⟨lf', rfl⟩, Or.inr ⟨hp, rfl⟩⟩
      · omega
    | succ m ih =>
      intro k o4 hkm
      obtain ⟨o1, o2, o3, o5, o6, o7⟩ := hw.2.2.1 k
      have h1 := (hx p _ o1).1
      have h2 := (hw.1 _ o1).2
      have ih := fun (o4 : Option Value) => ih (k + 1) o4 (by omega)
      have e : dpC fk ex p (k + 1) = dpC fk ex p k + (if (fk k).2.2.2.1 ≤ ex p (fk k).1 ∧ ex p (fk k).1 ≤ (fk k).2.2.2.2.2 then 1 else 0) := rfl
      refine xr_iload_n C dX0_depth_18 rfl ?_
      refine xr_aload_n C dX0_depth_19 rfl ?_
      refine x0g_54 C 0 rfl rfl dX0_depth_20 ?_
      refine xr_icmp_geN (tgt := 74) C (by omega) (by omega) dX0_depth_23 (by decide) (fun hc => ?_) (fun hc => ?_)
      · omega
      · refine xr_aload_n C dX0_depth_26 rfl ?_
        refine xr_aload_n C dX0_depth_27 rfl ?_
        refine x0g_17 C 0 rfl rfl dX0_depth_28 ?_
        refine xr_iload_n C dX0_depth_31 rfl ?_
        refine xr_baldN C 3 0 rfl rfl (by omega) (by decide) dX0_depth_32 ?_
        refine xr_callWi C (m0_firstEx hw hx hI _ o1) (cw0_firstLeft ⟨by decide, by decide⟩) 0 rfl rfl rfl rfl (Nat.le_of_ble_eq_true rfl) dX0_depth_33 (fun r w hw1 => ?_)
        obtain ⟨rfl, rfl⟩ := hw1
        refine xr_istore C dX0_depth_36 (by decide) rfl ?_
        refine xr_iload_n C dX0_depth_38 rfl ?_
        refine xr_iload C dX0_depth_39 rfl ?_
        refine xr_aload_n C dX0_depth_41 rfl ?_
        refine x0g_26 C 0 rfl rfl dX0_depth_42 ?_
        refine xr_iload_n C dX0_depth_45 rfl ?_
        refine xr_baldN C 6 0 rfl rfl (by omega) (by decide) dX0_depth_46 ?_
        refine xr_icmp_ltN (tgt := 65) C (by omega) (by omega) dX0_depth_47 (by decide) (fun h3 => ?_) (fun h3 => ?_)
        · rw [if_neg (by omega)] at e
          rw [e] at ih
          refine xr_iconst (v := nI 0) C dX0_depth_65 (by decide) ?_
          refine xr_iaddN C dX0_depth_66 ?_
          refine xr_istore_n C dX0_depth_67 (by decide) rfl ?_
          refine xr_iinc1 C dX0_depth_68 rfl (by decide) rfl ?_
          refine xr_goto (tgt := 18) C dX0_depth_71 (by decide) ?_
          exact ih _
        · refine xr_iload C dX0_depth_50 rfl ?_
          refine xr_aload_n C dX0_depth_52 rfl ?_
          refine x0g_32 C 0 rfl rfl dX0_depth_53 ?_
          refine xr_iload_n C dX0_depth_56 rfl ?_
          refine xr_baldN C 8 0 rfl rfl (by omega) (by decide) dX0_depth_57 ?_
          refine xr_icmp_gtN (tgt := 65) C (by omega) (by omega) dX0_depth_58 (by decide) (fun h4 => ?_) (fun h4 => ?_)
          · rw [if_neg (by omega)] at e
            rw [e] at ih
            refine xr_iconst (v := nI 0) C dX0_depth_65 (by decide) ?_
            refine xr_iaddN C dX0_depth_66 ?_
            refine xr_istore_n C dX0_depth_67 (by decide) rfl ?_
            refine xr_iinc1 C dX0_depth_68 rfl (by decide) rfl ?_
            refine xr_goto (tgt := 18) C dX0_depth_71 (by decide) ?_
            exact ih _
          · rw [if_pos (by omega)] at e
            rw [e] at ih
            refine xr_iconst (v := nI 1) C dX0_depth_61 (by decide) ?_
            refine xr_goto (tgt := 66) C dX0_depth_62 (by decide) ?_
            refine xr_iaddN C dX0_depth_66 ?_
            refine xr_istore_n C dX0_depth_67 (by decide) rfl ?_
            refine xr_iinc1 C dX0_depth_68 rfl (by decide) rfl ?_
            refine xr_goto (tgt := 18) C dX0_depth_71 (by decide) ?_
            exact ih _
  · refine xr_ifF_ne (tgt := 9) C rfl dX0_depth_4 (by decide) ?_
    refine xr_iconst (v := (-1)) C dX0_depth_7 (by decide) ?_
    exact xr_ireturn C E rfl dX0_depth_8 ⟨⟨lf, rfl⟩, Or.inl ⟨hno, rfl⟩⟩
theorem m0_leavesAlong (hw : wf0 lc n fk sa) {ex : Int32 → Nat → Nat} (hx : exOk lc n fk ex) (p1 p2 p3 : Int32) : xMi l D (xT cB cI cS) yX0_leavesAlong cX0_leavesAlong 7 .int ({ frames := 2, cells := 0, slots := 0, locals := 47 } : Room) [.ref (g 0), .int p1, .int p2, .int p3] (x0w g cB cI cS lc vs n fk sa lf) (fun r w => (∃ lf', w = x0w g cB cI cS lc vs n fk sa lf') ∧ ((¬ (xin p1 4 ∧ xin p2 65536 ∧ xin p3 4) ∧ r = nI 0) ∨ ∃ t f, t < 4 ∧ f < 4 ∧ p1 = nI t ∧ p3 = nI f ∧ xin p2 65536 ∧ r = laF ex p2 f t 16)) := by
  refine xMi_of 3 rfl rfl (Nat.le_of_ble_eq_true rfl) (fun K C E => ?_)
  refine xr_iload_n C dX0_leavesAlong_0 rfl ?_
  refine xr_callSi C (m0_isTree p1) (cs0_isTree ⟨by decide, by decide⟩) rfl rfl (Nat.le_of_ble_eq_true rfl) dX0_leavesAlong_1 (fun r w hw1 => ?_)
  rcases hw1 with ⟨rfl, t, ht, rfl⟩ | ⟨rfl, hno⟩
  · refine xr_ifF_eq (tgt := 21) C (by decide) dX0_leavesAlong_4 (by decide) ?_
    refine xr_iload_n C dX0_leavesAlong_7 rfl ?_
    refine xr_callSi C (m0_isPoint p2) (cs0_isPoint ⟨by decide, by decide⟩) rfl rfl (Nat.le_of_ble_eq_true rfl) dX0_leavesAlong_8 (fun r w hw1 => ?_)
    rcases hw1 with ⟨rfl, hp⟩ | ⟨rfl, hno⟩
    · refine xr_ifF_eq (tgt := 21) C (by decide) dX0_leavesAlong_11 (by decide) ?_
      refine xr_iload_n C dX0_leavesAlong_14 rfl ?_
      refine xr_callSi C (m0_isFeature p3) (cs0_isFeature ⟨by decide, by decide⟩) rfl rfl (Nat.le_of_ble_eq_true rfl) dX0_leavesAlong_15 (fun r w hw1 => ?_)
      rcases hw1 with ⟨rfl, f, hf, rfl⟩ | ⟨rfl, hno⟩
      · refine xr_ifT_ne (tgt := 23) C (by decide) dX0_leavesAlong_18 (by decide) ?_
        refine xr_iconst (v := nI 0) C dX0_leavesAlong_23 (by decide) ?_
        refine xr_istore C dX0_leavesAlong_24 (by decide) rfl ?_
        refine xr_iconst (v := nI 0) C dX0_leavesAlong_26 (by decide) ?_
        refine xr_istore C dX0_leavesAlong_27 (by decide) rfl ?_
        suffices H : ∀ (m v : Nat) (lf' : Nat → Nat) (o6 : Option Value), v + m = 16 → xW l ({ frames := 2, cells := 0, slots := 0, locals := 47 } : Room) D 7 K (x0w g cB cI cS lc vs n fk sa lf') [some (.ref (g 0)), some (.int (nI t)), some (.int p2), some (.int (nI f)), some (.int (laF ex p2 f t v)), some (.int (nI v)), o6] 29 [] by
          exact H 16 0 lf none rfl
        intro m
        induction m with
        | zero =>
          intro v lf' o6 hvm
          have : v = 16 := by omega
          subst this
          refine xr_iload C dX0_leavesAlong_29 rfl ?_
          refine xr_bipush (v := nI 16) C dX0_leavesAlong_31 (by decide) ?_
          refine xr_icmp_geN (tgt := 69) C (by omega) (by omega) dX0_leavesAlong_33 (by decide) (fun hc => ?_) (fun hc => ?_)
          · refine xr_iload C dX0_leavesAlong_69 rfl ?_
            exact xr_ireturn C E rfl dX0_leavesAlong_71 ⟨⟨lf', rfl⟩, Or.inr ⟨t, f, ht, hf, rfl, rfl, hp, rfl⟩⟩
          · omega
        | succ m ih =>
          intro v lf' o6 hvm
          refine xr_iload C dX0_leavesAlong_29 rfl ?_
          refine xr_bipush (v := nI 16) C dX0_leavesAlong_31 (by decide) ?_
          refine xr_icmp_geN (tgt := 69) C (by omega) (by omega) dX0_leavesAlong_33 (by decide) (fun hc => ?_) (fun hc => ?_)
          · omega
          · refine xr_iload_n C dX0_leavesAlong_36 rfl ?_
            refine xr_iload_n C dX0_leavesAlong_37 rfl ?_
            refine xr_iload C dX0_leavesAlong_38 rfl ?_
            refine xr_callSi C (m0_withFeature p2 f v) (cs0_withFeature ⟨by decide, by decide⟩) rfl rfl (Nat.le_of_ble_eq_true rfl) dX0_leavesAlong_40 (fun r w hw1 => ?_)
            subst hw1
            refine xr_istore C dX0_leavesAlong_43 (by decide) rfl ?_
            refine xr_aload_n C dX0_leavesAlong_45 rfl ?_
            refine xr_iload C dX0_leavesAlong_46 rfl ?_
            refine xr_callWv C (m0_sift hw (wfI p2 f v)) (cw0_sift ⟨by decide, by decide⟩) 0 rfl rfl rfl rfl (Nat.le_of_ble_eq_true rfl) dX0_leavesAlong_48 (fun w hw1 => ?_)
            obtain ⟨lf2, hI, rfl⟩ := hw1
            refine xr_iload C dX0_leavesAlong_51 rfl ?_
            refine xr_iconst (v := nI 1) C dX0_leavesAlong_53 (by decide) ?_
            refine xr_aload_n C dX0_leavesAlong_54 rfl ?_
            refine xr_iload_n C dX0_leavesAlong_55 rfl ?_
            refine xr_callWi C (m0_firstEx hw hx hI t ht) (cw0_firstLeft ⟨by decide, by decide⟩) 0 rfl rfl rfl rfl (Nat.le_of_ble_eq_true rfl) dX0_leavesAlong_56 (fun r w hw1 => ?_)
            obtain ⟨rfl, rfl⟩ := hw1
            refine xr_ishl C dX0_leavesAlong_59 ?_
            refine xr_ior C dX0_leavesAlong_60 ?_
            refine xr_istore C dX0_leavesAlong_61 (by decide) rfl ?_
            refine xr_iinc1 C dX0_leavesAlong_63 rfl (by decide) rfl ?_
            refine xr_goto (tgt := 29) C dX0_leavesAlong_66 (by decide) ?_
            exact ih (v + 1) lf2 _ (by omega)
      · refine xr_ifF_ne (tgt := 23) C rfl dX0_leavesAlong_18 (by decide) ?_
        refine xr_iconst (v := nI 0) C dX0_leavesAlong_21 (by decide) ?_
        exact xr_ireturn C E rfl dX0_leavesAlong_22 ⟨⟨lf, rfl⟩, Or.inl ⟨fun h => hno h.2.2, rfl⟩⟩
    · refine xr_ifT_eq (tgt := 21) C rfl dX0_leavesAlong_11 (by decide) ?_
      refine xr_iconst (v := nI 0) C dX0_leavesAlong_21 (by decide) ?_
      exact xr_ireturn C E rfl dX0_leavesAlong_22 ⟨⟨lf, rfl⟩, Or.inl ⟨fun h => hno h.2.1, rfl⟩⟩
  · refine xr_ifT_eq (tgt := 21) C rfl dX0_leavesAlong_4 (by decide) ?_
    refine xr_iconst (v := nI 0) C dX0_leavesAlong_21 (by decide) ?_
    exact xr_ireturn C E rfl dX0_leavesAlong_22 ⟨⟨lf, rfl⟩, Or.inl ⟨fun h => hno h.1, rfl⟩⟩
theorem m0_bestValue (hw : wf0 lc n fk sa) {ex : Int32 → Nat → Nat} (hx : exOk lc n fk ex) (p1 p2 : Int32) : xMi l D (xT cB cI cS) yX0_bestValue cX0_bestValue 8 .int ({ frames := 3, cells := 0, slots := 0, locals := 71 } : Room) [.ref (g 0), .int p1, .int p2] (x0w g cB cI cS lc vs n fk sa lf) (fun r w => (∃ lf', w = x0w g cB cI cS lc vs n fk sa lf') ∧ ((¬ (xin p1 65536 ∧ xin p2 4) ∧ r = -1) ∨ ∃ f, f < 4 ∧ p2 = nI f ∧ xin p1 65536 ∧ r = nI (bvF (fun v => scV vs ex (wfI p1 f v) 4) 16).1)) := by
  refine xMi_of 5 rfl rfl (Nat.le_of_ble_eq_true rfl) (fun K C E => ?_)
  refine xr_iload_n C dX0_bestValue_0 rfl ?_
  refine xr_callSi C (m0_isPoint p1) (cs0_isPoint ⟨by decide, by decide⟩) rfl rfl (Nat.le_of_ble_eq_true rfl) dX0_bestValue_1 (fun r w hw1 => ?_)
  rcases hw1 with ⟨rfl, hp⟩ | ⟨rfl, hno⟩
  · refine xr_ifF_eq (tgt := 14) C (by decide) dX0_bestValue_4 (by decide) ?_
    refine xr_iload_n C dX0_bestValue_7 rfl ?_
    refine xr_callSi C (m0_isFeature p2) (cs0_isFeature ⟨by decide, by decide⟩) rfl rfl (Nat.le_of_ble_eq_true rfl) dX0_bestValue_8 (fun r w hw1 => ?_)
    rcases hw1 with ⟨rfl, f, hf, rfl⟩ | ⟨rfl, hno⟩
    · refine xr_ifT_ne (tgt := 16) C (by decide) dX0_bestValue_11 (by decide) ?_
      refine xr_iconst (v := nI 0) C dX0_bestValue_16 (by decide) ?_
      refine xr_istore_n C dX0_bestValue_17 (by decide) rfl ?_
      refine xr_iconst (v := nI 0) C dX0_bestValue_18 (by decide) ?_
      refine xr_istore C dX0_bestValue_19 (by decide) rfl ?_
      refine xr_iconst (v := nI 0) C dX0_bestValue_21 (by decide) ?_
      refine xr_istore C dX0_bestValue_22 (by decide) rfl ?_
      suffices H : ∀ (m v : Nat) (lf' : Nat → Nat) (o6 o7 : Option Value), v + m = 16 → xW l ({ frames := 3, cells := 0, slots := 0, locals := 71 } : Room) D 8 K (x0w g cB cI cS lc vs n fk sa lf') [some (.ref (g 0)), some (.int p1), some (.int (nI f)), some (.int (nI (bvF (fun v => scV vs ex (wfI p1 f v) 4) v).1)), some (.int (bvF (fun v => scV vs ex (wfI p1 f v) 4) v).2), some (.int (nI v)), o6, o7] 24 [] by
        exact H 16 0 lf none none rfl
      intro m
      induction m with
      | zero =>
        intro v lf' o6 o7 hvm
        have : v = 16 := by omega
        subst this
        refine xr_iload C dX0_bestValue_24 rfl ?_
        refine xr_bipush (v := nI 16) C dX0_bestValue_26 (by decide) ?_
        refine xr_icmp_geN (tgt := 73) C (by omega) (by omega) dX0_bestValue_28 (by decide) (fun hc => ?_) (fun hc => ?_)
        · refine xr_iload_n C dX0_bestValue_73 rfl ?_
          exact xr_ireturn C E rfl dX0_bestValue_74 ⟨⟨lf', rfl⟩, Or.inr ⟨f, hf, rfl, hp, rfl⟩⟩
        · omega
      | succ m ih =>
        intro v lf' o6 o7 hvm
        have ih := fun (lf' : Nat → Nat) (o6 o7 : Option Value) => ih (v + 1) lf' o6 o7 (by omega)
        have e : bvF (fun v => scV vs ex (wfI p1 f v) 4) (v + 1) = if v = 0 ∨ (bvF (fun v => scV vs ex (wfI p1 f v) 4) v).2 < scV vs ex (wfI p1 f v) 4 then (v, scV vs ex (wfI p1 f v) 4) else bvF (fun v => scV vs ex (wfI p1 f v) 4) v := rfl
        refine xr_iload C dX0_bestValue_24 rfl ?_
        refine xr_bipush (v := nI 16) C dX0_bestValue_26 (by decide) ?_
        refine xr_icmp_geN (tgt := 73) C (by omega) (by omega) dX0_bestValue_28 (by decide) (fun hc => ?_) (fun hc => ?_)
        · omega
        · refine xr_iload_n C dX0_bestValue_31 rfl ?_
          refine xr_iload_n C dX0_bestValue_32 rfl ?_
          refine xr_iload C dX0_bestValue_33 rfl ?_
          refine xr_callSi C (m0_withFeature p1 f v) (cs0_withFeature ⟨by decide, by decide⟩) rfl rfl (Nat.le_of_ble_eq_true rfl) dX0_bestValue_35 (fun r w hw1 => ?_)
          subst hw1
          refine xr_istore C dX0_bestValue_38 (by decide) rfl ?_
          refine xr_aload_n C dX0_bestValue_40 rfl ?_
          refine xr_iload C dX0_bestValue_41 rfl ?_
          refine xr_callWi C (m0_scoreOf hw hx (wfI p1 f v)) (cw0_scoreOf ⟨by decide, by decide⟩) 0 rfl rfl rfl rfl (Nat.le_of_ble_eq_true rfl) dX0_bestValue_43 (fun r w hw1 => ?_)
          obtain ⟨⟨lf2, rfl⟩, rfl⟩ := hw1
          refine xr_istore C dX0_bestValue_46 (by decide) rfl ?_
          refine xr_iload C dX0_bestValue_48 rfl ?_
          refine xr_if_eqN (tgt := 60) C (by omega) dX0_bestValue_50 (by decide) (fun h3 => ?_) (fun h3 => ?_)
          · rw [if_pos (Or.inl h3)] at e
            rw [e] at ih
            refine xr_iload C dX0_bestValue_60 rfl ?_
            refine xr_istore_n C dX0_bestValue_62 (by decide) rfl ?_
            refine xr_iload C dX0_bestValue_63 rfl ?_
            refine xr_istore C dX0_bestValue_65 (by decide) rfl ?_
            refine xr_iinc1 C dX0_bestValue_67 rfl (by decide) rfl ?_
            refine xr_goto (tgt := 24) C dX0_bestValue_70 (by decide) ?_
            exact ih lf2 _ _
          · refine xr_iload C dX0_bestValue_53 rfl ?_
            refine xr_iload C dX0_bestValue_55 rfl ?_
            refine xr_icmp_le (tgt := 67) C dX0_bestValue_57 (by decide) (fun h4 => ?_) (fun h4 => ?_)
            · rw [if_neg (fun h => h.elim (by omega) (fun h => absurd h (Int32.not_lt.mpr h4)))] at e
              rw [e] at ih
              refine xr_iinc1 C dX0_bestValue_67 rfl (by decide) rfl ?_
              refine xr_goto (tgt := 24) C dX0_bestValue_70 (by decide) ?_
              exact ih lf2 _ _
            · rw [if_pos (Or.inr (Int32.not_le.mp h4))] at e
              rw [e] at ih
              refine xr_iload C dX0_bestValue_60 rfl ?_
              refine xr_istore_n C dX0_bestValue_62 (by decide) rfl ?_
              refine xr_iload C dX0_bestValue_63 rfl ?_
              refine xr_istore C dX0_bestValue_65 (by decide) rfl ?_
              refine xr_iinc1 C dX0_bestValue_67 rfl (by decide) rfl ?_
              refine xr_goto (tgt := 24) C dX0_bestValue_70 (by decide) ?_
              exact ih lf2 _ _
    · refine xr_ifF_ne (tgt := 16) C rfl dX0_bestValue_11 (by decide) ?_
      refine xr_iconst (v := (-1)) C dX0_bestValue_14 (by decide) ?_
      exact xr_ireturn C E rfl dX0_bestValue_15 ⟨⟨lf, rfl⟩, Or.inl ⟨fun h => hno h.2, rfl⟩⟩
  · refine xr_ifT_eq (tgt := 14) C rfl dX0_bestValue_4 (by decide) ?_
    refine xr_iconst (v := (-1)) C dX0_bestValue_14 (by decide) ?_
    exact xr_ireturn C E rfl dX0_bestValue_15 ⟨⟨lf, rfl⟩, Or.inl ⟨fun h => hno h.1, rfl⟩⟩
end X0E
end
section
/-! TreeScorer: what leads to a leaf -/
set_option maxRecDepth 100000
def qlo (fk : Nat → Fk) (t i f j : Nat) : Prop := (fk j).1 = t ∧ (fk j).2.1 = f ∧ (fk j).2.2.2.2.1 < i ∧ i ≤ (fk j).2.2.2.2.2
def qhi (fk : Nat → Fk) (t i f j : Nat) : Prop := (fk j).1 = t ∧ (fk j).2.1 = f ∧ (fk j).2.2.2.1 ≤ i ∧ i ≤ (fk j).2.2.2.2.1
/-- x is the least value that feature f must have at leaf i of tree t, by the forks of P -/
def loX (fk : Nat → Fk) (P : Nat → Prop) (t i f x : Nat) : Prop := (∀ j, P j → qlo fk t i f j → (fk j).2.2.1 + 1 ≤ x) ∧ (x = 0 ∨ ∃ j, P j ∧ qlo fk t i f j ∧ x = (fk j).2.2.1 + 1)
def hiX (fk : Nat → Fk) (P : Nat → Prop) (t i f x : Nat) : Prop := (∀ j, P j → qhi fk t i f j → x ≤ (fk j).2.2.1) ∧ x ≤ 15 ∧ (x = 15 ∨ ∃ j, P j ∧ qhi fk t i f j ∧ x = (fk j).2.2.1)
theorem loX_uniq {fk : Nat → Fk} {P : Nat → Prop} {t i f x y : Nat} (hx : loX fk P t i f x) (hy : loX fk P t i f y) : x = y := by
  have h1 : x ≤ y := by
    rcases hx.2 with h | ⟨j, a, b, c⟩
    · omega
    · have := hy.1 j a b; omega
  have h2 : y ≤ x := by
    rcases hy.2 with h | ⟨j, a, b, c⟩
    · omega
    · have := hx.1 j a b; omega
  omega
theorem hiX_uniq {fk : Nat → Fk} {P : Nat → Prop} {t i f x y : Nat} (hx : hiX fk P t i f x) (hy : hiX fk P t i f y) : x = y := by
  have l1 := hx.2.1
  have l2 := hy.2.1
  have h1 : y ≤ x := by
    rcases hx.2.2 with h | ⟨j, a, b, c⟩
    · omega
    · have := hy.1 j a b; omega
  have h2 : x ≤ y := by
    rcases hy.2.2 with h | ⟨j, a, b, c⟩
    · omega
    · have := hx.1 j a b; omega
  omega
def bxOk (lc : Nat → Nat) (n : Nat) (fk : Nat → Fk) (lo hi : Nat → Nat → Nat → Nat) : Prop := ∀ t, t < 4 → ∀ i, i < lc t → ∀ f, f < 4 → loX fk (fun j => j < n) t i f (lo t i f) ∧ hiX fk (fun j => j < n) t i f (hi t i f)
def crT (lo hi : Nat → Nat → Nat → Nat) (t i : Nat) : Prop := ∀ f, f < 4 → lo t i f ≤ hi t i f
noncomputable def rcF (c : Nat → Prop) : Nat → Int32
  | 0 => nI 0
  | i + 1 => rcF c i ||| (@ite _ (c i) (Classical.propDecidable _) (nI 1 <<< (nI i &&& 31)) (nI 0))
theorem cntF_mono (fk : Nat → Fk) (f : Nat) : ∀ k, cntF fk f k ≤ cntF fk (f + 1) k
  | 0 => Nat.le_refl _
  | k + 1 => by
    have := cntF_mono fk f k
    unfold cntF
    split <;> split <;> omega
section X0F
variable {l : Launch} {D : va_G} {g : Nat → Nat} {cB cI cS : ClassId} {lc : Nat → Nat} {vs : Nat → Int32} {n : Nat} {fk : Nat → Fk} {sa lf : Nat → Nat} {tys : List (ClassId × FieldType)}
theorem m0_lowEnd (hw : wf0 lc n fk sa) (t i f x : Nat) (ht : t < 4) (hi : i < 8) (hf : f < 4) (hx : loX fk (fun j => j < n) t i f x) : xMi l D (xT cB cI cS) yX0_lowEnd cX0_lowEnd 7 .int ({ frames := 0, cells := 0, slots := 0, locals := 0 } : Room) [.ref (g 0), .int (nI t), .int (nI i), .int (nI f)] (x0w g cB cI cS lc vs n fk sa lf) (fun r w => r = nI x ∧ w = x0w g cB cI cS lc vs n fk sa lf) := by
  have hn := wf0_n hw
  have hs4 := wf0_sa hw (show f < 5 by omega)
  have hs5 := wf0_sa hw (show f + 1 < 5 by omega)
  have hseg := fun j => wf0_seg hw hf j
  refine xMi_of 3 rfl rfl (Nat.le_of_ble_eq_true rfl) (fun K C E => ?_)
  refine xr_iconst (v := nI 0) C dX0_lowEnd_0 (by decide) ?_
  refine xr_istore C dX0_lowEnd_1 (by decide) rfl ?_
  refine xr_aload_n C dX0_lowEnd_3 rfl ?_
  refine x0g_35 C 0 rfl rfl dX0_lowEnd_4 ?_
  refine xr_iload_n C dX0_lowEnd_7 rfl ?_
  refine xr_baldN C 9 0 rfl rfl (by omega) (by decide) dX0_lowEnd_8 ?_
  refine xr_istore C dX0_lowEnd_9 (by decide) rfl ?_
  suffices H : ∀ (d k x' : Nat) (o6 : Option Value), k + d = 28 → sa f ≤ k → x' ≤ 16 → loX fk (fun j => j < n ∧ j < k) t i f x' → xW l ({ frames := 0, cells := 0, slots := 0, locals := 0 } : Room) D 7 K (x0w g cB cI cS lc vs n fk sa lf) [some (.ref (g 0)), some (.int (nI t)), some (.int (nI i)), some (.int (nI f)), some (.int (nI x')), some (.int (nI k)), o6] 11 [] by
    refine H (28 - sa f) (sa f) 0 none (by omega) (Nat.le_refl _) (by omega) ⟨fun j h1 h2 => ?_, Or.inl rfl⟩
    have := (hseg j).2 ⟨h1.1, h2.2.1⟩
    omega
  intro d
  induction d with
  | zero =>
    intro k x' o6 hkd hsk hx16 hX
    refine xr_iload C dX0_lowEnd_11 rfl ?_
    refine xr_aload_n C dX0_lowEnd_13 rfl ?_
    refine x0g_35 C 0 rfl rfl dX0_lowEnd_14 ?_
    refine xr_iload_n C dX0_lowEnd_17 rfl ?_
    refine xr_iconst (v := nI 1) C dX0_lowEnd_18 (by decide) ?_
    refine xr_iaddN C dX0_lowEnd_19 ?_
    refine xr_baldN C 9 0 rfl rfl (by omega) (by decide) dX0_lowEnd_20 ?_
    refine xr_icmp_geN (tgt := 105) C (by omega) (by omega) dX0_lowEnd_21 (by decide) (fun hc => ?_) (fun hc => ?_)
    · refine xr_iload C dX0_lowEnd_105 rfl ?_
      exact xr_ireturn C E rfl dX0_lowEnd_107 ⟨by
        refine congrArg nI (loX_uniq ⟨fun j h1 h2 => hX.1 j ⟨h1, ?_⟩ h2, hX.2.imp id (fun ⟨j, a, b⟩ => ⟨j, a.1, b⟩)⟩ hx)
        have := (hseg j).2 ⟨h1, h2.2.1⟩
        omega, rfl⟩
    · omega
  | succ d ih =>
    intro k x' o6 hkd hsk hx16 hX
    refine xr_iload C dX0_lowEnd_11 rfl ?_
    refine xr_aload_n C dX0_lowEnd_13 rfl ?_
    refine x0g_35 C 0 rfl rfl dX0_lowEnd_14 ?_
    refine xr_iload_n C dX0_lowEnd_17 rfl ?_
    refine xr_iconst (v := nI 1) C dX0_lowEnd_18 (by decide) ?_
    refine xr_iaddN C dX0_lowEnd_19 ?_
    refine xr_baldN C 9 0 rfl rfl (by omega) (by decide) dX0_lowEnd_20 ?_
    refine xr_icmp_geN (tgt := 105) C (by omega) (by omega) dX0_lowEnd_21 (by decide) (fun hc => ?_) (fun hc => ?_)
    · refine xr_iload C dX0_lowEnd_105 rfl ?_
      exact xr_ireturn C E rfl dX0_lowEnd_107 ⟨by
        refine congrArg nI (loX_uniq ⟨fun j h1 h2 => hX.1 j ⟨h1, ?_⟩ h2, hX.2.imp id (fun ⟨j, a, b⟩ => ⟨j, a.1, b⟩)⟩ hx)
        have := (hseg j).2 ⟨h1, h2.2.1⟩
        omega, rfl⟩
    · obtain ⟨hkn, hkf⟩ := (hseg k).1 ⟨hsk, hc⟩
      obtain ⟨o1, o2, o3, o4, o5, o7⟩ := hw.2.2.1 k
      have keep : ¬ qlo fk t i f k ∨ (fk k).2.2.1 + 1 ≤ x' → loX fk (fun j => j < n ∧ j < k + 1) t i f x' := by
        intro h
        refine ⟨fun j h1 h2 => ?_, hX.2.imp id (fun ⟨j, a, b⟩ => ⟨j, ⟨a.1, by omega⟩, b⟩)⟩
        by_cases hj : j = k
        · subst hj
          exact h.elim (fun h => absurd h2 h) id
        · exact hX.1 j ⟨h1.1, by omega⟩ h2
      refine xr_aload_n C dX0_lowEnd_24 rfl ?_
      refine x0g_17 C 0 rfl rfl dX0_lowEnd_25 ?_
      refine xr_iload C dX0_lowEnd_28 rfl ?_
      refine xr_baldN C 3 0 rfl rfl (by omega) (by decide) dX0_lowEnd_30 ?_
      refine xr_iload_n C dX0_lowEnd_31 rfl ?_
      refine xr_icmp_neN (tgt := 61) C (by omega) (by omega) dX0_lowEnd_32 (by decide) (fun h1 => ?_) (fun h1 => ?_)
      · refine xr_iconst (v := nI 0) C dX0_lowEnd_61 (by decide) ?_
        refine xr_istore C dX0_lowEnd_62 (by decide) rfl ?_
        refine xr_iload C dX0_lowEnd_64 rfl ?_
        refine xr_ifT_eq (tgt := 95) C (by decide) dX0_lowEnd_66 (by decide) ?_
        refine xr_iload C dX0_lowEnd_95 rfl ?_
        refine xr_istore C dX0_lowEnd_97 (by decide) rfl ?_
        refine xr_iinc1 C dX0_lowEnd_99 rfl (by decide) rfl ?_
        refine xr_goto (tgt := 11) C dX0_lowEnd_102 (by decide) ?_
        exact ih (k + 1) x' _ (by omega) (by omega) hx16 (keep (Or.inl (fun h => h1 h.1)))
      · refine xr_iload_n C dX0_lowEnd_35 rfl ?_
        refine xr_aload_n C dX0_lowEnd_36 rfl ?_
        refine x0g_29 C 0 rfl rfl dX0_lowEnd_37 ?_
        refine xr_iload C dX0_lowEnd_40 rfl ?_
        refine xr_baldN C 7 0 rfl rfl (by omega) (by decide) dX0_lowEnd_42 ?_
        refine xr_icmp_leN (tgt := 61) C (by omega) (by omega) dX0_lowEnd_43 (by decide) (fun h2 => ?_) (fun h2 => ?_)
        · refine xr_iconst (v := nI 0) C dX0_lowEnd_61 (by decide) ?_
          refine xr_istore C dX0_lowEnd_62 (by decide) rfl ?_
          refine xr_iload C dX0_lowEnd_64 rfl ?_
          refine xr_ifT_eq (tgt := 95) C (by decide) dX0_lowEnd_66 (by decide) ?_
          refine xr_iload C dX0_lowEnd_95 rfl ?_
          refine xr_istore C dX0_lowEnd_97 (by decide) rfl ?_
          refine xr_iinc1 C dX0_lowEnd_99 rfl (by decide) rfl ?_
          refine xr_goto (tgt := 11) C dX0_lowEnd_102 (by decide) ?_
          exact ih (k + 1) x' _ (by omega) (by omega) hx16 (keep (Or.inl (fun h => by have := h.2.2.1; omega)))
        · refine xr_iload_n C dX0_lowEnd_46 rfl ?_
          refine xr_aload_n C dX0_lowEnd_47 rfl ?_
          refine x0g_32 C 0 rfl rfl dX0_lowEnd_48 ?_
          refine xr_iload C dX0_lowEnd_51 rfl ?_
          refine xr_baldN C 8 0 rfl rfl (by omega) (by decide) dX0_lowEnd_53 ?_
          refine xr_icmp_gtN (tgt := 61) C (by omega) (by omega) dX0_lowEnd_54 (by decide) (fun h3 => ?_) (fun h3 => ?_)
          · refine xr_iconst (v := nI 0) C dX0_lowEnd_61 (by decide) ?_
            refine xr_istore C dX0_lowEnd_62 (by decide) rfl ?_
            refine xr_iload C dX0_lowEnd_64 rfl ?_
            refine xr_ifT_eq (tgt := 95) C (by decide) dX0_lowEnd_66 (by decide) ?_
            refine xr_iload C dX0_lowEnd_95 rfl ?_
            refine xr_istore C dX0_lowEnd_97 (by decide) rfl ?_
            refine xr_iinc1 C dX0_lowEnd_99 rfl (by decide) rfl ?_
            refine xr_goto (tgt := 11) C dX0_lowEnd_102 (by decide) ?_
            exact ih (k + 1) x' _ (by omega) (by omega) hx16 (keep (Or.inl (fun h => by have := h.2.2.2; omega)))
          · refine xr_iconst (v := nI 1) C dX0_lowEnd_57 (by decide) ?_
            refine xr_goto (tgt := 62) C dX0_lowEnd_58 (by decide) ?_
            refine xr_istore C dX0_lowEnd_62 (by decide) rfl ?_
            refine xr_iload C dX0_lowEnd_64 rfl ?_
            refine xr_ifF_eq (tgt := 95) C (by decide) dX0_lowEnd_66 (by decide) ?_
            refine xr_aload_n C dX0_lowEnd_69 rfl ?_
            refine x0g_23 C 0 rfl rfl dX0_lowEnd_70 ?_
            refine xr_iload C dX0_lowEnd_73 rfl ?_
            refine xr_baldN C 5 0 rfl rfl (by omega) (by decide) dX0_lowEnd_75 ?_
            refine xr_iconst (v := nI 1) C dX0_lowEnd_76 (by decide) ?_
            refine xr_iaddN C dX0_lowEnd_77 ?_
            refine xr_iload C dX0_lowEnd_78 rfl ?_
            refine xr_icmp_leN (tgt := 95) C (by omega) (by omega) dX0_lowEnd_80 (by decide) (fun h4 => ?_) (fun h4 => ?_)
            · refine xr_iload C dX0_lowEnd_95 rfl ?_
              refine xr_istore C dX0_lowEnd_97 (by decide) rfl ?_
              refine xr_iinc1 C dX0_lowEnd_99 rfl (by decide) rfl ?_
              refine xr_goto (tgt := 11) C dX0_lowEnd_102 (by decide) ?_
              exact ih (k + 1) x' _ (by omega) (by omega) hx16 (keep (Or.inr h4))
            · refine xr_aload_n C dX0_lowEnd_83 rfl ?_
              refine x0g_23 C 0 rfl rfl dX0_lowEnd_84 ?_
              refine xr_iload C dX0_lowEnd_87 rfl ?_
              refine xr_baldN C 5 0 rfl rfl (by omega) (by decide) dX0_lowEnd_89 ?_
              refine xr_iconst (v := nI 1) C dX0_lowEnd_90 (by decide) ?_
              refine xr_iaddN C dX0_lowEnd_91 ?_
              refine xr_goto (tgt := 97) C dX0_lowEnd_92 (by decide) ?_
              refine xr_istore C dX0_lowEnd_97 (by decide) rfl ?_
              refine xr_iinc1 C dX0_lowEnd_99 rfl (by decide) rfl ?_
              refine xr_goto (tgt := 11) C dX0_lowEnd_102 (by decide) ?_
              refine ih (k + 1) _ _ (by omega) (by omega) (by omega) ⟨fun j h5 h6 => ?_, Or.inr ⟨k, ⟨hkn, by omega⟩, ⟨h1, hkf, h2, h3⟩, rfl⟩⟩
              by_cases hj : j = k
              · subst hj; exact Nat.le_refl _
              · have := hX.1 j ⟨h5.1, by omega⟩ h6
                omega
theorem m0_highEnd (hw : wf0 lc n fk sa) (t i f x : Nat) (ht : t < 4) (hi : i < 8) (hf : f < 4) (hx : hiX fk (fun j => j < n) t i f x) : xMi l D (xT cB cI cS) yX0_highEnd cX0_highEnd 7 .int ({ frames := 0, cells := 0, slots := 0, locals := 0 } : Room) [.ref (g 0), .int (nI t), .int (nI i), .int (nI f)] (x0w g cB cI cS lc vs n fk sa lf) (fun r w => r = nI x ∧ w = x0w g cB cI cS lc vs n fk sa lf) := by
  have hn := wf0_n hw
  have hs4 := wf0_sa hw (show f < 5 by omega)
  have hs5 := wf0_sa hw (show f + 1 < 5 by omega)
  have hseg := fun j => wf0_seg hw hf j
  refine xMi_of 3 rfl rfl (Nat.le_of_ble_eq_true rfl) (fun K C E => ?_)
  refine xr_bipush (v := nI 15) C dX0_highEnd_0 (by decide) ?_
  refine xr_istore C dX0_highEnd_2 (by decide) rfl ?_
  refine xr_aload_n C dX0_highEnd_4 rfl ?_
  refine x0g_35 C 0 rfl rfl dX0_highEnd_5 ?_
  refine xr_iload_n C dX0_highEnd_8 rfl ?_
  refine xr_baldN C 9 0 rfl rfl (by omega) (by decide) dX0_highEnd_9 ?_
  refine xr_istore C dX0_highEnd_10 (by decide) rfl ?_
  suffices H : ∀ (d k x' : Nat) (o6 : Option Value), k + d = 28 → sa f ≤ k → hiX fk (fun j => j < n ∧ j < k) t i f x' → xW l ({ frames := 0, cells := 0, slots := 0, locals := 0 } : Room) D 7 K (x0w g cB cI cS lc vs n fk sa lf) [some (.ref (g 0)), some (.int (nI t)), some (.int (nI i)), some (.int (nI f)), some (.int (nI x')), some (.int (nI k)), o6] 12 [] by
    refine H (28 - sa f) (sa f) 15 none (by omega) (Nat.le_refl _) ⟨fun j h1 h2 => ?_, Nat.le_refl _, Or.inl rfl⟩
    have := (hseg j).2 ⟨h1.1, h2.2.1⟩
    omega
  intro d
  induction d with
  | zero =>
    intro k x' o6 hkd hsk hX
    have hx15 := hX.2.1
    refine xr_iload C dX0_highEnd_12 rfl ?_
    refine xr_aload_n C dX0_highEnd_14 rfl ?_
    refine x0g_35 C 0 rfl rfl dX0_highEnd_15 ?_
    refine xr_iload_n C dX0_highEnd_18 rfl ?_
    refine xr_iconst (v := nI 1) C dX0_highEnd_19 (by decide) ?_
    refine xr_iaddN C dX0_highEnd_20 ?_
    refine xr_baldN C 9 0 rfl rfl (by omega) (by decide) dX0_highEnd_21 ?_
    refine xr_icmp_geN (tgt := 102) C (by omega) (by omega) dX0_highEnd_22 (by decide) (fun hc => ?_) (fun hc => ?_)
    · refine xr_iload C dX0_highEnd_102 rfl ?_
      exact xr_ireturn C E rfl dX0_highEnd_104 ⟨by
        refine congrArg nI (hiX_uniq ⟨fun j h1 h2 => hX.1 j ⟨h1, ?_⟩ h2, hX.2.1, hX.2.2.imp id (fun ⟨j, a, b⟩ => ⟨j, a.1, b⟩)⟩ hx)
        have := (hseg j).2 ⟨h1, h2.2.1⟩
        omega, rfl⟩
    · omega
  | succ d ih =>
    intro k x' o6 hkd hsk hX
    have hx15 := hX.2.1
    refine xr_iload C dX0_highEnd_12 rfl ?_
    refine xr_aload_n C dX0_highEnd_14 rfl ?_
    refine x0g_35 C 0 rfl rfl dX0_highEnd_15 ?_
    refine xr_iload_n C dX0_highEnd_18 rfl ?_
    refine xr_iconst (v := nI 1) C dX0_highEnd_19 (by decide) ?_
    refine xr_iaddN C dX0_highEnd_20 ?_
    refine xr_baldN C 9 0 rfl rfl (by omega) (by decide) dX0_highEnd_21 ?_
    refine xr_icmp_geN (tgt := 102) C (by omega) (by omega) dX0_highEnd_22 (by decide) (fun hc => ?_) (fun hc => ?_)
    · refine xr_iload C dX0_highEnd_102 rfl ?_
      exact xr_ireturn C E rfl dX0_highEnd_104 ⟨by
        refine congrArg nI (hiX_uniq ⟨fun j h1 h2 => hX.1 j ⟨h1, ?_⟩ h2, hX.2.1, hX.2.2.imp id (fun ⟨j, a, b⟩ => ⟨j, a.1, b⟩)⟩ hx)
        have := (hseg j).2 ⟨h1, h2.2.1⟩
        omega, rfl⟩
    · obtain ⟨hkn, hkf⟩ := (hseg k).1 ⟨hsk, hc⟩
      obtain ⟨o1, o2, o3, o4, o5, o7⟩ := hw.2.2.1 k
      have keep : ¬ qhi fk t i f k ∨ x' ≤ (fk k).2.2.1 → hiX fk (fun j => j < n ∧ j < k + 1) t i f x' := by
        intro h
        refine ⟨fun j h1 h2 => ?_, hX.2.1, hX.2.2.imp id (fun ⟨j, a, b⟩ => ⟨j, ⟨a.1, by omega⟩, b⟩)⟩
        by_cases hj : j = k
        · subst hj
          exact h.elim (fun h => absurd h2 h) id
        · exact hX.1 j ⟨h1.1, by omega⟩ h2
      refine xr_aload_n C dX0_highEnd_25 rfl ?_
      refine x0g_17 C 0 rfl rfl dX0_highEnd_26 ?_
      refine xr_iload C dX0_highEnd_29 rfl ?_
      refine xr_baldN C 3 0 rfl rfl (by omega) (by decide) dX0_highEnd_31 ?_
      refine xr_iload_n C dX0_highEnd_32 rfl ?_
      refine xr_icmp_neN (tgt := 62) C (by omega) (by omega) dX0_highEnd_33 (by decide) (fun h1 => ?_) (fun h1 => ?_)
      · refine xr_iconst (v := nI 0) C dX0_highEnd_62 (by decide) ?_
        refine xr_istore C dX0_highEnd_63 (by decide) rfl ?_
        refine xr_iload C dX0_highEnd_65 rfl ?_
        refine xr_ifT_eq (tgt := 92) C (by decide) dX0_highEnd_67 (by decide) ?_
        refine xr_iload C dX0_highEnd_92 rfl ?_
        refine xr_istore C dX0_highEnd_94 (by decide) rfl ?_
        refine xr_iinc1 C dX0_highEnd_96 rfl (by decide) rfl ?_
        refine xr_goto (tgt := 12) C dX0_highEnd_99 (by decide) ?_
        exact ih (k + 1) x' _ (by omega) (by omega) (keep (Or.inl (fun h => h1 h.1)))
      · refine xr_iload_n C dX0_highEnd_36 rfl ?_
        refine xr_aload_n C dX0_highEnd_37 rfl ?_
        refine x0g_26 C 0 rfl rfl dX0_highEnd_38 ?_
        refine xr_iload C dX0_highEnd_41 rfl ?_
        refine xr_baldN C 6 0 rfl rfl (by omega) (by decide) dX0_highEnd_43 ?_
        refine xr_icmp_ltN (tgt := 62) C (by omega) (by omega) dX0_highEnd_44 (by decide) (fun h2 => ?_) (fun h2 => ?_)
        · refine xr_iconst (v := nI 0) C dX0_highEnd_62 (by decide) ?_
          refine xr_istore C dX0_highEnd_63 (by decide) rfl ?_
          refine xr_iload C dX0_highEnd_65 rfl ?_
          refine xr_ifT_eq (tgt := 92) C (by decide) dX0_highEnd_67 (by decide) ?_
          refine xr_iload C dX0_highEnd_92 rfl ?_
          refine xr_istore C dX0_highEnd_94 (by decide) rfl ?_
          refine xr_iinc1 C dX0_highEnd_96 rfl (by decide) rfl ?_
          refine xr_goto (tgt := 12) C dX0_highEnd_99 (by decide) ?_
          exact ih (k + 1) x' _ (by omega) (by omega) (keep (Or.inl (fun h => by have := h.2.2.1; omega)))
        · refine xr_iload_n C dX0_highEnd_47 rfl ?_
          refine xr_aload_n C dX0_highEnd_48 rfl ?_
          refine x0g_29 C 0 rfl rfl dX0_highEnd_49 ?_
          refine xr_iload C dX0_highEnd_52 rfl ?_
          refine xr_baldN C 7 0 rfl rfl (by omega) (by decide) dX0_highEnd_54 ?_
          refine xr_icmp_gtN (tgt := 62) C (by omega) (by omega) dX0_highEnd_55 (by decide) (fun h3 => ?_) (fun h3 => ?_)
          · refine xr_iconst (v := nI 0) C dX0_highEnd_62 (by decide) ?_
            refine xr_istore C dX0_highEnd_63 (by decide) rfl ?_
            refine xr_iload C dX0_highEnd_65 rfl ?_
            refine xr_ifT_eq (tgt := 92) C (by decide) dX0_highEnd_67 (by decide) ?_
            refine xr_iload C dX0_highEnd_92 rfl ?_
            refine xr_istore C dX0_highEnd_94 (by decide) rfl ?_
            refine xr_iinc1 C dX0_highEnd_96 rfl (by decide) rfl ?_
            refine xr_goto (tgt := 12) C dX0_highEnd_99 (by decide) ?_
            exact ih (k + 1) x' _ (by omega) (by omega) (keep (Or.inl (fun h => by have := h.2.2.2; omega)))
          · refine xr_iconst (v := nI 1) C dX0_highEnd_58 (by decide) ?_
            refine xr_goto (tgt := 63) C dX0_highEnd_59 (by decide) ?_
            refine xr_istore C dX0_highEnd_63 (by decide) rfl ?_
            refine xr_iload C dX0_highEnd_65 rfl ?_
            refine xr_ifF_eq (tgt := 92) C (by decide) dX0_highEnd_67 (by decide) ?_
            refine xr_aload_n C dX0_highEnd_70 rfl ?_
            refine x0g_23 C 0 rfl rfl dX0_highEnd_71 ?_
            refine xr_iload C dX0_highEnd_74 rfl ?_
            refine xr_baldN C 5 0 rfl rfl (by omega) (by decide) dX0_highEnd_76 ?_
            refine xr_iload C dX0_highEnd_77 rfl ?_
            refine xr_icmp_geN (tgt := 92) C (by omega) (by omega) dX0_highEnd_79 (by decide) (fun h4 => ?_) (fun h4 => ?_)
            · refine xr_iload C dX0_highEnd_92 rfl ?_
              refine xr_istore C dX0_highEnd_94 (by decide) rfl ?_
              refine xr_iinc1 C dX0_highEnd_96 rfl (by decide) rfl ?_
              refine xr_goto (tgt := 12) C dX0_highEnd_99 (by decide) ?_
              exact ih (k + 1) x' _ (by omega) (by omega) (keep (Or.inr h4))
            · refine xr_aload_n C dX0_highEnd_82 rfl ?_
              refine x0g_23 C 0 rfl rfl dX0_highEnd_83 ?_
              refine xr_iload C dX0_highEnd_86 rfl ?_
              refine xr_baldN C 5 0 rfl rfl (by omega) (by decide) dX0_highEnd_88 ?_
              refine xr_goto (tgt := 94) C dX0_highEnd_89 (by decide) ?_
              refine xr_istore C dX0_highEnd_94 (by decide) rfl ?_
              refine xr_iinc1 C dX0_highEnd_96 rfl (by decide) rfl ?_
              refine xr_goto (tgt := 12) C dX0_highEnd_99 (by decide) ?_
              refine ih (k + 1) _ _ (by omega) (by omega) ⟨fun j h5 h6 => ?_, by omega, Or.inr ⟨k, ⟨hkn, by omega⟩, ⟨h1, hkf, h2, h3⟩, rfl⟩⟩
              by_cases hj : j = k
              · subst hj; exact Nat.le_refl _
              · have := hX.1 j ⟨h5.1, by omega⟩ h6
                omega
theorem loX_16 {fk : Nat → Fk} (hok : ∀ j, okF (fk j)) {P : Nat → Prop} {t i f x : Nat} (h : loX fk P t i f x) : x ≤ 16 := by
  rcases h.2 with h | ⟨j, a, b, c⟩
  · omega
  · have := (hok j).2.2.1
    omega
theorem m0_canReach (hw : wf0 lc n fk sa) {lo hi : Nat → Nat → Nat → Nat} (hb : bxOk lc n fk lo hi) (t i : Nat) (ht : t < 4) (hi8 : i < lc t) : xMi l D (xT cB cI cS) yX0_canReach cX0_canReach 5 .boolean ({ frames := 1, cells := 0, slots := 0, locals := 26 } : Room) [.ref (g 0), .int (nI t), .int (nI i)] (x0w g cB cI cS lc vs n fk sa lf) (fun r w => w = x0w g cB cI cS lc vs n fk sa lf ∧ ((r = 1 ∧ crT lo hi t i) ∨ (r = 0 ∧ ¬ crT lo hi t i))) := by
  have hl8 := (hw.1 t ht).2
  refine xMi_of 2 rfl rfl (Nat.le_of_ble_eq_true rfl) (fun K C E => ?_)
  refine xr_iconst (v := nI 0) C dX0_canReach_0 (by decide) ?_
  refine xr_istore_n C dX0_canReach_1 (by decide) rfl ?_
  suffices H : ∀ (m f : Nat) (o4 : Option Value), f + m = 4 → (∀ j, j < f → lo t i j ≤ hi t i j) → xW l ({ frames := 1, cells := 0, slots := 0, locals := 26 } : Room) D 5 K (x0w g cB cI cS lc vs n fk sa lf) [some (.ref (g 0)), some (.int (nI t)), some (.int (nI i)), some (.int (nI f)), o4] 2 [] by
    exact H 4 0 none rfl (fun j h => absurd h (Nat.not_lt_zero j))
  intro m
  induction m with
  | zero =>
    intro f o4 hfm hall
    have : f = 4 := by omega
    subst this
    refine xr_iload_n C dX0_canReach_2 rfl ?_
    refine xr_iconst (v := nI 4) C dX0_canReach_3 (by decide) ?_
    refine xr_icmp_geN (tgt := 36) C (by omega) (by omega) dX0_canReach_4 (by decide) (fun hc => ?_) (fun hc => ?_)
    · refine xr_iconst (v := nI 1) C dX0_canReach_36 (by decide) ?_
      exact xr_ireturn C E rfl dX0_canReach_37 ⟨rfl, Or.inl ⟨by decide, hall⟩⟩
    · omega
  | succ m ih =>
    intro f o4 hfm hall
    obtain ⟨hlo, hhi⟩ := hb t ht i hi8 f (by omega)
    have b1 := loX_16 hw.2.2.1 hlo
    have b2 := hhi.2.1
    refine xr_iload_n C dX0_canReach_2 rfl ?_
    refine xr_iconst (v := nI 4) C dX0_canReach_3 (by decide) ?_
    refine xr_icmp_geN (tgt := 36) C (by omega) (by omega) dX0_canReach_4 (by decide) (fun hc => ?_) (fun hc => ?_)
    · omega
    · refine xr_aload_n C dX0_canReach_7 rfl ?_
      refine xr_iload_n C dX0_canReach_8 rfl ?_
      refine xr_iload_n C dX0_canReach_9 rfl ?_
      refine xr_iload_n C dX0_canReach_10 rfl ?_
      refine xr_callWi C (m0_lowEnd hw t i f (lo t i f) ht (by omega) (by omega) hlo) (cw0_lowEnd ⟨by decide, by decide⟩) 0 rfl rfl rfl rfl (Nat.le_of_ble_eq_true rfl) dX0_canReach_11 (fun r w hw1 => ?_)
      obtain ⟨rfl, rfl⟩ := hw1
      refine xr_istore C dX0_canReach_14 (by decide) rfl ?_
      refine xr_iload C dX0_canReach_16 rfl ?_
      refine xr_aload_n C dX0_canReach_18 rfl ?_
      refine xr_iload_n C dX0_canReach_19 rfl ?_
      refine xr_iload_n C dX0_canReach_20 rfl ?_
      refine xr_iload_n C dX0_canReach_21 rfl ?_
      refine xr_callWi C (m0_highEnd hw t i f (hi t i f) ht (by omega) (by omega) hhi) (cw0_highEnd ⟨by decide, by decide⟩) 0 rfl rfl rfl rfl (Nat.le_of_ble_eq_true rfl) dX0_canReach_22 (fun r w hw1 => ?_)
      obtain ⟨rfl, rfl⟩ := hw1
      refine xr_icmp_leN (tgt := 30) C (by omega) (by omega) dX0_canReach_25 (by decide) (fun h1 => ?_) (fun h1 => ?_)
      · refine xr_iinc1 C dX0_canReach_30 rfl (by decide) rfl ?_
        refine xr_goto (tgt := 2) C dX0_canReach_33 (by decide) ?_
        refine ih (f + 1) _ (by omega) (fun j hj => ?_)
        by_cases h : j = f
        · subst h; exact h1
        · exact hall j (by omega)
      · refine xr_iconst (v := nI 0) C dX0_canReach_28 (by decide) ?_
        exact xr_ireturn C E rfl dX0_canReach_29 ⟨rfl, Or.inr ⟨by decide, fun h => by have := h f (by omega); omega⟩⟩
theorem m0_reachable (hw : wf0 lc n fk sa) {lo hi : Nat → Nat → Nat → Nat} (hb : bxOk lc n fk lo hi) (p1 : Int32) : xMi l D (xT cB cI cS) yX0_reachable cX0_reachable 4 .int ({ frames := 2, cells := 0, slots := 0, locals := 50 } : Room) [.ref (g 0), .int p1] (x0w g cB cI cS lc vs n fk sa lf) (fun r w => w = x0w g cB cI cS lc vs n fk sa lf ∧ ((¬ xin p1 4 ∧ r = nI 0) ∨ ∃ t, t < 4 ∧ p1 = nI t ∧ r = rcF (crT lo hi t) (lc t))) := by
  refine xMi_of 2 rfl rfl (Nat.le_of_ble_eq_true rfl) (fun K C E => ?_)
  refine xr_iload_n C dX0_reachable_0 rfl ?_
  refine xr_callSi C (m0_isTree p1) (cs0_isTree ⟨by decide, by decide⟩) rfl rfl (Nat.le_of_ble_eq_true rfl) dX0_reachable_1 (fun r w hw1 => ?_)
  rcases hw1 with ⟨rfl, t, ht, rfl⟩ | ⟨rfl, hno⟩
  · have hl8 := (hw.1 t ht).2
    refine xr_ifT_ne (tgt := 9) C (by decide) dX0_reachable_4 (by decide) ?_
    refine xr_iconst (v := nI 0) C dX0_reachable_9 (by decide) ?_
    refine xr_istore_n C dX0_reachable_10 (by decide) rfl ?_
    refine xr_iconst (v := nI 0) C dX0_reachable_11 (by decide) ?_
    refine xr_istore_n C dX0_reachable_12 (by decide) rfl ?_
    suffices H : ∀ (m i : Nat), i + m = lc t → xW l ({ frames := 2, cells := 0, slots := 0, locals := 50 } : Room) D 4 K (x0w g cB cI cS lc vs n fk sa lf) [some (.ref (g 0)), some (.int (nI t)), some (.int (rcF (crT lo hi t) i)), some (.int (nI i))] 13 [] by
      exact H (lc t) 0 (by omega)
    intro m
    induction m with
    | zero =>
      intro i him
      have e : i = lc t := by omega
      refine xr_iload_n C dX0_reachable_13 rfl ?_
      refine xr_aload_n C dX0_reachable_14 rfl ?_
      refine x0g_7 C 0 rfl rfl dX0_reachable_15 ?_
      refine xr_iload_n C dX0_reachable_18 rfl ?_
      refine xr_baldN C 1 0 rfl rfl (by omega) (by decide) dX0_reachable_19 ?_
      refine xr_icmp_geN (tgt := 48) C (by omega) (by omega) dX0_reachable_20 (by decide) (fun hc => ?_) (fun hc => ?_)
      · refine xr_iload_n C dX0_reachable_48 rfl ?_
        exact xr_ireturn C E rfl dX0_reachable_49 ⟨rfl, Or.inr ⟨t, ht, rfl, by rw [e]⟩⟩
      · omega
    | succ m ih =>
      intro i him
      have ih := ih (i + 1) (by omega)
      have e : rcF (crT lo hi t) (i + 1) = rcF (crT lo hi t) i ||| (@ite _ (crT lo hi t i) (Classical.propDecidable _) (nI 1 <<< (nI i &&& 31)) (nI 0)) := rfl
      refine xr_iload_n C dX0_reachable_13 rfl ?_
      refine xr_aload_n C dX0_reachable_14 rfl ?_
      refine x0g_7 C 0 rfl rfl dX0_reachable_15 ?_
      refine xr_iload_n C dX0_reachable_18 rfl ?_
      refine xr_baldN C 1 0 rfl rfl (by omega) (by decide) dX0_reachable_19 ?_
      refine xr_icmp_geN (tgt := 48) C (by omega) (by omega) dX0_reachable_20 (by decide) (fun hc => ?_) (fun hc => ?_)
      · omega
      · refine xr_iload_n C dX0_reachable_23 rfl ?_
        refine xr_aload_n C dX0_reachable_24 rfl ?_
        refine xr_iload_n C dX0_reachable_25 rfl ?_
        refine xr_iload_n C dX0_reachable_26 rfl ?_
        refine xr_callWi C (m0_canReach hw hb t i ht hc) (cw0_canReach ⟨by decide, by decide⟩) 0 rfl rfl rfl rfl (Nat.le_of_ble_eq_true rfl) dX0_reachable_27 (fun r w hw1 => ?_)
        obtain ⟨rfl, hw1⟩ := hw1
        rcases hw1 with ⟨rfl, h1⟩ | ⟨rfl, h1⟩
        · rw [if_pos h1] at e
          rw [e] at ih
          refine xr_ifF_eq (tgt := 39) C (by decide) dX0_reachable_30 (by decide) ?_
          refine xr_iconst (v := nI 1) C dX0_reachable_33 (by decide) ?_
          refine xr_iload_n C dX0_reachable_34 rfl ?_
          refine xr_ishl C dX0_reachable_35 ?_
          refine xr_goto (tgt := 40) C dX0_reachable_36 (by decide) ?_
          refine xr_ior C dX0_reachable_40 ?_
          refine xr_istore_n C dX0_reachable_41 (by decide) rfl ?_
          refine xr_iinc1 C dX0_reachable_42 rfl (by decide) rfl ?_
          refine xr_goto (tgt := 13) C dX0_reachable_45 (by decide) ?_
          exact ih
        · rw [if_neg h1] at e
          rw [e] at ih
          refine xr_ifT_eq (tgt := 39) C rfl dX0_reachable_30 (by decide) ?_
          refine xr_iconst (v := nI 0) C dX0_reachable_39 (by decide) ?_
          refine xr_ior C dX0_reachable_40 ?_
          refine xr_istore_n C dX0_reachable_41 (by decide) rfl ?_
          refine xr_iinc1 C dX0_reachable_42 rfl (by decide) rfl ?_
          refine xr_goto (tgt := 13) C dX0_reachable_45 (by decide) ?_
          exact ih
  · refine xr_ifF_ne (tgt := 9) C rfl dX0_reachable_4 (by decide) ?_
    refine xr_iconst (v := nI 0) C dX0_reachable_7 (by decide) ?_
    exact xr_ireturn C E rfl dX0_reachable_8 ⟨rfl, Or.inl ⟨hno, rfl⟩⟩
theorem m0_range (hw : wf0 lc n fk sa) {lo hi : Nat → Nat → Nat → Nat} (hb : bxOk lc n fk lo hi) (p1 p2 p3 p4 : Int32) : xMi l D (xT cB cI cS) yX0_range cX0_range 5 .int ({ frames := 2, cells := 0, slots := 0, locals := 50 } : Room) [.ref (g 0), .int p1, .int p2, .int p3, .int p4] (x0w g cB cI cS lc vs n fk sa lf) (fun r w => w = x0w g cB cI cS lc vs n fk sa lf ∧ ((¬ (xlf lc p1 p2 ∧ xin p3 4 ∧ xin p4 2) ∧ r = -1) ∨ ∃ t i f z, t < 4 ∧ i < lc t ∧ f < 4 ∧ z < 2 ∧ p1 = nI t ∧ p2 = nI i ∧ p3 = nI f ∧ p4 = nI z ∧ ((¬ crT lo hi t i ∧ r = -1) ∨ (crT lo hi t i ∧ r = nI (if z = 0 then lo t i f else hi t i f))))) := by
  refine xMi_of 0 rfl rfl (Nat.le_of_ble_eq_true rfl) (fun K C E => ?_)
  refine xr_aload_n C dX0_range_0 rfl ?_
  refine xr_iload_n C dX0_range_1 rfl ?_
  refine xr_iload_n C dX0_range_2 rfl ?_
  refine xr_callWi C (m0_isLeaf (fun t ht => (hw.1 t ht).2) p1 p2) (cw0_isLeaf ⟨by decide, by decide⟩) 0 rfl rfl rfl rfl (Nat.le_of_ble_eq_true rfl) dX0_range_3 (fun r w hw1 => ?_)
  obtain ⟨rfl, hw1⟩ := hw1
  rcases hw1 with ⟨rfl, t, i, ht, hi1, rfl, rfl⟩ | ⟨rfl, hno⟩
  · have hl8 := (hw.1 t ht).2
    refine xr_ifF_eq (tgt := 36) C (by decide) dX0_range_6 (by decide) ?_
    refine xr_iload_n C dX0_range_9 rfl ?_
    refine xr_callSi C (m0_isFeature p3) (cs0_isFeature ⟨by decide, by decide⟩) rfl rfl (Nat.le_of_ble_eq_true rfl) dX0_range_10 (fun r w hw1 => ?_)
    rcases hw1 with ⟨rfl, f, hf, rfl⟩ | ⟨rfl, hno⟩
    · refine xr_ifF_eq (tgt := 36) C (by decide) dX0_range_13 (by decide) ?_
      refine xr_iload C dX0_range_16 rfl ?_
      refine xr_if_lt (tgt := 36) C dX0_range_18 (by decide) (fun h1 => ?_) (fun h1 => ?_)
      · refine xr_iconst (v := (-1)) C dX0_range_36 (by decide) ?_
        exact xr_ireturn C E rfl dX0_range_37 ⟨rfl, Or.inl ⟨fun h => xin_neg (by decide) h1 h.2.2, rfl⟩⟩
      · obtain ⟨z, hz, rfl⟩ := nI_of h1
        refine xr_iload C dX0_range_21 rfl ?_
        refine xr_iconst (v := nI 1) C dX0_range_23 (by decide) ?_
        refine xr_icmp_gtN (tgt := 36) C (by omega) (by omega) dX0_range_24 (by decide) (fun h2 => ?_) (fun h2 => ?_)
        · refine xr_iconst (v := (-1)) C dX0_range_36 (by decide) ?_
          exact xr_ireturn C E rfl dX0_range_37 ⟨rfl, Or.inl ⟨fun h => by
            obtain ⟨-, -, x, hx, e⟩ := h
            have := nI_inj (by omega) (by omega) e
            omega, rfl⟩⟩
        · refine xr_aload_n C dX0_range_27 rfl ?_
          refine xr_iload_n C dX0_range_28 rfl ?_
          refine xr_iload_n C dX0_range_29 rfl ?_
          refine xr_callWi C (m0_canReach hw hb t i ht hi1) (cw0_canReach ⟨by decide, by decide⟩) 0 rfl rfl rfl rfl (Nat.le_of_ble_eq_true rfl) dX0_range_30 (fun r w hw1 => ?_)
          obtain ⟨rfl, hw1⟩ := hw1
          obtain ⟨hlo, hhi⟩ := hb t ht i hi1 f hf
          rcases hw1 with ⟨rfl, h3⟩ | ⟨rfl, h3⟩
          · refine xr_ifT_ne (tgt := 38) C (by decide) dX0_range_33 (by decide) ?_
            refine xr_iload C dX0_range_38 rfl ?_
            refine xr_if_neN (tgt := 53) C (by omega) dX0_range_40 (by decide) (fun h4 => ?_) (fun h4 => ?_)
            · refine xr_aload_n C dX0_range_53 rfl ?_
              refine xr_iload_n C dX0_range_54 rfl ?_
              refine xr_iload_n C dX0_range_55 rfl ?_
              refine xr_iload_n C dX0_range_56 rfl ?_
              refine xr_callWi C (m0_highEnd hw t i f (hi t i f) ht (by omega) (by omega) hhi) (cw0_highEnd ⟨by decide, by decide⟩) 0 rfl rfl rfl rfl (Nat.le_of_ble_eq_true rfl) dX0_range_57 (fun r w hw1 => ?_)
              obtain ⟨rfl, rfl⟩ := hw1
              exact xr_ireturn C E rfl dX0_range_60 ⟨rfl, Or.inr ⟨t, i, f, z, ht, hi1, hf, by omega, rfl, rfl, rfl, rfl, Or.inr ⟨h3, by rw [if_neg (by omega)]⟩⟩⟩
            · refine xr_aload_n C dX0_range_43 rfl ?_
              refine xr_iload_n C dX0_range_44 rfl ?_
              refine xr_iload_n C dX0_range_45 rfl ?_
              refine xr_iload_n C dX0_range_46 rfl ?_
              refine xr_callWi C (m0_lowEnd hw t i f (lo t i f) ht (by omega) (by omega) hlo) (cw0_lowEnd ⟨by decide, by decide⟩) 0 rfl rfl rfl rfl (Nat.le_of_ble_eq_true rfl) dX0_range_47 (fun r w hw1 => ?_)
              obtain ⟨rfl, rfl⟩ := hw1
              refine xr_goto (tgt := 60) C dX0_range_50 (by decide) ?_
              exact xr_ireturn C E rfl dX0_range_60 ⟨rfl, Or.inr ⟨t, i, f, z, ht, hi1, hf, by omega, rfl, rfl, rfl, rfl, Or.inr ⟨h3, by rw [if_pos h4]⟩⟩⟩
          · refine xr_ifF_ne (tgt := 38) C rfl dX0_range_33 (by decide) ?_
            refine xr_iconst (v := (-1)) C dX0_range_36 (by decide) ?_
            exact xr_ireturn C E rfl dX0_range_37 ⟨rfl, Or.inr ⟨t, i, f, z, ht, hi1, hf, by omega, rfl, rfl, rfl, rfl, Or.inl ⟨h3, rfl⟩⟩⟩
    · refine xr_ifT_eq (tgt := 36) C rfl dX0_range_13 (by decide) ?_
      refine xr_iconst (v := (-1)) C dX0_range_36 (by decide) ?_
      exact xr_ireturn C E rfl dX0_range_37 ⟨rfl, Or.inl ⟨fun h => hno h.2.1, rfl⟩⟩
  · refine xr_ifT_eq (tgt := 36) C rfl dX0_range_6 (by decide) ?_
    refine xr_iconst (v := (-1)) C dX0_range_36 (by decide) ?_
    exact xr_ireturn C E rfl dX0_range_37 ⟨rfl, Or.inl ⟨fun h => hno h.1, rfl⟩⟩
theorem m0_asks (hw : wf0 lc n fk sa) (p1 : Int32) : xMi l D (xT cB cI cS) yX0_asks cX0_asks 2 .int ({ frames := 1, cells := 0, slots := 0, locals := 20 } : Room) [.ref (g 0), .int p1] (x0w g cB cI cS lc vs n fk sa lf) (fun r w => w = x0w g cB cI cS lc vs n fk sa lf ∧ ((¬ xin p1 4 ∧ r = -1) ∨ ∃ f, f < 4 ∧ p1 = nI f ∧ r = nI (cntF fk (f + 1) n - cntF fk f n))) := by
  refine xMi_of 0 rfl rfl (Nat.le_of_ble_eq_true rfl) (fun K C E => ?_)
  refine xr_iload_n C dX0_asks_0 rfl ?_
  refine xr_callSi C (m0_isFeature p1) (cs0_isFeature ⟨by decide, by decide⟩) rfl rfl (Nat.le_of_ble_eq_true rfl) dX0_asks_1 (fun r w hw1 => ?_)
  rcases hw1 with ⟨rfl, f, hf, rfl⟩ | ⟨rfl, hno⟩
  · have e1 := hw.2.2.2.2.2 f (by omega)
    have e2 := hw.2.2.2.2.2 (f + 1) (by omega)
    have e3 := cntF_mono fk f n
    refine xr_ifF_eq (tgt := 25) C (by decide) dX0_asks_4 (by decide) ?_
    refine xr_aload_n C dX0_asks_7 rfl ?_
    refine x0g_35 C 0 rfl rfl dX0_asks_8 ?_
    refine xr_iload_n C dX0_asks_11 rfl ?_
    refine xr_iconst (v := nI 1) C dX0_asks_12 (by decide) ?_
    refine xr_iaddN C dX0_asks_13 ?_
    refine xr_baldN C 9 0 rfl rfl (by omega) (by decide) dX0_asks_14 ?_
    refine xr_aload_n C dX0_asks_15 rfl ?_
    refine x0g_35 C 0 rfl rfl dX0_asks_16 ?_
    refine xr_iload_n C dX0_asks_19 rfl ?_
    refine xr_baldN C 9 0 rfl rfl (by omega) (by decide) dX0_asks_20 ?_
    refine xr_isubN C (by omega) dX0_asks_21 ?_
    refine xr_goto (tgt := 26) C dX0_asks_22 (by decide) ?_
    exact xr_ireturn C E rfl dX0_asks_26 ⟨rfl, Or.inr ⟨f, hf, rfl, by rw [e1, e2]⟩⟩
  · refine xr_ifT_eq (tgt := 25) C rfl dX0_asks_4 (by decide) ?_
    refine xr_iconst (v := (-1)) C dX0_asks_25 (by decide) ?_
    exact xr_ireturn C E rfl dX0_asks_26 ⟨rfl, Or.inl ⟨hno, rfl⟩⟩
end X0F
end
section
/-! TREES: the plain thing both classes hold. A branch's number d: feature d / 16, limit d % 16; a leaf holds its value. -/
set_option maxRecDepth 100000
abbrev Tr : Type := Lean.RArray Int32
def nl : Tr → Nat
  | .leaf _ => 1
  | .branch _ a b => nl a + nl b
def ln : Tr → Nat
  | .leaf _ => 1
  | .branch _ a b => 1 + ln a + ln b
def okT : Tr → Prop
  | .leaf _ => True
  | .branch d a b => d < 64 ∧ okT a ∧ okT b
/-- the part that begins at place p of the list at b is the tree -/
def hold (ak nu : Nat → Int32) (b : Nat) : Tr → Nat → Prop
  | .leaf v, p => ak (b + p) = -1 ∧ nu (b + p) = v
  | .branch d l r, p => ak (b + p) = nI (d / 16) ∧ nu (b + p) = nI (d % 16) ∧ hold ak nu b l (p + 1) ∧ hold ak nu b r (p + 1 + ln l)
/-- how many leaves lie ahead of place p -/
def lct (ak : Nat → Int32) (b : Nat) : Nat → Nat
  | 0 => 0
  | p + 1 => lct ak b p + (if ak (b + p) < 0 then 1 else 0)
def posT : Tr → Nat → Nat
  | .leaf _, _ => 0
  | .branch _ l r, i => if i < nl l then 1 + posT l i else 1 + ln l + posT r (i - nl l)
def valT : Tr → Nat → Int32
  | .leaf v, _ => v
  | .branch _ l r, i => if i < nl l then valT l i else valT r (i - nl l)
def exT (p : Int32) : Tr → Nat
  | .leaf _ => 0
  | .branch d l r => if ftv p (d / 16) ≤ d % 16 then exT p l else nl l + exT p r
def dpT (p : Int32) : Tr → Nat
  | .leaf _ => 0
  | .branch d l r => 1 + (if ftv p (d / 16) ≤ d % 16 then dpT p l else dpT p r)
def loP : Tr → Nat → Nat → Nat → Nat
  | .leaf _, _, _, x => x
  | .branch d l r, i, f, x => if i < nl l then loP l i f x else loP r (i - nl l) f (if d / 16 = f then (if x < d % 16 + 1 then d % 16 + 1 else x) else x)
def hiP : Tr → Nat → Nat → Nat → Nat
  | .leaf _, _, _, x => x
  | .branch d l r, i, f, x => if i < nl l then hiP l i f (if d / 16 = f then (if d % 16 < x then d % 16 else x) else x) else hiP r (i - nl l) f x
def splT : Tr → Nat → Nat → Tr
  | .leaf v, _, d => .branch d (.leaf v) (.leaf 0)
  | .branch e l r, i, d => if i < nl l then .branch e (splT l i d) r else .branch e l (splT r (i - nl l) d)
def setT : Tr → Nat → Int32 → Tr
  | .leaf _, _, v => .leaf v
  | .branch e l r, i, v => if i < nl l then .branch e (setT l i v) r else .branch e l (setT r (i - nl l) v)
theorem nl_pos : ∀ T : Tr, 1 ≤ nl T
  | .leaf _ => Nat.le_refl _
  | .branch _ a b => by
    have := nl_pos a
    unfold nl
    omega
theorem ln_nl : ∀ T : Tr, ln T + 1 = 2 * nl T
  | .leaf _ => rfl
  | .branch _ a b => by
    have := ln_nl a
    have := ln_nl b
    unfold nl ln
    omega
theorem nI_neg1 : ((-1 : Int32)) < 0 := by decide
theorem nI_nneg {n : Nat} (h : n < 2 ^ 31) : ¬ nI n < 0 := nI_pos h
theorem exT_lt (p : Int32) : ∀ T : Tr, exT p T < nl T
  | .leaf _ => Nat.lt_succ_self _
  | .branch d a b => by
    have := exT_lt p a
    have := exT_lt p b
    have := nl_pos b
    unfold exT
    show _ < nl a + nl b
    split <;> omega
theorem dpT_lt (p : Int32) : ∀ T : Tr, dpT p T < nl T
  | .leaf _ => Nat.lt_succ_self _
  | .branch d a b => by
    have := dpT_lt p a
    have := dpT_lt p b
    have := nl_pos a
    have := nl_pos b
    unfold dpT
    show _ < nl a + nl b
    split <;> omega
theorem posT_lt : ∀ (T : Tr) (i : Nat), posT T i < ln T
  | .leaf _, _ => Nat.lt_succ_self _
  | .branch d a b, i => by
    have := posT_lt a i
    have := posT_lt b (i - nl a)
    unfold posT
    show _ < 1 + ln a + ln b
    split <;> omega
theorem lct_succ (ak : Nat → Int32) (b p : Nat) : lct ak b (p + 1) = lct ak b p + (if ak (b + p) < 0 then 1 else 0) := rfl
theorem hold_cnt {ak nu : Nat → Int32} {b : Nat} : ∀ (T : Tr) (p : Nat), okT T → hold ak nu b T p → lct ak b (p + ln T) = lct ak b p + nl T
  | .leaf v, p, _, h => by
    show lct ak b (p + 1) = lct ak b p + 1
    rw [lct_succ, h.1, if_pos nI_neg1]
  | .branch d l r, p, ho, h => by
    obtain ⟨h1, h2, h3, h4⟩ := h
    have e1 := hold_cnt l (p + 1) ho.2.1 h3
    have e2 := hold_cnt r (p + 1 + ln l) ho.2.2 h4
    have e3 : lct ak b (p + 1) = lct ak b p := by
      have := ho.1
      rw [lct_succ, h1, if_neg (nI_nneg (by omega))]
      rfl
    show lct ak b (p + (1 + ln l + ln r)) = lct ak b p + (nl l + nl r)
    rw [show p + (1 + ln l + ln r) = p + 1 + ln l + ln r by omega, e2, e1, e3]
    omega
theorem hold_pos {ak nu : Nat → Int32} {b : Nat} : ∀ (T : Tr) (p i : Nat), okT T → hold ak nu b T p → i < nl T → ak (b + (p + posT T i)) = -1 ∧ nu (b + (p + posT T i)) = valT T i ∧ lct ak b (p + posT T i) = lct ak b p + i
  | .leaf v, p, i, _, h, hi => by
    have : i = 0 := by
      unfold nl at hi
      omega
    subst this
    exact ⟨h.1, h.2, rfl⟩
  | .branch d l r, p, i, ho, h, hi => by
    obtain ⟨h1, h2, h3, h4⟩ := h
    have e3 : lct ak b (p + 1) = lct ak b p := by
      have := ho.1
      rw [lct_succ, h1, if_neg (nI_nneg (by omega))]
      rfl
    have e1 := hold_cnt l (p + 1) ho.2.1 h3
    unfold posT valT
    by_cases hl : i < nl l
    · rw [if_pos hl, if_pos hl]
      have := hold_pos l (p + 1) i ho.2.1 h3 hl
      rw [show p + (1 + posT l i) = p + 1 + posT l i by omega]
      rw [e3] at this
      exact this
    · rw [if_neg hl, if_neg hl]
      have := hold_pos r (p + 1 + ln l) (i - nl l) ho.2.2 h4 (by unfold nl at hi; omega)
      rw [show p + (1 + ln l + posT r (i - nl l)) = p + 1 + ln l + posT r (i - nl l) by omega]
      rw [e1, e3] at this
      exact ⟨this.1, this.2.1, by rw [this.2.2]; omega⟩
theorem lct_mono (ak : Nat → Int32) (b p : Nat) : ∀ d, lct ak b p ≤ lct ak b (p + d)
  | 0 => Nat.le_refl _
  | d + 1 => by
    have := lct_mono ak b p d
    rw [← Nat.add_assoc, lct_succ]
    omega
theorem lct_lt {ak : Nat → Int32} {b p q : Nat} (h : p < q) (hl : ak (b + p) < 0) : lct ak b p < lct ak b q := by
  have h1 : lct ak b (p + 1) = lct ak b p + 1 := by rw [lct_succ, if_pos hl]
  have h2 := lct_mono ak b (p + 1) (q - (p + 1))
  rw [show p + 1 + (q - (p + 1)) = q by omega] at h2
  omega
theorem lct_inj {ak : Nat → Int32} {b p q : Nat} (hp : ak (b + p) < 0) (hq : ak (b + q) < 0) (h : lct ak b p = lct ak b q) : p = q := by
  rcases Nat.lt_trichotomy p q with a | a | a
  · have := lct_lt a hp; omega
  · exact a
  · have := lct_lt a hq; omega
theorem nl_spl (d : Nat) : ∀ (T : Tr) (i : Nat), nl (splT T i d) = nl T + 1
  | .leaf v, i => rfl
  | .branch e l r, i => by
    unfold splT
    split
    · show nl (splT l i d) + nl r = nl l + nl r + 1
      rw [nl_spl d l i]; omega
    · show nl l + nl (splT r (i - nl l) d) = nl l + nl r + 1
      rw [nl_spl d r]; omega
theorem ln_spl (d : Nat) (T : Tr) (i : Nat) : ln (splT T i d) = ln T + 2 := by
  have h1 := ln_nl T
  have h2 := ln_nl (splT T i d)
  rw [nl_spl] at h2
  omega
theorem ok_spl {d : Nat} (hd : d < 64) : ∀ (T : Tr) (i : Nat), okT T → okT (splT T i d)
  | .leaf v, i, _ => ⟨hd, trivial, trivial⟩
  | .branch e l r, i, h => by
    unfold splT
    split
    · exact ⟨h.1, ok_spl hd l i h.2.1, h.2.2⟩
    · exact ⟨h.1, h.2.1, ok_spl hd r _ h.2.2⟩
theorem nl_set (v : Int32) : ∀ (T : Tr) (i : Nat), nl (setT T i v) = nl T
  | .leaf _, i => rfl
  | .branch e l r, i => by
    unfold setT
    split
    · show nl (setT l i v) + nl r = nl l + nl r
      rw [nl_set v l i]
    · show nl l + nl (setT r (i - nl l) v) = nl l + nl r
      rw [nl_set v r]
theorem ln_set (v : Int32) (T : Tr) (i : Nat) : ln (setT T i v) = ln T := by
  have h1 := ln_nl T
  have h2 := ln_nl (setT T i v)
  rw [nl_set] at h2
  omega
theorem ok_set {v : Int32} : ∀ (T : Tr) (i : Nat), okT T → okT (setT T i v)
  | .leaf _, i, _ => trivial
  | .branch e l r, i, h => by
    unfold setT
    split
    · exact ⟨h.1, ok_set l i h.2.1, h.2.2⟩
    · exact ⟨h.1, h.2.1, ok_set r _ h.2.2⟩
/-- the list at b' holds at p' what the list at b holds at p -/
theorem hold_move {ak nu ak' nu' : Nat → Int32} {b b' : Nat} : ∀ (T : Tr) (p p' : Nat), hold ak nu b T p → (∀ j, j < ln T → ak' (b' + (p' + j)) = ak (b + (p + j)) ∧ nu' (b' + (p' + j)) = nu (b + (p + j))) → hold ak' nu' b' T p'
  | .leaf v, p, p', h, e => by
    have e0 := e 0 (Nat.lt_succ_self 0)
    exact ⟨e0.1.trans h.1, e0.2.trans h.2⟩
  | .branch d l r, p, p', h, e => by
    obtain ⟨h1, h2, h3, h4⟩ := h
    have e0 := e 0 (show 0 < 1 + ln l + ln r by omega)
    refine ⟨e0.1.trans h1, e0.2.trans h2, ?_, ?_⟩
    · refine hold_move l (p + 1) (p' + 1) h3 (fun j hj => ?_)
      have := e (1 + j) (show 1 + j < 1 + ln l + ln r by omega)
      rw [show p' + 1 + j = p' + (1 + j) by omega, show p + 1 + j = p + (1 + j) by omega]
      exact this
    · refine hold_move r (p + 1 + ln l) (p' + 1 + ln l) h4 (fun j hj => ?_)
      have := e (1 + ln l + j) (show 1 + ln l + j < 1 + ln l + ln r by omega)
      rw [show p' + 1 + ln l + j = p' + (1 + ln l + j) by omega, show p + 1 + ln l + j = p + (1 + ln l + j) by omega]
      exact this
/-- the list behind a split of the leaf at place q -/
theorem hold_spl {ak nu ak' nu' : Nat → Int32} {b q e d : Nat} (h1 : ∀ j, j < q → ak' (b + j) = ak (b + j) ∧ nu' (b + j) = nu (b + j)) (h2 : ak' (b + q) = nI (d / 16) ∧ nu' (b + q) = nI (d % 16)) (h3 : ak' (b + (q + 1)) = -1 ∧ nu' (b + (q + 1)) = nu (b + q)) (h4 : ak' (b + (q + 2)) = -1 ∧ nu' (b + (q + 2)) = 0) (h5 : ∀ j, q < j → j < e → ak' (b + (j + 2)) = ak (b + j) ∧ nu' (b + (j + 2)) = nu (b + j)) :
    ∀ (T : Tr) (p i : Nat), hold ak nu b T p → i < nl T → q = p + posT T i → p + ln T ≤ e → hold ak' nu' b (splT T i d) p
  | .leaf v, p, i, h, hi, hq, he => by
    have hq : q = p := hq
    subst hq
    exact ⟨h2.1, h2.2, ⟨h3.1, h3.2.trans h.2⟩, ⟨h4.1, h4.2⟩⟩
  | .branch c l r, p, i, h, hi, hq, he => by
    obtain ⟨g1, g2, g3, g4⟩ := h
    unfold posT at hq
    unfold splT
    have he : p + (1 + ln l + ln r) ≤ e := he
    by_cases hl : i < nl l
    · rw [if_pos hl] at hq ⊢
      have hp := posT_lt l i
      have a := h1 p (by omega)
      refine ⟨a.1.trans g1, a.2.trans g2, hold_spl h1 h2 h3 h4 h5 l (p + 1) i g3 hl (by omega) (by omega), ?_⟩
      rw [ln_spl]
      refine hold_move r (p + 1 + ln l) _ g4 (fun j hj => ?_)
      have := h5 (p + 1 + ln l + j) (by omega) (by omega)
      rw [show p + 1 + (ln l + 2) + j = p + 1 + ln l + j + 2 by omega]
      exact this
    · rw [if_neg hl] at hq ⊢
      have a := h1 p (by omega)
      refine ⟨a.1.trans g1, a.2.trans g2, ?_, hold_spl h1 h2 h3 h4 h5 r (p + 1 + ln l) (i - nl l) g4 (by unfold nl at hi; omega) (by omega) (by omega)⟩
      exact hold_move l (p + 1) (p + 1) g3 (fun j hj => h1 (p + 1 + j) (by omega))
theorem hold_set {ak nu nu' : Nat → Int32} {b q : Nat} {v : Int32} (h1 : ∀ j, j ≠ q → nu' (b + j) = nu (b + j)) (h2 : nu' (b + q) = v) :
    ∀ (T : Tr) (p i : Nat), hold ak nu b T p → i < nl T → q = p + posT T i → hold ak nu' b (setT T i v) p
  | .leaf w, p, i, h, hi, hq => by
    have hq : q = p := hq
    subst hq
    exact ⟨h.1, h2⟩
  | .branch c l r, p, i, h, hi, hq => by
    obtain ⟨g1, g2, g3, g4⟩ := h
    unfold posT at hq
    unfold setT
    by_cases hl : i < nl l
    · rw [if_pos hl] at hq ⊢
      have hp := posT_lt l i
      refine ⟨g1, (h1 p (by omega)).trans g2, hold_set h1 h2 l (p + 1) i g3 hl (by omega), ?_⟩
      rw [ln_set]
      exact hold_move r (p + 1 + ln l) _ g4 (fun j hj => ⟨rfl, h1 _ (by omega)⟩)
    · rw [if_neg hl] at hq ⊢
      refine ⟨g1, (h1 p (by omega)).trans g2, ?_, hold_set h1 h2 r (p + 1 + ln l) (i - nl l) g4 (by unfold nl at hi; omega) (by omega)⟩
      exact hold_move l (p + 1) (p + 1) g3 (fun j hj => ⟨rfl, h1 _ (by omega)⟩)
/-- what TreeScorerModel's arrays hold -/
def r1 (τ : Nat → Tr) (sz : Nat → Nat) (ak nu : Nat → Int32) : Prop := ∀ t, t < 4 → sz t = ln (τ t) ∧ hold ak nu (15 * t) (τ t) 0 ∧ okT (τ t) ∧ nl (τ t) ≤ 8
/-- both arrays: the places behind b + k + 2 up to b + m + 2 hold what lay two places ahead -/
def shW (A : Nat → Int32) (b k m : Nat) : Nat → Int32 := fun x => if b + k + 2 < x ∧ x ≤ b + m + 2 then A (x - 2) else A x
theorem shW_0 (A : Nat → Int32) (b m : Nat) : shW A b m m = A := by
  funext x
  unfold shW
  rw [if_neg (fun h => by omega)]
theorem shW_at (A : Nat → Int32) (b k m : Nat) : shW A b k m (b + k) = A (b + k) := by
  unfold shW
  rw [if_neg (fun h => by omega)]
theorem shW_step (A : Nat → Int32) (b k m : Nat) (h0 : 0 < k) (hk : k ≤ m) : upd (shW A b k m) (b + k + 2) (A (b + k)) = shW A b (k - 1) m := by
  funext x
  unfold upd shW
  by_cases hx : x = b + k + 2
  · subst hx
    rw [if_pos rfl, if_pos ⟨by omega, by omega⟩]
    rfl
  · rw [if_neg hx]
    by_cases h2 : b + k + 2 < x ∧ x ≤ b + m + 2
    · rw [if_pos h2, if_pos ⟨by omega, h2.2⟩]
    · rw [if_neg h2, if_neg (fun h3 => h2 ⟨by omega, h3.2⟩)]
theorem upd_at (f : Nat → Int32) (k : Nat) (x : Int32) : upd f k x k = x := pk_us
theorem upd_ne (f : Nat → Int32) {k j : Nat} (x : Int32) (h : j ≠ k) : upd f k x j = f j := pk_un h
theorem r1_split {τ : Nat → Tr} {sz : Nat → Nat} {ak nu : Nat → Int32} (h : r1 τ sz ak nu) {t i f lim : Nat} (ht : t < 4) (hi : i < nl (τ t)) (h8 : nl (τ t) < 8) (hf : f < 4) (hlim : lim < 16) {q : Nat} (hq : q = posT (τ t) i) :
    r1 (va_up τ t (splT (τ t) i (16 * f + lim))) (va_up sz t (sz t + 2)) (upd (upd (upd (shW ak (15 * t) q (sz t - 1)) (15 * t + q + 1) (-1)) (15 * t + q + 2) (-1)) (15 * t + q) (nI f)) (upd (upd (upd (shW nu (15 * t) q (sz t - 1)) (15 * t + q + 1) (nu (15 * t + q))) (15 * t + q + 2) (nI 0)) (15 * t + q) (nI lim)) := by
  obtain ⟨e1, e2, e3, e4⟩ := h t ht
  have hln := ln_nl (τ t)
  have hq2 := posT_lt (τ t) i
  intro t' ht'
  by_cases htt : t' = t
  · subst htt
    have a1 : va_up τ t' (splT (τ t') i (16 * f + lim)) t' = splT (τ t') i (16 * f + lim) := by simp [va_up]
    have a2 : va_up sz t' (sz t' + 2) t' = sz t' + 2 := by simp [va_up]
    rw [a1, a2]
    refine ⟨by rw [ln_spl, e1], ?_, ok_spl (by omega) _ _ e3, by rw [nl_spl]; omega⟩
    refine hold_spl (q := q) (e := sz t') (ak := ak) (nu := nu) (fun j hj => ?_) ?_ ?_ ?_ (fun j hj hj2 => ?_) (τ t') 0 i e2 hi (by omega) (by omega)
    · rw [upd_ne _ _ (by omega), upd_ne _ _ (by omega), upd_ne _ _ (by omega), upd_ne _ _ (by omega), upd_ne _ _ (by omega), upd_ne _ _ (by omega)]
      unfold shW
      rw [if_neg (fun h => by omega), if_neg (fun h => by omega)]
      exact ⟨rfl, rfl⟩
    · rw [upd_at, upd_at]
      exact ⟨congrArg nI (by omega), congrArg nI (by omega)⟩
    · rw [← Nat.add_assoc, upd_ne _ _ (by omega), upd_ne _ _ (by omega), upd_at, upd_ne _ _ (by omega), upd_ne _ _ (by omega), upd_at]
      exact ⟨rfl, rfl⟩
    · rw [← Nat.add_assoc, upd_ne _ _ (by omega), upd_at, upd_ne _ _ (by omega), upd_at]
      exact ⟨rfl, by decide⟩
    · rw [← Nat.add_assoc, upd_ne _ _ (by omega), upd_ne _ _ (by omega), upd_ne _ _ (by omega), upd_ne _ _ (by omega), upd_ne _ _ (by omega), upd_ne _ _ (by omega)]
      unfold shW
      rw [if_pos ⟨by omega, by omega⟩, if_pos ⟨by omega, by omega⟩]
      exact ⟨rfl, rfl⟩
  · have a1 : va_up τ t (splT (τ t) i (16 * f + lim)) t' = τ t' := by simp [va_up, htt]
    have a2 : va_up sz t (sz t + 2) t' = sz t' := by simp [va_up, htt]
    rw [a1, a2]
    obtain ⟨g1, g2, g3, g4⟩ := h t' ht'
    have hln' := ln_nl (τ t')
    refine ⟨g1, hold_move _ 0 0 g2 (fun j hj => ?_), g3, g4⟩
    have hne : ∀ x, x ≤ 14 → 15 * t' + (0 + j) ≠ 15 * t + x := by
      intro x hx
      rcases Nat.lt_or_ge t' t with a | a <;> omega
    have n0 := hne q (by omega)
    have n1 := hne (q + 1) (by omega)
    have n2 := hne (q + 2) (by omega)
    rw [upd_ne _ _ (by omega), upd_ne _ _ (by omega), upd_ne _ _ (by omega), upd_ne _ _ (by omega), upd_ne _ _ (by omega), upd_ne _ _ (by omega)]
    unfold shW
    have : ¬ (15 * t + q + 2 < 15 * t' + (0 + j) ∧ 15 * t' + (0 + j) ≤ 15 * t + (sz t - 1) + 2) := by
      rintro ⟨a, b⟩
      exact hne (15 * t' + (0 + j) - 15 * t) (by omega) (by omega)
    rw [if_neg this, if_neg this]
    exact ⟨rfl, rfl⟩
theorem r1_set {τ : Nat → Tr} {sz : Nat → Nat} {ak nu : Nat → Int32} (h : r1 τ sz ak nu) {t i : Nat} (v : Int32) (ht : t < 4) (hi : i < nl (τ t)) : r1 (va_up τ t (setT (τ t) i v)) sz ak (upd nu (15 * t + posT (τ t) i) v) := by
  obtain ⟨e1, e2, e3, e4⟩ := h t ht
  have hln := ln_nl (τ t)
  have hq2 := posT_lt (τ t) i
  intro t' ht'
  by_cases htt : t' = t
  · subst htt
    have a1 : va_up τ t' (setT (τ t') i v) t' = setT (τ t') i v := by simp [va_up]
    rw [a1]
    exact ⟨by rw [ln_set, e1], hold_set (q := posT (τ t') i) (fun j hj => upd_ne _ _ (by omega)) (upd_at _ _ _) (τ t') 0 i e2 hi (by omega), ok_set _ _ e3, by rw [nl_set]; exact e4⟩
  · have a1 : va_up τ t (setT (τ t) i v) t' = τ t' := by simp [va_up, htt]
    rw [a1]
    obtain ⟨g1, g2, g3, g4⟩ := h t' ht'
    have hln' := ln_nl (τ t')
    refine ⟨g1, hold_move _ 0 0 g2 (fun j hj => ⟨rfl, upd_ne _ _ ?_⟩), g3, g4⟩
    rcases Nat.lt_or_ge t' t with a | a <;> omega
theorem r1_clear {τ : Nat → Tr} {sz : Nat → Nat} {ak nu : Nat → Int32} (h : r1 τ sz ak nu) {t : Nat} (ht : t < 4) : r1 (va_up τ t (.leaf 0)) (va_up sz t 1) (upd ak (15 * t) (-1)) (upd nu (15 * t) (nI 0)) := by
  intro t' ht'
  by_cases htt : t' = t
  · subst htt
    have a1 : va_up τ t' (.leaf 0) t' = .leaf 0 := by simp [va_up]
    have a2 : va_up sz t' 1 t' = 1 := by simp [va_up]
    rw [a1, a2]
    exact ⟨rfl, ⟨upd_at _ _ _, (upd_at _ _ _).trans (by decide)⟩, trivial, show 1 ≤ 8 by decide⟩
  · have a1 : va_up τ t (.leaf 0) t' = τ t' := by simp [va_up, htt]
    have a2 : va_up sz t 1 t' = sz t' := by simp [va_up, htt]
    rw [a1, a2]
    obtain ⟨g1, g2, g3, g4⟩ := h t' ht'
    have hln' := ln_nl (τ t')
    refine ⟨g1, hold_move _ 0 0 g2 (fun j hj => ⟨upd_ne _ _ ?_, upd_ne _ _ ?_⟩), g3, g4⟩
    · rcases Nat.lt_or_ge t' t with a | a <;> omega
    · rcases Nat.lt_or_ge t' t with a | a <;> omega
end
section
/-! TreeScorerModel: its cells, its small methods, split -/
set_option maxRecDepth 100000
def x1w (g : Nat → Nat) (cI : ClassId) (sz : Nat → Nat) (ak nu : Nat → Int32) (lo hi : Nat → Nat) : va_W :=
  [(g 0, .inr (1, [.ref (g 1), .ref (g 2), .ref (g 3), .ref (g 4), .ref (g 5)])), (g 1, .inl (cI, 4, .inl (fun j => nI (sz j)))), (g 2, .inl (cI, 60, .inl ak)), (g 3, .inl (cI, 60, .inl nu)), (g 4, .inl (cI, 4, .inl (fun j => nI (lo j)))), (g 5, .inl (cI, 4, .inl (fun j => nI (hi j))))]
theorem r1_sz {τ : Nat → Tr} {sz : Nat → Nat} {ak nu : Nat → Int32} (h : r1 τ sz ak nu) {t : Nat} (ht : t < 4) : sz t ≤ 15 ∧ sz t + 1 = 2 * nl (τ t) ∧ 1 ≤ nl (τ t) ∧ nl (τ t) ≤ 8 := by
  obtain ⟨e1, -, -, e4⟩ := h t ht
  have := ln_nl (τ t)
  have := nl_pos (τ t)
  omega
section X1A
variable {l : Launch} {D : va_G} {g : Nat → Nat} {cB cI cS : ClassId} {sz : Nat → Nat} {ak nu : Nat → Int32} {lo hi : Nat → Nat} {τ : Nat → Tr}
theorem m1_tree (p : Int32) : xMi l D (xT cB cI cS) yX1_tree cX1_tree 2 .boolean ({ frames := 0, cells := 0, slots := 0, locals := 0 } : Room) [.ref (g 0), .int p] (x1w g cI sz ak nu lo hi) (fun r w => w = x1w g cI sz ak nu lo hi ∧ ((r = 1 ∧ xin p 4) ∨ (r = 0 ∧ ¬ xin p 4))) := by
  refine xMi_of 0 rfl rfl (Nat.le_of_ble_eq_true rfl) (fun K C E => ?_)
  refine xr_iload_n C dX1_tree_0 rfl ?_
  refine xr_if_lt (tgt := 13) C dX1_tree_1 (by decide) (fun h1 => ?_) (fun h1 => ?_)
  · refine xr_iconst (v := nI 0) C dX1_tree_13 (by decide) ?_
    exact xr_ireturn C E rfl dX1_tree_14 ⟨rfl, Or.inr ⟨by decide, xin_neg (by decide) h1⟩⟩
  · refine xr_iload_n C dX1_tree_4 rfl ?_
    refine xr_iconst (v := nI 3) C dX1_tree_5 (by decide) ?_
    refine xr_icmp_gt (tgt := 13) C dX1_tree_6 (by decide) (fun h2 => ?_) (fun h2 => ?_)
    · refine xr_iconst (v := nI 0) C dX1_tree_13 (by decide) ?_
      exact xr_ireturn C E rfl dX1_tree_14 ⟨rfl, Or.inr ⟨by decide, xin_gt (N := 3) (by decide) h2⟩⟩
    · refine xr_iconst (v := nI 1) C dX1_tree_9 (by decide) ?_
      refine xr_goto (tgt := 14) C dX1_tree_10 (by decide) ?_
      exact xr_ireturn C E rfl dX1_tree_14 ⟨rfl, Or.inl ⟨by decide, xin_of' (N := 3) (by decide) h1 h2⟩⟩
theorem m1_point (p : Int32) : xMi l D (xT cB cI cS) yX1_point cX1_point 2 .boolean ({ frames := 0, cells := 0, slots := 0, locals := 0 } : Room) [.ref (g 0), .int p] (x1w g cI sz ak nu lo hi) (fun r w => w = x1w g cI sz ak nu lo hi ∧ ((r = 1 ∧ xin p 65536) ∨ (r = 0 ∧ ¬ xin p 65536))) := by
  refine xMi_of 0 rfl rfl (Nat.le_of_ble_eq_true rfl) (fun K C E => ?_)
  refine xr_iload_n C dX1_point_0 rfl ?_
  refine xr_if_lt (tgt := 14) C dX1_point_1 (by decide) (fun h1 => ?_) (fun h1 => ?_)
  · refine xr_iconst (v := nI 0) C dX1_point_14 (by decide) ?_
    exact xr_ireturn C E rfl dX1_point_15 ⟨rfl, Or.inr ⟨by decide, xin_neg (by decide) h1⟩⟩
  · refine xr_iload_n C dX1_point_4 rfl ?_
    refine xr_ldc C q240 dX1_point_5 ?_
    refine xr_icmp_gt (tgt := 14) C dX1_point_7 (by decide) (fun h2 => ?_) (fun h2 => ?_)
    · refine xr_iconst (v := nI 0) C dX1_point_14 (by decide) ?_
      exact xr_ireturn C E rfl dX1_point_15 ⟨rfl, Or.inr ⟨by decide, xin_gt (N := 65535) (by decide) (nI_65535 ▸ h2)⟩⟩
    · refine xr_iconst (v := nI 1) C dX1_point_10 (by decide) ?_
      refine xr_goto (tgt := 15) C dX1_point_11 (by decide) ?_
      exact xr_ireturn C E rfl dX1_point_15 ⟨rfl, Or.inl ⟨by decide, xin_of' (N := 65535) (by decide) h1 (nI_65535 ▸ h2)⟩⟩
theorem m1_with (p : Int32) (f v : Nat) : xMi l D (xT cB cI cS) yX1_with cX1_with 4 .int ({ frames := 0, cells := 0, slots := 0, locals := 0 } : Room) [.ref (g 0), .int p, .int (nI f), .int (nI v)] (x1w g cI sz ak nu lo hi) (fun r w => w = x1w g cI sz ak nu lo hi ∧ r = wfI p f v) := by
  refine xMi_of 0 rfl rfl (Nat.le_of_ble_eq_true rfl) (fun K C E => ?_)
  refine xr_iload_n C dX1_with_0 rfl ?_
  refine xr_bipush (v := nI 15) C dX1_with_1 (by decide) ?_
  refine xr_iconst (v := nI 4) C dX1_with_3 (by decide) ?_
  refine xr_iload_n C dX1_with_4 rfl ?_
  refine xr_imulN C dX1_with_5 ?_
  refine xr_ishl C dX1_with_6 ?_
  refine xr_iconst (v := (-1)) C dX1_with_7 (by decide) ?_
  refine xr_ixor C dX1_with_8 ?_
  refine xr_iand C dX1_with_9 ?_
  refine xr_iload_n C dX1_with_10 rfl ?_
  refine xr_iconst (v := nI 4) C dX1_with_11 (by decide) ?_
  refine xr_iload_n C dX1_with_12 rfl ?_
  refine xr_imulN C dX1_with_13 ?_
  refine xr_ishl C dX1_with_14 ?_
  refine xr_ior C dX1_with_15 ?_
  exact xr_ireturn C E rfl dX1_with_16 ⟨rfl, rfl⟩
/-- find -/
theorem m1_find (h : r1 τ sz ak nu) (p1 p2 : Int32) : xMi l D (xT cB cI cS) yX1_find cX1_find 5 .int ({ frames := 1, cells := 0, slots := 0, locals := 21 } : Room) [.ref (g 0), .int p1, .int p2] (x1w g cI sz ak nu lo hi) (fun r w => w = x1w g cI sz ak nu lo hi ∧ ((¬ xlf (fun t => nl (τ t)) p1 p2 ∧ r = -1) ∨ ∃ t i, t < 4 ∧ i < nl (τ t) ∧ p1 = nI t ∧ p2 = nI i ∧ r = nI (posT (τ t) i))) := by
  refine xMi_of 2 rfl rfl (Nat.le_of_ble_eq_true rfl) (fun K C E => ?_)
  refine xr_iconst (v := nI 0) C dX1_find_0 (by decide) ?_
  refine xr_istore_n C dX1_find_1 (by decide) rfl ?_
  refine xr_iconst (v := nI 0) C dX1_find_2 (by decide) ?_
  refine xr_istore C dX1_find_3 (by decide) rfl ?_
  by_cases hv : xin p1 4
  · obtain ⟨t, ht, rfl⟩ := hv
    obtain ⟨s1, s2, s3, s4⟩ := r1_sz h ht
    obtain ⟨e1, e2, e3, e4⟩ := h t ht
    suffices H : ∀ m p : Nat, p + m = sz t → (∀ j, j < p → ak (15 * t + j) < 0 → p2 ≠ nI (lct ak (15 * t) j)) → xW l ({ frames := 1, cells := 0, slots := 0, locals := 21 } : Room) D 5 K (x1w g cI sz ak nu lo hi) [some (.ref (g 0)), some (.int (nI t)), some (.int p2), some (.int (nI (lct ak (15 * t) p))), some (.int (nI p))] 5 [] by
      exact H (sz t) 0 (by omega) (fun j hj => absurd hj (Nat.not_lt_zero j))
    intro m
    induction m with
    | zero =>
      intro p hpm hno
      refine xr_aload_n C dX1_find_5 rfl ?_
      refine xr_iload_n C dX1_find_6 rfl ?_
      refine xr_callWi C (m1_tree (nI t)) (cw1_tree ⟨by decide, by decide⟩) 0 rfl rfl rfl rfl (Nat.le_of_ble_eq_true rfl) dX1_find_7 (fun r w hw1 => ?_)
      obtain ⟨rfl, hw1⟩ := hw1
      rcases hw1 with ⟨rfl, -⟩ | ⟨rfl, hn⟩
      · refine xr_ifF_eq (tgt := 56) C (by decide) dX1_find_10 (by decide) ?_
        refine xr_iload C dX1_find_13 rfl ?_
        refine xr_aload_n C dX1_find_15 rfl ?_
        refine x1g_7 C 0 rfl rfl dX1_find_16 ?_
        refine xr_iload_n C dX1_find_19 rfl ?_
        refine xr_ialdN C 1 1 rfl rfl (by omega) (by decide) dX1_find_20 ?_
        refine xr_icmp_geN (tgt := 56) C (by omega) (by omega) dX1_find_21 (by decide) (fun hc => ?_) (fun hc => ?_)
        · refine xr_iconst (v := (-1)) C dX1_find_56 (by decide) ?_
          exact xr_ireturn C E rfl dX1_find_57 ⟨rfl, Or.inl ⟨fun ⟨t', i, h1, h2, h3, h4⟩ => by
            have := nI_inj (by omega) (by omega) h3
            subst this
            have hp := hold_pos (τ t) 0 i e3 e2 h2
            rw [Nat.zero_add] at hp
            have hlt := posT_lt (τ t) i
            exact hno (posT (τ t) i) (by omega) (by rw [hp.1]; exact nI_neg1) (by rw [hp.2.2]; show p2 = nI (0 + i); rw [Nat.zero_add]; exact h4), rfl⟩⟩
        · omega
      · exact absurd ⟨t, ht, rfl⟩ hn
    | succ m ih =>
      intro p hpm hno
      refine xr_aload_n C dX1_find_5 rfl ?_
      refine xr_iload_n C dX1_find_6 rfl ?_
      refine xr_callWi C (m1_tree (nI t)) (cw1_tree ⟨by decide, by decide⟩) 0 rfl rfl rfl rfl (Nat.le_of_ble_eq_true rfl) dX1_find_7 (fun r w hw1 => ?_)
      obtain ⟨rfl, hw1⟩ := hw1
      rcases hw1 with ⟨rfl, -⟩ | ⟨rfl, hn⟩
      · refine xr_ifF_eq (tgt := 56) C (by decide) dX1_find_10 (by decide) ?_
        refine xr_iload C dX1_find_13 rfl ?_
        refine xr_aload_n C dX1_find_15 rfl ?_
        refine x1g_7 C 0 rfl rfl dX1_find_16 ?_
        refine xr_iload_n C dX1_find_19 rfl ?_
        refine xr_ialdN C 1 1 rfl rfl (by omega) (by decide) dX1_find_20 ?_
        refine xr_icmp_geN (tgt := 56) C (by omega) (by omega) dX1_find_21 (by decide) (fun hc => ?_) (fun hc => ?_)
        · omega
        · refine xr_aload_n C dX1_find_24 rfl ?_
          refine x1g_13 C 0 rfl rfl dX1_find_25 ?_
          refine xr_bipush (v := nI 15) C dX1_find_28 (by decide) ?_
          refine xr_iload_n C dX1_find_30 rfl ?_
          refine xr_imulN C dX1_find_31 ?_
          refine xr_iload C dX1_find_32 rfl ?_
          refine xr_iaddN C dX1_find_34 ?_
          refine xr_iald C 2 1 rfl rfl (by omega) (by decide) dX1_find_35 ?_
          refine xr_if_ge (tgt := 50) C dX1_find_36 (by decide) (fun h1 => ?_) (fun h1 => ?_)
          · refine xr_iinc1 C dX1_find_50 rfl (by decide) rfl ?_
            refine xr_goto (tgt := 5) C dX1_find_53 (by decide) ?_
            have e : lct ak (15 * t) (p + 1) = lct ak (15 * t) p := by
              rw [lct_succ, if_neg (Int32.not_lt.mpr h1), Nat.add_zero]
            have ih := ih (p + 1) (by omega) (fun j hj hjn => by
              by_cases hjp : j = p
              · subst hjp; exact absurd hjn (Int32.not_lt.mpr h1)
              · exact hno j (by omega) hjn)
            rw [e] at ih
            exact ih
          · have h1 : ak (15 * t + p) < 0 := Int32.not_le.mp h1
            have e : lct ak (15 * t) (p + 1) = lct ak (15 * t) p + 1 := by
              rw [lct_succ, if_pos h1]
            refine xr_iload_n C dX1_find_39 rfl ?_
            refine xr_iload_n C dX1_find_40 rfl ?_
            refine xr_icmp_ne (tgt := 47) C dX1_find_41 (by decide) (fun h2 => ?_) (fun h2 => ?_)
            · refine xr_iinc1 C dX1_find_47 rfl (by decide) rfl ?_
              refine xr_iinc1 C dX1_find_50 rfl (by decide) rfl ?_
              refine xr_goto (tgt := 5) C dX1_find_53 (by decide) ?_
              have ih := ih (p + 1) (by omega) (fun j hj hjn => by
                by_cases hjp : j = p
                · subst hjp; exact fun q => h2 q.symm
                · exact hno j (by omega) hjn)
              rw [e] at ih
              exact ih
            · refine xr_iload C dX1_find_44 rfl ?_
              have hcn := hold_cnt (τ t) 0 e3 e2
              have hlt2 := lct_lt (q := sz t) hc h1
              rw [e1] at hlt2
              rw [Nat.zero_add] at hcn
              have z0 : lct ak (15 * t) 0 = 0 := rfl
              have hil : lct ak (15 * t) p < nl (τ t) := by omega
              have hp := hold_pos (τ t) 0 _ e3 e2 hil
              rw [Nat.zero_add, z0, Nat.zero_add] at hp
              have hpp := lct_inj (p := p) h1 (by rw [hp.1]; exact nI_neg1) hp.2.2.symm
              exact xr_ireturn C E rfl dX1_find_46 ⟨rfl, Or.inr ⟨t, _, ht, hil, rfl, h2.symm, congrArg nI hpp⟩⟩
      · exact absurd ⟨t, ht, rfl⟩ hn
  · refine xr_aload_n C dX1_find_5 rfl ?_
    refine xr_iload_n C dX1_find_6 rfl ?_
    refine xr_callWi C (m1_tree p1) (cw1_tree ⟨by decide, by decide⟩) 0 rfl rfl rfl rfl (Nat.le_of_ble_eq_true rfl) dX1_find_7 (fun r w hw1 => ?_)
    obtain ⟨rfl, hw1⟩ := hw1
    rcases hw1 with ⟨rfl, hy⟩ | ⟨rfl, hn⟩
    · exact absurd hy hv
    · refine xr_ifT_eq (tgt := 56) C rfl dX1_find_10 (by decide) ?_
      refine xr_iconst (v := (-1)) C dX1_find_56 (by decide) ?_
      exact xr_ireturn C E rfl dX1_find_57 ⟨rfl, Or.inl ⟨fun ⟨t, i, h1, h2, h3, h4⟩ => hv ⟨t, h1, h3⟩, rfl⟩⟩
theorem m1_leaves (h : r1 τ sz ak nu) (p1 : Int32) : xMi l D (xT cB cI cS) yX1_leaves cX1_leaves 2 .int ({ frames := 1, cells := 0, slots := 0, locals := 21 } : Room) [.ref (g 0), .int p1] (x1w g cI sz ak nu lo hi) (fun r w => w = x1w g cI sz ak nu lo hi ∧ ((¬ xin p1 4 ∧ r = -1) ∨ ∃ t, t < 4 ∧ p1 = nI t ∧ r = nI (nl (τ t)))) := by
  refine xMi_of 0 rfl rfl (Nat.le_of_ble_eq_true rfl) (fun K C E => ?_)
  refine xr_aload_n C dX1_leaves_0 rfl ?_
  refine xr_iload_n C dX1_leaves_1 rfl ?_
  refine xr_callWi C (m1_tree p1) (cw1_tree ⟨by decide, by decide⟩) 0 rfl rfl rfl rfl (Nat.le_of_ble_eq_true rfl) dX1_leaves_2 (fun r w hw1 => ?_)
  obtain ⟨rfl, hw1⟩ := hw1
  rcases hw1 with ⟨rfl, t, ht, rfl⟩ | ⟨rfl, hn⟩
  · obtain ⟨s1, s2, s3, s4⟩ := r1_sz h ht
    refine xr_ifF_eq (tgt := 21) C (by decide) dX1_leaves_5 (by decide) ?_
    refine xr_aload_n C dX1_leaves_8 rfl ?_
    refine x1g_7 C 0 rfl rfl dX1_leaves_9 ?_
    refine xr_iload_n C dX1_leaves_12 rfl ?_
    refine xr_ialdN C 1 1 rfl rfl (by omega) (by decide) dX1_leaves_13 ?_
    refine xr_iconst (v := nI 1) C dX1_leaves_14 (by decide) ?_
    refine xr_iaddN C dX1_leaves_15 ?_
    refine xr_iconst (v := nI 2) C dX1_leaves_16 (by decide) ?_
    refine xr_idivN C (by omega) (by omega) (by omega) dX1_leaves_17 ?_
    refine xr_goto (tgt := 22) C dX1_leaves_18 (by decide) ?_
    exact xr_ireturn C E rfl dX1_leaves_22 ⟨rfl, Or.inr ⟨t, ht, rfl, congrArg nI (by omega)⟩⟩
  · refine xr_ifT_eq (tgt := 21) C rfl dX1_leaves_5 (by decide) ?_
    refine xr_iconst (v := (-1)) C dX1_leaves_21 (by decide) ?_
    exact xr_ireturn C E rfl dX1_leaves_22 ⟨rfl, Or.inl ⟨hn, rfl⟩⟩
theorem m1_value (h : r1 τ sz ak nu) (p1 p2 : Int32) : xMi l D (xT cB cI cS) yX1_value cX1_value 4 .int ({ frames := 2, cells := 0, slots := 0, locals := 45 } : Room) [.ref (g 0), .int p1, .int p2] (x1w g cI sz ak nu lo hi) (fun r w => w = x1w g cI sz ak nu lo hi ∧ ((¬ xlf (fun t => nl (τ t)) p1 p2 ∧ r = nI 0) ∨ ∃ t i, t < 4 ∧ i < nl (τ t) ∧ p1 = nI t ∧ p2 = nI i ∧ r = valT (τ t) i)) := by
  refine xMi_of 1 rfl rfl (Nat.le_of_ble_eq_true rfl) (fun K C E => ?_)
  refine xr_aload_n C dX1_value_0 rfl ?_
  refine xr_iload_n C dX1_value_1 rfl ?_
  refine xr_iload_n C dX1_value_2 rfl ?_
  refine xr_callWi C (m1_find h p1 p2) (cw1_find ⟨by decide, by decide⟩) 0 rfl rfl rfl rfl (Nat.le_of_ble_eq_true rfl) dX1_value_3 (fun r w hw1 => ?_)
  obtain ⟨rfl, hw1⟩ := hw1
  rcases hw1 with ⟨hn, rfl⟩ | ⟨t, i, ht, hi1, rfl, rfl, rfl⟩
  · refine xr_istore_n C dX1_value_6 (by decide) rfl ?_
    refine xr_iload_n C dX1_value_7 rfl ?_
    refine xr_ifF_ge (tgt := 15) C (by decide) dX1_value_8 (by decide) ?_
    refine xr_iconst (v := nI 0) C dX1_value_11 (by decide) ?_
    refine xr_goto (tgt := 26) C dX1_value_12 (by decide) ?_
    exact xr_ireturn C E rfl dX1_value_26 ⟨rfl, Or.inl ⟨hn, rfl⟩⟩
  · obtain ⟨s1, s2, s3, s4⟩ := r1_sz h ht
    obtain ⟨e1, e2, e3, e4⟩ := h t ht
    have hlt := posT_lt (τ t) i
    have hp := hold_pos (τ t) 0 i e3 e2 hi1
    rw [Nat.zero_add] at hp
    refine xr_istore_n C dX1_value_6 (by decide) rfl ?_
    refine xr_iload_n C dX1_value_7 rfl ?_
    refine xr_ifT_ge (tgt := 15) C (nI_pos' (by omega)) dX1_value_8 (by decide) ?_
    refine xr_aload_n C dX1_value_15 rfl ?_
    refine x1g_16 C 0 rfl rfl dX1_value_16 ?_
    refine xr_bipush (v := nI 15) C dX1_value_19 (by decide) ?_
    refine xr_iload_n C dX1_value_21 rfl ?_
    refine xr_imulN C dX1_value_22 ?_
    refine xr_iload_n C dX1_value_23 rfl ?_
    refine xr_iaddN C dX1_value_24 ?_
    refine xr_iald C 3 1 rfl rfl (by omega) (by decide) dX1_value_25 ?_
    exact xr_ireturn C E rfl dX1_value_26 ⟨rfl, Or.inr ⟨t, i, ht, hi1, rfl, rfl, hp.2.1⟩⟩
theorem m1_setValue (h : r1 τ sz ak nu) (p1 p2 v : Int32) : xMi l D (xT cB cI cS) yX1_setValue cX1_setValue 5 .boolean ({ frames := 2, cells := 0, slots := 0, locals := 45 } : Room) [.ref (g 0), .int p1, .int p2, .int v] (x1w g cI sz ak nu lo hi) (fun r w => (¬ xlf (fun t => nl (τ t)) p1 p2 ∧ r = 0 ∧ w = x1w g cI sz ak nu lo hi) ∨ ∃ t i, t < 4 ∧ i < nl (τ t) ∧ p1 = nI t ∧ p2 = nI i ∧ r = 1 ∧ ∃ nu', r1 (va_up τ t (setT (τ t) i v)) sz ak nu' ∧ w = x1w g cI sz ak nu' lo hi) := by
  refine xMi_of 1 rfl rfl (Nat.le_of_ble_eq_true rfl) (fun K C E => ?_)
  refine xr_aload_n C dX1_setValue_0 rfl ?_
  refine xr_iload_n C dX1_setValue_1 rfl ?_
  refine xr_iload_n C dX1_setValue_2 rfl ?_
  refine xr_callWi C (m1_find h p1 p2) (cw1_find ⟨by decide, by decide⟩) 0 rfl rfl rfl rfl (Nat.le_of_ble_eq_true rfl) dX1_setValue_3 (fun r w hw1 => ?_)
  obtain ⟨rfl, hw1⟩ := hw1
  rcases hw1 with ⟨hn, rfl⟩ | ⟨t, i, ht, hi1, rfl, rfl, rfl⟩
  · refine xr_istore C dX1_setValue_6 (by decide) rfl ?_
    refine xr_iload C dX1_setValue_8 rfl ?_
    refine xr_ifF_ge (tgt := 15) C (by decide) dX1_setValue_10 (by decide) ?_
    refine xr_iconst (v := nI 0) C dX1_setValue_13 (by decide) ?_
    exact xr_ireturn C E rfl dX1_setValue_14 (Or.inl ⟨hn, by decide, rfl⟩)
  · obtain ⟨s1, s2, s3, s4⟩ := r1_sz h ht
    have e1 := (h t ht).1
    have hlt := posT_lt (τ t) i
    refine xr_istore C dX1_setValue_6 (by decide) rfl ?_
    refine xr_iload C dX1_setValue_8 rfl ?_
    refine xr_ifT_ge (tgt := 15) C (nI_pos' (by omega)) dX1_setValue_10 (by decide) ?_
    refine xr_aload_n C dX1_setValue_15 rfl ?_
    refine x1g_16 C 0 rfl rfl dX1_setValue_16 ?_
    refine xr_bipush (v := nI 15) C dX1_setValue_19 (by decide) ?_
    refine xr_iload_n C dX1_setValue_21 rfl ?_
    refine xr_imulN C dX1_setValue_22 ?_
    refine xr_iload C dX1_setValue_23 rfl ?_
    refine xr_iaddN C dX1_setValue_25 ?_
    refine xr_iload_n C dX1_setValue_26 rfl ?_
    refine xr_iast C 3 1 rfl rfl (by omega) (by decide) rfl dX1_setValue_27 ?_
    refine xr_iconst (v := nI 1) C dX1_setValue_28 (by decide) ?_
    exact xr_ireturn C E rfl dX1_setValue_29 (Or.inr ⟨t, i, ht, hi1, rfl, rfl, by decide, _, r1_set h v ht hi1, rfl⟩)
theorem m1_clear (h : r1 τ sz ak nu) (p1 : Int32) : xMi l D (xT cB cI cS) yX1_clear cX1_clear 2 .boolean ({ frames := 1, cells := 0, slots := 0, locals := 21 } : Room) [.ref (g 0), .int p1] (x1w g cI sz ak nu lo hi) (fun r w => (¬ xin p1 4 ∧ r = 0 ∧ w = x1w g cI sz ak nu lo hi) ∨ ∃ t, t < 4 ∧ p1 = nI t ∧ r = 1 ∧ ∃ sz' ak' nu', r1 (va_up τ t (.leaf 0)) sz' ak' nu' ∧ w = x1w g cI sz' ak' nu' lo hi) := by
  refine xMi_of 0 rfl rfl (Nat.le_of_ble_eq_true rfl) (fun K C E => ?_)
  refine xr_aload_n C dX1_clear_0 rfl ?_
  refine xr_iload_n C dX1_clear_1 rfl ?_
  refine xr_callWi C (m1_tree p1) (cw1_tree ⟨by decide, by decide⟩) 0 rfl rfl rfl rfl (Nat.le_of_ble_eq_true rfl) dX1_clear_2 (fun r w hw1 => ?_)
  obtain ⟨rfl, hw1⟩ := hw1
  rcases hw1 with ⟨rfl, t, ht, rfl⟩ | ⟨rfl, hn⟩
  · refine xr_ifT_ne (tgt := 10) C (by decide) dX1_clear_5 (by decide) ?_
    refine xr_aload_n C dX1_clear_10 rfl ?_
    refine x1g_7 C 0 rfl rfl dX1_clear_11 ?_
    refine xr_iload_n C dX1_clear_14 rfl ?_
    refine xr_iconst (v := nI 1) C dX1_clear_15 (by decide) ?_
    refine xr_iastN C 1 1 rfl rfl (by omega) (by decide) rfl dX1_clear_16 ?_
    refine xr_aload_n C dX1_clear_17 rfl ?_
    refine x1g_13 C 0 rfl rfl dX1_clear_18 ?_
    refine xr_bipush (v := nI 15) C dX1_clear_21 (by decide) ?_
    refine xr_iload_n C dX1_clear_23 rfl ?_
    refine xr_imulN C dX1_clear_24 ?_
    refine xr_iconst (v := (-1)) C dX1_clear_25 (by decide) ?_
    refine xr_iast C 2 1 rfl rfl (by omega) (by decide) rfl dX1_clear_26 ?_
    refine xr_aload_n C dX1_clear_27 rfl ?_
    refine x1g_16 C 0 rfl rfl dX1_clear_28 ?_
    refine xr_bipush (v := nI 15) C dX1_clear_31 (by decide) ?_
    refine xr_iload_n C dX1_clear_33 rfl ?_
    refine xr_imulN C dX1_clear_34 ?_
    refine xr_iconst (v := nI 0) C dX1_clear_35 (by decide) ?_
    refine xr_iast C 3 1 rfl rfl (by omega) (by decide) rfl dX1_clear_36 ?_
    refine xr_iconst (v := nI 1) C dX1_clear_37 (by decide) ?_
    exact xr_ireturn C E rfl dX1_clear_38 (Or.inr ⟨t, ht, rfl, by decide, _, _, _, r1_clear h ht, rfl⟩)
  · refine xr_ifF_ne (tgt := 10) C rfl dX1_clear_5 (by decide) ?_
    refine xr_iconst (v := nI 0) C dX1_clear_8 (by decide) ?_
    exact xr_ireturn C E rfl dX1_clear_9 (Or.inl ⟨hn, by decide, rfl⟩)
/-- split -/
theorem m1_split (h : r1 τ sz ak nu) (p1 p2 p3 p4 : Int32) : xMi l D (xT cB cI cS) yX1_split cX1_split 7 .int ({ frames := 2, cells := 0, slots := 0, locals := 45 } : Room) [.ref (g 0), .int p1, .int p2, .int p3, .int p4] (x1w g cI sz ak nu lo hi)
    (fun r w => (¬ (xlf (fun t => nl (τ t)) p1 p2 ∧ xin p3 4 ∧ xin p4 16) ∧ r = -1 ∧ w = x1w g cI sz ak nu lo hi) ∨ ∃ t i f lim : Nat, t < 4 ∧ i < nl (τ t) ∧ f < 4 ∧ lim < 16 ∧ p1 = nI t ∧ p2 = nI i ∧ p3 = nI f ∧ p4 = nI lim ∧
      ((nl (τ t) = 8 ∧ r = -2 ∧ w = x1w g cI sz ak nu lo hi) ∨ (nl (τ t) < 8 ∧ r = nI (nl (τ t) + 1) ∧ ∃ sz' ak' nu', r1 (va_up τ t (splT (τ t) i (16 * f + lim))) sz' ak' nu' ∧ w = x1w g cI sz' ak' nu' lo hi))) := by
  refine xMi_of 2 rfl rfl (Nat.le_of_ble_eq_true rfl) (fun K C E => ?_)
  refine xr_aload_n C dX1_split_0 rfl ?_
  refine xr_iload_n C dX1_split_1 rfl ?_
  refine xr_iload_n C dX1_split_2 rfl ?_
  refine xr_callWi C (m1_find h p1 p2) (cw1_find ⟨by decide, by decide⟩) 0 rfl rfl rfl rfl (Nat.le_of_ble_eq_true rfl) dX1_split_3 (fun r w hw1 => ?_)
  obtain ⟨rfl, hw1⟩ := hw1
  rcases hw1 with ⟨hn, rfl⟩ | ⟨t, i, ht, hi1, rfl, rfl, rfl⟩
  · refine xr_istore C dX1_split_6 (by decide) rfl ?_
    refine xr_iload C dX1_split_8 rfl ?_
    refine xr_ifT_lt (tgt := 34) C (by decide) dX1_split_10 (by decide) ?_
    refine xr_iconst (v := (-1)) C dX1_split_34 (by decide) ?_
    exact xr_ireturn C E rfl dX1_split_35 (Or.inl ⟨fun h => hn h.1, rfl, rfl⟩)
  · obtain ⟨s1, s2, s3, s4⟩ := r1_sz h ht
    have e1 := (h t ht).1
    have hlt := posT_lt (τ t) i
    refine xr_istore C dX1_split_6 (by decide) rfl ?_
    refine xr_iload C dX1_split_8 rfl ?_
    refine xr_ifF_lt (tgt := 34) C (nI_pos (by omega)) dX1_split_10 (by decide) ?_
    refine xr_iload_n C dX1_split_13 rfl ?_
    refine xr_if_lt (tgt := 34) C dX1_split_14 (by decide) (fun h1 => ?_) (fun h1 => ?_)
    · refine xr_iconst (v := (-1)) C dX1_split_34 (by decide) ?_
      exact xr_ireturn C E rfl dX1_split_35 (Or.inl ⟨fun h => xin_neg (by decide) h1 h.2.1, rfl, rfl⟩)
    · refine xr_iload_n C dX1_split_17 rfl ?_
      refine xr_iconst (v := nI 3) C dX1_split_18 (by decide) ?_
      refine xr_icmp_gt (tgt := 34) C dX1_split_19 (by decide) (fun h2 => ?_) (fun h2 => ?_)
      · refine xr_iconst (v := (-1)) C dX1_split_34 (by decide) ?_
        exact xr_ireturn C E rfl dX1_split_35 (Or.inl ⟨fun h => xin_gt (N := 3) (by decide) h2 h.2.1, rfl, rfl⟩)
      · obtain ⟨f, hf, rfl⟩ := xin_of' (N := 3) (by decide) h1 h2
        refine xr_iload C dX1_split_22 rfl ?_
        refine xr_if_lt (tgt := 34) C dX1_split_24 (by decide) (fun h3 => ?_) (fun h3 => ?_)
        · refine xr_iconst (v := (-1)) C dX1_split_34 (by decide) ?_
          exact xr_ireturn C E rfl dX1_split_35 (Or.inl ⟨fun h => xin_neg (by decide) h3 h.2.2, rfl, rfl⟩)
        · obtain ⟨lim, hlim, rfl⟩ := nI_of h3
          refine xr_iload C dX1_split_27 rfl ?_
          refine xr_bipush (v := nI 15) C dX1_split_29 (by decide) ?_
          refine xr_icmp_leN (tgt := 36) C (by omega) (by omega) dX1_split_31 (by decide) (fun h4 => ?_) (fun h4 => ?_)
          · refine xr_aload_n C dX1_split_36 rfl ?_
            refine x1g_7 C 0 rfl rfl dX1_split_37 ?_
            refine xr_iload_n C dX1_split_40 rfl ?_
            refine xr_ialdN C 1 1 rfl rfl (by omega) (by decide) dX1_split_41 ?_
            refine xr_bipush (v := nI 15) C dX1_split_42 (by decide) ?_
            refine xr_icmp_ltN (tgt := 50) C (by omega) (by omega) dX1_split_44 (by decide) (fun h5 => ?_) (fun h5 => ?_)
            · refine xr_aload_n C dX1_split_50 rfl ?_
              refine x1g_7 C 0 rfl rfl dX1_split_51 ?_
              refine xr_iload_n C dX1_split_54 rfl ?_
              refine xr_ialdN C 1 1 rfl rfl (by omega) (by decide) dX1_split_55 ?_
              refine xr_iconst (v := nI 1) C dX1_split_56 (by decide) ?_
              refine xr_isubN C (by omega) dX1_split_57 ?_
              refine xr_istore C dX1_split_58 (by decide) rfl ?_
              generalize hq : posT (τ t) i = q at hlt ⊢
              suffices H : ∀ d k : Nat, k = q + d → k ≤ sz t - 1 → xW l ({ frames := 2, cells := 0, slots := 0, locals := 45 } : Room) D 7 K (x1w g cI sz (shW ak (15 * t) k (sz t - 1)) (shW nu (15 * t) k (sz t - 1)) lo hi) [some (.ref (g 0)), some (.int (nI t)), some (.int (nI i)), some (.int (nI f)), some (.int (nI lim)), some (.int (nI q)), some (.int (nI k))] 60 [] by
                have := H (sz t - 1 - q) (sz t - 1) (by omega) (Nat.le_refl _)
                rw [shW_0, shW_0] at this
                exact this
              intro d
              induction d with
              | zero =>
                intro k hk hk2
                have : k = q := by omega
                subst this
                refine xr_iload C dX1_split_60 rfl ?_
                refine xr_iload C dX1_split_62 rfl ?_
                refine xr_icmp_leN (tgt := 125) C (by omega) (by omega) dX1_split_64 (by decide) (fun hc => ?_) (fun hc => ?_)
                · have hr := r1_split h (i := i) (f := f) (lim := lim) ht hi1 (by omega) hf (by omega) hq.symm
                  refine xr_aload_n C dX1_split_125 rfl ?_
                  refine x1g_13 C 0 rfl rfl dX1_split_126 ?_
                  refine xr_bipush (v := nI 15) C dX1_split_129 (by decide) ?_
                  refine xr_iload_n C dX1_split_131 rfl ?_
                  refine xr_imulN C dX1_split_132 ?_
                  refine xr_iload C dX1_split_133 rfl ?_
                  refine xr_iaddN C dX1_split_135 ?_
                  refine xr_iconst (v := nI 1) C dX1_split_136 (by decide) ?_
                  refine xr_iaddN C dX1_split_137 ?_
                  refine xr_iconst (v := (-1)) C dX1_split_138 (by decide) ?_
                  refine xr_iast C 2 1 rfl rfl (by omega) (by decide) rfl dX1_split_139 ?_
                  refine xr_aload_n C dX1_split_140 rfl ?_
                  refine x1g_16 C 0 rfl rfl dX1_split_141 ?_
                  refine xr_bipush (v := nI 15) C dX1_split_144 (by decide) ?_
                  refine xr_iload_n C dX1_split_146 rfl ?_
                  refine xr_imulN C dX1_split_147 ?_
                  refine xr_iload C dX1_split_148 rfl ?_
                  refine xr_iaddN C dX1_split_150 ?_
                  refine xr_iconst (v := nI 1) C dX1_split_151 (by decide) ?_
                  refine xr_iaddN C dX1_split_152 ?_
                  refine xr_aload_n C dX1_split_153 rfl ?_
                  refine x1g_16 C 0 rfl rfl dX1_split_154 ?_
                  refine xr_bipush (v := nI 15) C dX1_split_157 (by decide) ?_
                  refine xr_iload_n C dX1_split_159 rfl ?_
                  refine xr_imulN C dX1_split_160 ?_
                  refine xr_iload C dX1_split_161 rfl ?_
                  refine xr_iaddN C dX1_split_163 ?_
                  refine xr_iald C 3 1 rfl rfl (by omega) (by decide) dX1_split_164 ?_
                  rw [shW_at]
                  refine xr_iast C 3 1 rfl rfl (by omega) (by decide) rfl dX1_split_165 ?_
                  refine xr_aload_n C dX1_split_166 rfl ?_
                  refine x1g_13 C 0 rfl rfl dX1_split_167 ?_
                  refine xr_bipush (v := nI 15) C dX1_split_170 (by decide) ?_
                  refine xr_iload_n C dX1_split_172 rfl ?_
                  refine xr_imulN C dX1_split_173 ?_
                  refine xr_iload C dX1_split_174 rfl ?_
                  refine xr_iaddN C dX1_split_176 ?_
                  refine xr_iconst (v := nI 2) C dX1_split_177 (by decide) ?_
                  refine xr_iaddN C dX1_split_178 ?_
                  refine xr_iconst (v := (-1)) C dX1_split_179 (by decide) ?_
                  refine xr_iast C 2 1 rfl rfl (by omega) (by decide) rfl dX1_split_180 ?_
                  refine xr_aload_n C dX1_split_181 rfl ?_
                  refine x1g_16 C 0 rfl rfl dX1_split_182 ?_
                  refine xr_bipush (v := nI 15) C dX1_split_185 (by decide) ?_
                  refine xr_iload_n C dX1_split_187 rfl ?_
                  refine xr_imulN C dX1_split_188 ?_
                  refine xr_iload C dX1_split_189 rfl ?_
                  refine xr_iaddN C dX1_split_191 ?_
                  refine xr_iconst (v := nI 2) C dX1_split_192 (by decide) ?_
                  refine xr_iaddN C dX1_split_193 ?_
                  refine xr_iconst (v := nI 0) C dX1_split_194 (by decide) ?_
                  refine xr_iast C 3 1 rfl rfl (by omega) (by decide) rfl dX1_split_195 ?_
                  refine xr_aload_n C dX1_split_196 rfl ?_
                  refine x1g_13 C 0 rfl rfl dX1_split_197 ?_
                  refine xr_bipush (v := nI 15) C dX1_split_200 (by decide) ?_
                  refine xr_iload_n C dX1_split_202 rfl ?_
                  refine xr_imulN C dX1_split_203 ?_
                  refine xr_iload C dX1_split_204 rfl ?_
                  refine xr_iaddN C dX1_split_206 ?_
                  refine xr_iload_n C dX1_split_207 rfl ?_
                  refine xr_iast C 2 1 rfl rfl (by omega) (by decide) rfl dX1_split_208 ?_
                  refine xr_aload_n C dX1_split_209 rfl ?_
                  refine x1g_16 C 0 rfl rfl dX1_split_210 ?_
                  refine xr_bipush (v := nI 15) C dX1_split_213 (by decide) ?_
                  refine xr_iload_n C dX1_split_215 rfl ?_
                  refine xr_imulN C dX1_split_216 ?_
                  refine xr_iload C dX1_split_217 rfl ?_
                  refine xr_iaddN C dX1_split_219 ?_
                  refine xr_iload C dX1_split_220 rfl ?_
                  refine xr_iast C 3 1 rfl rfl (by omega) (by decide) rfl dX1_split_222 ?_
                  refine xr_aload_n C dX1_split_223 rfl ?_
                  refine x1g_7 C 0 rfl rfl dX1_split_224 ?_
                  refine xr_iload_n C dX1_split_227 rfl ?_
                  refine xr_aload_n C dX1_split_228 rfl ?_
                  refine x1g_7 C 0 rfl rfl dX1_split_229 ?_
                  refine xr_iload_n C dX1_split_232 rfl ?_
                  refine xr_ialdN C 1 1 rfl rfl (by omega) (by decide) dX1_split_233 ?_
                  refine xr_iconst (v := nI 2) C dX1_split_234 (by decide) ?_
                  refine xr_iaddN C dX1_split_235 ?_
                  refine xr_iastN C 1 1 rfl rfl (by omega) (by decide) rfl dX1_split_236 ?_
                  refine xr_aload_n C dX1_split_237 rfl ?_
                  refine xr_iload_n C dX1_split_238 rfl ?_
                  refine xr_ws (ws' := x1w g cI (va_up sz t (sz t + 2)) _ _ lo hi) rfl ?_
                  refine xr_callWi C (m1_leaves hr (nI t)) (cw1_leaves ⟨by decide, by decide⟩) 0 rfl rfl rfl rfl (Nat.le_of_ble_eq_true rfl) dX1_split_239 (fun r w hw1 => ?_)
                  obtain ⟨rfl, hw1⟩ := hw1
                  have en : nl (va_up τ t (splT (τ t) i (16 * f + lim)) t) = nl (τ t) + 1 := by
                    rw [show va_up τ t (splT (τ t) i (16 * f + lim)) t = splT (τ t) i (16 * f + lim) by simp [va_up], nl_spl]
                  rcases hw1 with ⟨hn, -⟩ | ⟨t', ht', e, rfl⟩
                  · exact absurd ⟨t, ht, rfl⟩ hn
                  · have := nI_inj (by omega) (by omega) e
                    subst this
                    exact xr_ireturn C E rfl dX1_split_242 (Or.inr ⟨t, i, f, lim, ht, hi1, hf, by omega, rfl, rfl, rfl, rfl, Or.inr ⟨by omega, by rw [en], _, _, _, hr, rfl⟩⟩)
                · omega
              | succ d ih =>
                intro k hk hk2
                refine xr_iload C dX1_split_60 rfl ?_
                refine xr_iload C dX1_split_62 rfl ?_
                refine xr_icmp_leN (tgt := 125) C (by omega) (by omega) dX1_split_64 (by decide) (fun hc => ?_) (fun hc => ?_)
                · omega
                · refine xr_aload_n C dX1_split_67 rfl ?_
                  refine x1g_13 C 0 rfl rfl dX1_split_68 ?_
                  refine xr_bipush (v := nI 15) C dX1_split_71 (by decide) ?_
                  refine xr_iload_n C dX1_split_73 rfl ?_
                  refine xr_imulN C dX1_split_74 ?_
                  refine xr_iload C dX1_split_75 rfl ?_
                  refine xr_iaddN C dX1_split_77 ?_
                  refine xr_iconst (v := nI 2) C dX1_split_78 (by decide) ?_
                  refine xr_iaddN C dX1_split_79 ?_
                  refine xr_aload_n C dX1_split_80 rfl ?_
                  refine x1g_13 C 0 rfl rfl dX1_split_81 ?_
                  refine xr_bipush (v := nI 15) C dX1_split_84 (by decide) ?_
                  refine xr_iload_n C dX1_split_86 rfl ?_
                  refine xr_imulN C dX1_split_87 ?_
                  refine xr_iload C dX1_split_88 rfl ?_
                  refine xr_iaddN C dX1_split_90 ?_
                  refine xr_iald C 2 1 rfl rfl (by omega) (by decide) dX1_split_91 ?_
                  rw [shW_at]
                  refine xr_iast C 2 1 rfl rfl (by omega) (by decide) rfl dX1_split_92 ?_
                  refine xr_aload_n C dX1_split_93 rfl ?_
                  refine x1g_16 C 0 rfl rfl dX1_split_94 ?_
                  refine xr_bipush (v := nI 15) C dX1_split_97 (by decide) ?_
                  refine xr_iload_n C dX1_split_99 rfl ?_
                  refine xr_imulN C dX1_split_100 ?_
                  refine xr_iload C dX1_split_101 rfl ?_
                  refine xr_iaddN C dX1_split_103 ?_
                  refine xr_iconst (v := nI 2) C dX1_split_104 (by decide) ?_
                  refine xr_iaddN C dX1_split_105 ?_
                  refine xr_aload_n C dX1_split_106 rfl ?_
                  refine x1g_16 C 0 rfl rfl dX1_split_107 ?_
                  refine xr_bipush (v := nI 15) C dX1_split_110 (by decide) ?_
                  refine xr_iload_n C dX1_split_112 rfl ?_
                  refine xr_imulN C dX1_split_113 ?_
                  refine xr_iload C dX1_split_114 rfl ?_
                  refine xr_iaddN C dX1_split_116 ?_
                  refine xr_iald C 3 1 rfl rfl (by omega) (by decide) dX1_split_117 ?_
                  rw [shW_at]
                  refine xr_iast C 3 1 rfl rfl (by omega) (by decide) rfl dX1_split_118 ?_
                  refine xr_iincM C (by omega) dX1_split_119 rfl (by decide) rfl ?_
                  refine xr_goto (tgt := 60) C dX1_split_122 (by decide) ?_
                  refine xr_ws (ws' := x1w g cI sz (shW ak (15 * t) (k - 1) (sz t - 1)) (shW nu (15 * t) (k - 1) (sz t - 1)) lo hi) ?_ (ih (k - 1) (by omega) (by omega))
                  rw [← shW_step ak (15 * t) k (sz t - 1) (by omega) hk2, ← shW_step nu (15 * t) k (sz t - 1) (by omega) hk2]
                  rfl
            · refine xr_bipush (v := (-2)) C dX1_split_47 (by decide) ?_
              exact xr_ireturn C E rfl dX1_split_49 (Or.inr ⟨t, i, f, lim, ht, hi1, hf, by omega, rfl, rfl, rfl, rfl, Or.inl ⟨by omega, rfl, rfl⟩⟩)
          · refine xr_iconst (v := (-1)) C dX1_split_34 (by decide) ?_
            exact xr_ireturn C E rfl dX1_split_35 (Or.inl ⟨fun h => by
              obtain ⟨-, -, x, hx, e⟩ := h
              have := nI_inj (by omega) (by omega) e
              omega, rfl, rfl⟩)
end X1A
end
section
/-! TreeScorerModel: behind, walk, what is asked of points -/
set_option maxRecDepth 100000
def smT (val : Nat → Nat → Int32) (ex : Int32 → Nat → Nat) (p : Int32) : Nat → Int32
  | 0 => nI 0
  | t + 1 => smT val ex p t + val t (ex p t)
def dmT (τ : Nat → Tr) (p : Int32) : Nat → Nat
  | 0 => 0
  | t + 1 => dmT τ p t + dpT p (τ t)
section X1B
variable {l : Launch} {D : va_G} {g : Nat → Nat} {cB cI cS : ClassId} {sz : Nat → Nat} {ak nu : Nat → Int32} {lo hi : Nat → Nat} {τ : Nat → Tr}
/-- behind's loop over one part -/
theorem lp1_behind {K : xK} {R : Room} (C : xOk R D (xT cB cI cS) 5 K cX1_behind RX1) (t p0 : Nat) (ht : t < 4) :
    ∀ (T : Tr) (p o : Nat), okT T → hold ak nu (15 * t) T p → p + ln T ≤ 15 → o ≤ p →
      xW l R D 5 K (x1w g cI sz ak nu lo hi) [some (.ref (g 0)), some (.int (nI t)), some (.int (nI p0)), some (.int (nI o)), some (.int (nI (p + ln T)))] 5 [] →
      xW l R D 5 K (x1w g cI sz ak nu lo hi) [some (.ref (g 0)), some (.int (nI t)), some (.int (nI p0)), some (.int (nI (o + 1))), some (.int (nI p))] 5 [] := by
  intro T
  induction T with
  | leaf v =>
    intro p o hok hh hp ho hk
    have hp : p + 1 ≤ 15 := hp
    refine xr_iload_n C dX1_behind_5 rfl ?_
    refine xr_if_leN (tgt := 47) C (by omega) dX1_behind_6 (by decide) (fun hc => ?_) (fun hc => ?_)
    · omega
    · refine xr_iload C dX1_behind_9 rfl ?_
      refine xr_bipush (v := nI 15) C dX1_behind_11 (by decide) ?_
      refine xr_icmp_geN (tgt := 47) C (by omega) (by omega) dX1_behind_13 (by decide) (fun hc2 => ?_) (fun hc2 => ?_)
      · omega
      · refine xr_aload_n C dX1_behind_16 rfl ?_
        refine x1g_13 C 0 rfl rfl dX1_behind_17 ?_
        refine xr_bipush (v := nI 15) C dX1_behind_20 (by decide) ?_
        refine xr_iload_n C dX1_behind_22 rfl ?_
        refine xr_imulN C dX1_behind_23 ?_
        refine xr_iload C dX1_behind_24 rfl ?_
        refine xr_iaddN C dX1_behind_26 ?_
        refine xr_iald C 2 1 rfl rfl (by omega) (by decide) dX1_behind_27 ?_
        rw [hh.1]
        refine xr_ifF_ge (tgt := 37) C (by decide) dX1_behind_28 (by decide) ?_
        refine xr_iload_n C dX1_behind_31 rfl ?_
        refine xr_iconst (v := nI 1) C dX1_behind_32 (by decide) ?_
        refine xr_isubN C (by omega) dX1_behind_33 ?_
        refine xr_goto (tgt := 40) C dX1_behind_34 (by decide) ?_
        refine xr_istore_n C dX1_behind_40 (by decide) rfl ?_
        refine xr_iinc1 C dX1_behind_41 rfl (by decide) rfl ?_
        refine xr_goto (tgt := 5) C dX1_behind_44 (by decide) ?_
        exact hk
  | branch d a b iha ihb =>
    intro p o hok hh hp ho hk
    have hp : p + (1 + ln a + ln b) ≤ 15 := hp
    have hna := ln_nl a
    have hna1 := nl_pos a
    have hnb := ln_nl b
    have hnb1 := nl_pos b
    have hd := hok.1
    refine xr_iload_n C dX1_behind_5 rfl ?_
    refine xr_if_leN (tgt := 47) C (by omega) dX1_behind_6 (by decide) (fun hc => ?_) (fun hc => ?_)
    · omega
    · refine xr_iload C dX1_behind_9 rfl ?_
      refine xr_bipush (v := nI 15) C dX1_behind_11 (by decide) ?_
      refine xr_icmp_geN (tgt := 47) C (by omega) (by omega) dX1_behind_13 (by decide) (fun hc2 => ?_) (fun hc2 => ?_)
      · omega
      · refine xr_aload_n C dX1_behind_16 rfl ?_
        refine x1g_13 C 0 rfl rfl dX1_behind_17 ?_
        refine xr_bipush (v := nI 15) C dX1_behind_20 (by decide) ?_
        refine xr_iload_n C dX1_behind_22 rfl ?_
        refine xr_imulN C dX1_behind_23 ?_
        refine xr_iload C dX1_behind_24 rfl ?_
        refine xr_iaddN C dX1_behind_26 ?_
        refine xr_iald C 2 1 rfl rfl (by omega) (by decide) dX1_behind_27 ?_
        rw [hh.1]
        refine xr_ifT_ge (tgt := 37) C (nI_pos' (by omega)) dX1_behind_28 (by decide) ?_
        refine xr_iload_n C dX1_behind_37 rfl ?_
        refine xr_iconst (v := nI 1) C dX1_behind_38 (by decide) ?_
        refine xr_iaddN C dX1_behind_39 ?_
        refine xr_istore_n C dX1_behind_40 (by decide) rfl ?_
        refine xr_iinc1 C dX1_behind_41 rfl (by decide) rfl ?_
        refine xr_goto (tgt := 5) C dX1_behind_44 (by decide) ?_
        refine iha (p + 1) (o + 1) hok.2.1 hh.2.2.1 (by omega) (by omega) ?_
        refine ihb (p + 1 + ln a) o hok.2.2 hh.2.2.2 (by omega) (by omega) ?_
        have e : p + 1 + ln a + ln b = p + (1 + ln a + ln b) := by omega
        rw [e]
        exact hk
/-- behind: the place behind the part that begins at p -/
theorem m1_behind (t p : Nat) (T : Tr) (ht : t < 4) (hok : okT T) (hh : hold ak nu (15 * t) T p) (hp : p + ln T ≤ 14) : xMi l D (xT cB cI cS) yX1_behind cX1_behind 5 .int ({ frames := 0, cells := 0, slots := 0, locals := 0 } : Room) [.ref (g 0), .int (nI t), .int (nI p)] (x1w g cI sz ak nu lo hi) (fun r w => w = x1w g cI sz ak nu lo hi ∧ r = nI (p + ln T)) := by
  have hn := ln_nl T
  refine xMi_of 2 rfl rfl (Nat.le_of_ble_eq_true rfl) (fun K C E => ?_)
  refine xr_iconst (v := nI 1) C dX1_behind_0 (by decide) ?_
  refine xr_istore_n C dX1_behind_1 (by decide) rfl ?_
  refine xr_iload_n C dX1_behind_2 rfl ?_
  refine xr_istore C dX1_behind_3 (by decide) rfl ?_
  refine lp1_behind C t p ht T p 0 hok hh (by omega) (by omega) ?_
  refine xr_iload_n C dX1_behind_5 rfl ?_
  refine xr_if_leN (tgt := 47) C (by omega) dX1_behind_6 (by decide) (fun hc => ?_) (fun hc => ?_)
  · refine xr_iload C dX1_behind_47 rfl ?_
    refine xr_bipush (v := nI 15) C dX1_behind_49 (by decide) ?_
    refine xr_icmp_geN (tgt := 59) C (by omega) (by omega) dX1_behind_51 (by decide) (fun hc2 => ?_) (fun hc2 => ?_)
    · omega
    · refine xr_iload C dX1_behind_54 rfl ?_
      refine xr_goto (tgt := 61) C dX1_behind_56 (by decide) ?_
      exact xr_ireturn C E rfl dX1_behind_61 ⟨rfl, rfl⟩
  · omega
/-- walk's end: the leaves ahead of the place are counted -/
theorem lp1_walk {K : xK} {R : Room} {post : Int32 → va_W → Prop} (C : xOk R D (xT cB cI cS) 7 K cX1_walk RX1) (E : xEi D (xT cB cI cS) K .int post) (t p k : Nat) (pt : Int32) (ht : t < 4) (hp : p < 15) (o5 o6 : Option Value) (hpost : post (nI (lct ak (15 * t) p + 16 * k)) (x1w g cI sz ak nu lo hi)) :
    xW l R D 7 K (x1w g cI sz ak nu lo hi) [some (.ref (g 0)), some (.int (nI t)), some (.int pt), some (.int (nI p)), some (.int (nI k)), o5, o6] 95 [] := by
  refine xr_iconst (v := nI 0) C dX1_walk_95 (by decide) ?_
  refine xr_istore C dX1_walk_96 (by decide) rfl ?_
  refine xr_iconst (v := nI 0) C dX1_walk_98 (by decide) ?_
  refine xr_istore C dX1_walk_99 (by decide) rfl ?_
  suffices H : ∀ m j : Nat, j + m = p → xW l R D 7 K (x1w g cI sz ak nu lo hi) [some (.ref (g 0)), some (.int (nI t)), some (.int pt), some (.int (nI p)), some (.int (nI k)), some (.int (nI (lct ak (15 * t) j))), some (.int (nI j))] 101 [] by
    exact H p 0 (by omega)
  intro m
  induction m with
  | zero =>
    intro j hj
    have : j = p := by omega
    subst this
    refine xr_iload C dX1_walk_101 rfl ?_
    refine xr_iload_n C dX1_walk_103 rfl ?_
    refine xr_icmp_geN (tgt := 139) C (by omega) (by omega) dX1_walk_104 (by decide) (fun hc => ?_) (fun hc => ?_)
    · refine xr_iload C dX1_walk_139 rfl ?_
      refine xr_bipush (v := nI 16) C dX1_walk_141 (by decide) ?_
      refine xr_iload C dX1_walk_143 rfl ?_
      refine xr_imulN C dX1_walk_145 ?_
      refine xr_iaddN C dX1_walk_146 ?_
      exact xr_ireturn C E rfl dX1_walk_147 hpost
    · omega
  | succ m ih =>
    intro j hj
    have ih := ih (j + 1) (by omega)
    have e := lct_succ ak (15 * t) j
    refine xr_iload C dX1_walk_101 rfl ?_
    refine xr_iload_n C dX1_walk_103 rfl ?_
    refine xr_icmp_geN (tgt := 139) C (by omega) (by omega) dX1_walk_104 (by decide) (fun hc => ?_) (fun hc => ?_)
    · omega
    · refine xr_aload_n C dX1_walk_107 rfl ?_
      refine x1g_13 C 0 rfl rfl dX1_walk_108 ?_
      refine xr_bipush (v := nI 15) C dX1_walk_111 (by decide) ?_
      refine xr_iload_n C dX1_walk_113 rfl ?_
      refine xr_imulN C dX1_walk_114 ?_
      refine xr_iload C dX1_walk_115 rfl ?_
      refine xr_iaddN C dX1_walk_117 ?_
      refine xr_iald C 2 1 rfl rfl (by omega) (by decide) dX1_walk_118 ?_
      refine xr_if_ge (tgt := 129) C dX1_walk_119 (by decide) (fun h1 => ?_) (fun h1 => ?_)
      · rw [if_neg (Int32.not_lt.mpr h1), Nat.add_zero] at e
        rw [e] at ih
        refine xr_iload C dX1_walk_129 rfl ?_
        refine xr_istore C dX1_walk_131 (by decide) rfl ?_
        refine xr_iinc1 C dX1_walk_133 rfl (by decide) rfl ?_
        refine xr_goto (tgt := 101) C dX1_walk_136 (by decide) ?_
        exact ih
      · rw [if_pos (Int32.not_le.mp h1)] at e
        rw [e] at ih
        refine xr_iload C dX1_walk_122 rfl ?_
        refine xr_iconst (v := nI 1) C dX1_walk_124 (by decide) ?_
        refine xr_iaddN C dX1_walk_125 ?_
        refine xr_goto (tgt := 131) C dX1_walk_126 (by decide) ?_
        refine xr_istore C dX1_walk_131 (by decide) rfl ?_
        refine xr_iinc1 C dX1_walk_133 rfl (by decide) rfl ?_
        refine xr_goto (tgt := 101) C dX1_walk_136 (by decide) ?_
        exact ih
/-- walk -/
theorem m1_walk (h : r1 τ sz ak nu) (t : Nat) (pt : Int32) (ht : t < 4) : xMi l D (xT cB cI cS) yX1_walk cX1_walk 7 .int ({ frames := 1, cells := 0, slots := 0, locals := 24 } : Room) [.ref (g 0), .int (nI t), .int pt] (x1w g cI sz ak nu lo hi) (fun r w => w = x1w g cI sz ak nu lo hi ∧ r = nI (exT pt (τ t) + 16 * dpT pt (τ t))) := by
  obtain ⟨s1, s2, s3, s4⟩ := r1_sz h ht
  obtain ⟨e1, e2, e3, e4⟩ := h t ht
  refine xMi_of 4 rfl rfl (Nat.le_of_ble_eq_true rfl) (fun K C E => ?_)
  refine xr_iconst (v := nI 0) C dX1_walk_0 (by decide) ?_
  refine xr_istore_n C dX1_walk_1 (by decide) rfl ?_
  refine xr_iconst (v := nI 0) C dX1_walk_2 (by decide) ?_
  refine xr_istore C dX1_walk_3 (by decide) rfl ?_
  suffices H : ∀ (T : Tr) (p k : Nat) (o5 o6 : Option Value), okT T → hold ak nu (15 * t) T p → p + ln T ≤ 15 → k + nl T ≤ 8 → lct ak (15 * t) p + exT pt T = exT pt (τ t) → k + dpT pt T = dpT pt (τ t) → xW l ({ frames := 1, cells := 0, slots := 0, locals := 24 } : Room) D 7 K (x1w g cI sz ak nu lo hi) [some (.ref (g 0)), some (.int (nI t)), some (.int pt), some (.int (nI p)), some (.int (nI k)), o5, o6] 5 [] by
    exact H (τ t) 0 0 none none e3 e2 (by omega) (by omega) (Nat.zero_add _) (Nat.zero_add _)
  intro T
  induction T with
  | leaf v =>
    intro p k o5 o6 hok hh hp hk hE hD
    have hp : p + 1 ≤ 15 := hp
    refine xr_aload_n C dX1_walk_5 rfl ?_
    refine x1g_13 C 0 rfl rfl dX1_walk_6 ?_
    refine xr_bipush (v := nI 15) C dX1_walk_9 (by decide) ?_
    refine xr_iload_n C dX1_walk_11 rfl ?_
    refine xr_imulN C dX1_walk_12 ?_
    refine xr_iload_n C dX1_walk_13 rfl ?_
    refine xr_iaddN C dX1_walk_14 ?_
    refine xr_iald C 2 1 rfl rfl (by omega) (by decide) dX1_walk_15 ?_
    rw [hh.1]
    refine xr_ifT_lt (tgt := 95) C (by decide) dX1_walk_16 (by decide) ?_
    refine lp1_walk C E t p k pt ht (by omega) o5 o6 ⟨rfl, congrArg nI ?_⟩
    rw [← hE, ← hD]
    rfl
  | branch d a b iha ihb =>
    intro p k o5 o6 hok hh hp hk hE hD
    have hp : p + (1 + ln a + ln b) ≤ 15 := hp
    have hk : k + (nl a + nl b) ≤ 8 := hk
    have hna := ln_nl a
    have hna1 := nl_pos a
    have hnb := ln_nl b
    have hnb1 := nl_pos b
    have hd := hok.1
    have hv := ftv_lt pt (d / 16)
    have c1 : lct ak (15 * t) (p + 1) = lct ak (15 * t) p := by
      rw [lct_succ, hh.1, if_neg (nI_nneg (by omega)), Nat.add_zero]
    rw [show exT pt (.branch d a b) = if ftv pt (d / 16) ≤ d % 16 then exT pt a else nl a + exT pt b from rfl] at hE
    rw [show dpT pt (.branch d a b) = 1 + (if ftv pt (d / 16) ≤ d % 16 then dpT pt a else dpT pt b) from rfl] at hD
    refine xr_aload_n C dX1_walk_5 rfl ?_
    refine x1g_13 C 0 rfl rfl dX1_walk_6 ?_
    refine xr_bipush (v := nI 15) C dX1_walk_9 (by decide) ?_
    refine xr_iload_n C dX1_walk_11 rfl ?_
    refine xr_imulN C dX1_walk_12 ?_
    refine xr_iload_n C dX1_walk_13 rfl ?_
    refine xr_iaddN C dX1_walk_14 ?_
    refine xr_iald C 2 1 rfl rfl (by omega) (by decide) dX1_walk_15 ?_
    rw [hh.1]
    refine xr_ifF_lt (tgt := 95) C (nI_nneg (by omega)) dX1_walk_16 (by decide) ?_
    refine xr_iload C dX1_walk_19 rfl ?_
    refine xr_bipush (v := nI 7) C dX1_walk_21 (by decide) ?_
    refine xr_icmp_geN (tgt := 95) C (by omega) (by omega) dX1_walk_23 (by decide) (fun hc => ?_) (fun hc => ?_)
    · omega
    · refine xr_aload_n C dX1_walk_26 rfl ?_
      refine x1g_13 C 0 rfl rfl dX1_walk_27 ?_
      refine xr_bipush (v := nI 15) C dX1_walk_30 (by decide) ?_
      refine xr_iload_n C dX1_walk_32 rfl ?_
      refine xr_imulN C dX1_walk_33 ?_
      refine xr_iload_n C dX1_walk_34 rfl ?_
      refine xr_iaddN C dX1_walk_35 ?_
      refine xr_iald C 2 1 rfl rfl (by omega) (by decide) dX1_walk_36 ?_
      rw [hh.1]
      refine xr_istore C dX1_walk_37 (by decide) rfl ?_
      refine xr_iload_n C dX1_walk_39 rfl ?_
      refine xr_iconst (v := nI 4) C dX1_walk_40 (by decide) ?_
      refine xr_iload C dX1_walk_41 rfl ?_
      refine xr_imulN C dX1_walk_43 ?_
      refine xr_ishr C dX1_walk_44 ?_
      refine xr_bipush (v := nI 15) C dX1_walk_45 (by decide) ?_
      refine xr_iand C dX1_walk_47 ?_
      refine xr_top (ftv_eq pt (d / 16)) ?_
      refine xr_aload_n C dX1_walk_48 rfl ?_
      refine x1g_16 C 0 rfl rfl dX1_walk_49 ?_
      refine xr_bipush (v := nI 15) C dX1_walk_52 (by decide) ?_
      refine xr_iload_n C dX1_walk_54 rfl ?_
      refine xr_imulN C dX1_walk_55 ?_
      refine xr_iload_n C dX1_walk_56 rfl ?_
      refine xr_iaddN C dX1_walk_57 ?_
      refine xr_iald C 3 1 rfl rfl (by omega) (by decide) dX1_walk_58 ?_
      rw [hh.2.1]
      refine xr_icmp_gtN (tgt := 66) C (by omega) (by omega) dX1_walk_59 (by decide) (fun h1 => ?_) (fun h1 => ?_)
      · rw [if_neg (by omega)] at hE hD
        refine xr_iconst (v := nI 0) C dX1_walk_66 (by decide) ?_
        refine xr_istore C dX1_walk_67 (by decide) rfl ?_
        refine xr_iload C dX1_walk_69 rfl ?_
        refine xr_ifT_eq (tgt := 80) C (by decide) dX1_walk_71 (by decide) ?_
        refine xr_aload_n C dX1_walk_80 rfl ?_
        refine xr_iload_n C dX1_walk_81 rfl ?_
        refine xr_iload_n C dX1_walk_82 rfl ?_
        refine xr_iconst (v := nI 1) C dX1_walk_83 (by decide) ?_
        refine xr_iaddN C dX1_walk_84 ?_
        refine xr_callWi C (m1_behind t (p + 1) a ht hok.2.1 hh.2.2.1 (by omega)) (cw1_behind ⟨by decide, by decide⟩) 0 rfl rfl rfl rfl (Nat.le_of_ble_eq_true rfl) dX1_walk_85 (fun r w hw1 => ?_)
        obtain ⟨rfl, rfl⟩ := hw1
        refine xr_istore_n C dX1_walk_88 (by decide) rfl ?_
        refine xr_iinc1 C dX1_walk_89 rfl (by decide) rfl ?_
        refine xr_goto (tgt := 5) C dX1_walk_92 (by decide) ?_
        have c2 := hold_cnt a (p + 1) hok.2.1 hh.2.2.1
        exact ihb (p + 1 + ln a) (k + 1) _ _ hok.2.2 hh.2.2.2 (by omega) (by omega) (by omega) (by omega)
      · rw [if_pos (by omega)] at hE hD
        refine xr_iconst (v := nI 1) C dX1_walk_62 (by decide) ?_
        refine xr_goto (tgt := 67) C dX1_walk_63 (by decide) ?_
        refine xr_istore C dX1_walk_67 (by decide) rfl ?_
        refine xr_iload C dX1_walk_69 rfl ?_
        refine xr_ifF_eq (tgt := 80) C (by decide) dX1_walk_71 (by decide) ?_
        refine xr_iload_n C dX1_walk_74 rfl ?_
        refine xr_iconst (v := nI 1) C dX1_walk_75 (by decide) ?_
        refine xr_iaddN C dX1_walk_76 ?_
        refine xr_goto (tgt := 88) C dX1_walk_77 (by decide) ?_
        refine xr_istore_n C dX1_walk_88 (by decide) rfl ?_
        refine xr_iinc1 C dX1_walk_89 rfl (by decide) rfl ?_
        refine xr_goto (tgt := 5) C dX1_walk_92 (by decide) ?_
        exact iha (p + 1) (k + 1) _ _ hok.2.1 hh.2.2.1 (by omega) (by omega) (by omega) (by omega)
theorem m1_leafOf (h : r1 τ sz ak nu) (p1 p2 : Int32) : xMi l D (xT cB cI cS) yX1_leafOf cX1_leafOf 3 .int ({ frames := 2, cells := 0, slots := 0, locals := 50 } : Room) [.ref (g 0), .int p1, .int p2] (x1w g cI sz ak nu lo hi) (fun r w => w = x1w g cI sz ak nu lo hi ∧ ((¬ (xin p1 4 ∧ xin p2 65536) ∧ r = -1) ∨ ∃ t, t < 4 ∧ p1 = nI t ∧ xin p2 65536 ∧ r = nI (exT p2 (τ t)))) := by
  refine xMi_of 0 rfl rfl (Nat.le_of_ble_eq_true rfl) (fun K C E => ?_)
  refine xr_aload_n C dX1_leafOf_0 rfl ?_
  refine xr_iload_n C dX1_leafOf_1 rfl ?_
  refine xr_callWi C (m1_tree p1) (cw1_tree ⟨by decide, by decide⟩) 0 rfl rfl rfl rfl (Nat.le_of_ble_eq_true rfl) dX1_leafOf_2 (fun r w hw1 => ?_)
  obtain ⟨rfl, hw1⟩ := hw1
  rcases hw1 with ⟨rfl, t, ht, rfl⟩ | ⟨rfl, hn⟩
  · obtain ⟨s1, s2, s3, s4⟩ := r1_sz h ht
    have hx := exT_lt p2 (τ t)
    have hdp := dpT_lt p2 (τ t)
    refine xr_ifF_eq (tgt := 28) C (by decide) dX1_leafOf_5 (by decide) ?_
    refine xr_aload_n C dX1_leafOf_8 rfl ?_
    refine xr_iload_n C dX1_leafOf_9 rfl ?_
    refine xr_callWi C (m1_point p2) (cw1_point ⟨by decide, by decide⟩) 0 rfl rfl rfl rfl (Nat.le_of_ble_eq_true rfl) dX1_leafOf_10 (fun r w hw1 => ?_)
    obtain ⟨rfl, hw1⟩ := hw1
    rcases hw1 with ⟨rfl, hp⟩ | ⟨rfl, hn⟩
    · refine xr_ifF_eq (tgt := 28) C (by decide) dX1_leafOf_13 (by decide) ?_
      refine xr_aload_n C dX1_leafOf_16 rfl ?_
      refine xr_iload_n C dX1_leafOf_17 rfl ?_
      refine xr_iload_n C dX1_leafOf_18 rfl ?_
      refine xr_callWi C (m1_walk h t p2 ht) (cw1_walk ⟨by decide, by decide⟩) 0 rfl rfl rfl rfl (Nat.le_of_ble_eq_true rfl) dX1_leafOf_19 (fun r w hw1 => ?_)
      obtain ⟨rfl, rfl⟩ := hw1
      refine xr_bipush (v := nI 16) C dX1_leafOf_22 (by decide) ?_
      refine xr_iremN C (by omega) (by omega) (by omega) dX1_leafOf_24 ?_
      refine xr_goto (tgt := 29) C dX1_leafOf_25 (by decide) ?_
      exact xr_ireturn C E rfl dX1_leafOf_29 ⟨rfl, Or.inr ⟨t, ht, rfl, hp, congrArg nI (by omega)⟩⟩
    · refine xr_ifT_eq (tgt := 28) C rfl dX1_leafOf_13 (by decide) ?_
      refine xr_iconst (v := (-1)) C dX1_leafOf_28 (by decide) ?_
      exact xr_ireturn C E rfl dX1_leafOf_29 ⟨rfl, Or.inl ⟨fun h => hn h.2, rfl⟩⟩
  · refine xr_ifT_eq (tgt := 28) C rfl dX1_leafOf_5 (by decide) ?_
    refine xr_iconst (v := (-1)) C dX1_leafOf_28 (by decide) ?_
    exact xr_ireturn C E rfl dX1_leafOf_29 ⟨rfl, Or.inl ⟨fun h => hn h.1, rfl⟩⟩
/-- score -/
theorem m1_score (h : r1 τ sz ak nu) (p : Int32) : xMi l D (xT cB cI cS) yX1_score cX1_score 5 .int ({ frames := 3, cells := 0, slots := 0, locals := 68 } : Room) [.ref (g 0), .int p] (x1w g cI sz ak nu lo hi) (fun r w => w = x1w g cI sz ak nu lo hi ∧ ((¬ xin p 65536 ∧ r = nI 0) ∨ (xin p 65536 ∧ r = smT (fun t i => valT (τ t) i) (fun p t => exT p (τ t)) p 4))) := by
  refine xMi_of 3 rfl rfl (Nat.le_of_ble_eq_true rfl) (fun K C E => ?_)
  refine xr_iconst (v := nI 0) C dX1_score_0 (by decide) ?_
  refine xr_istore_n C dX1_score_1 (by decide) rfl ?_
  refine xr_iconst (v := nI 0) C dX1_score_2 (by decide) ?_
  refine xr_istore_n C dX1_score_3 (by decide) rfl ?_
  by_cases hp : xin p 65536
  · suffices H : ∀ (m t : Nat) (o4 : Option Value), t + m = 4 → xW l ({ frames := 3, cells := 0, slots := 0, locals := 68 } : Room) D 5 K (x1w g cI sz ak nu lo hi) [some (.ref (g 0)), some (.int p), some (.int (smT (fun t i => valT (τ t) i) (fun p t => exT p (τ t)) p t)), some (.int (nI t)), o4] 4 [] by
      exact H 4 0 none rfl
    intro m
    induction m with
    | zero =>
      intro t o4 htm
      have : t = 4 := by omega
      subst this
      refine xr_iload_n C dX1_score_4 rfl ?_
      refine xr_iconst (v := nI 4) C dX1_score_5 (by decide) ?_
      refine xr_icmp_geN (tgt := 44) C (by omega) (by omega) dX1_score_6 (by decide) (fun hc => ?_) (fun hc => ?_)
      · refine xr_iload_n C dX1_score_44 rfl ?_
        exact xr_ireturn C E rfl dX1_score_45 ⟨rfl, Or.inr ⟨hp, rfl⟩⟩
      · omega
    | succ m ih =>
      intro t o4 htm
      have ht : t < 4 := by omega
      obtain ⟨s1, s2, s3, s4⟩ := r1_sz h ht
      have hx := exT_lt p (τ t)
      have hdp := dpT_lt p (τ t)
      refine xr_iload_n C dX1_score_4 rfl ?_
      refine xr_iconst (v := nI 4) C dX1_score_5 (by decide) ?_
      refine xr_icmp_geN (tgt := 44) C (by omega) (by omega) dX1_score_6 (by decide) (fun hc => ?_) (fun hc => ?_)
      · omega
      · refine xr_aload_n C dX1_score_9 rfl ?_
        refine xr_iload_n C dX1_score_10 rfl ?_
        refine xr_callWi C (m1_point p) (cw1_point ⟨by decide, by decide⟩) 0 rfl rfl rfl rfl (Nat.le_of_ble_eq_true rfl) dX1_score_11 (fun r w hw1 => ?_)
        obtain ⟨rfl, hw1⟩ := hw1
        rcases hw1 with ⟨rfl, -⟩ | ⟨rfl, hn⟩
        · refine xr_ifF_eq (tgt := 44) C (by decide) dX1_score_14 (by decide) ?_
          refine xr_aload_n C dX1_score_17 rfl ?_
          refine xr_iload_n C dX1_score_18 rfl ?_
          refine xr_iload_n C dX1_score_19 rfl ?_
          refine xr_callWi C (m1_walk h t p ht) (cw1_walk ⟨by decide, by decide⟩) 0 rfl rfl rfl rfl (Nat.le_of_ble_eq_true rfl) dX1_score_20 (fun r w hw1 => ?_)
          obtain ⟨rfl, rfl⟩ := hw1
          refine xr_bipush (v := nI 16) C dX1_score_23 (by decide) ?_
          refine xr_iremN C (by omega) (by omega) (by omega) dX1_score_25 ?_
          have e : (exT p (τ t) + 16 * dpT p (τ t)) % 16 = exT p (τ t) := by omega
          rw [e]
          refine xr_istore C dX1_score_26 (by decide) rfl ?_
          refine xr_iload_n C dX1_score_28 rfl ?_
          refine xr_aload_n C dX1_score_29 rfl ?_
          refine xr_iload_n C dX1_score_30 rfl ?_
          refine xr_iload C dX1_score_31 rfl ?_
          refine xr_callWi C (m1_value h (nI t) (nI (exT p (τ t)))) (cw1_value ⟨by decide, by decide⟩) 0 rfl rfl rfl rfl (Nat.le_of_ble_eq_true rfl) dX1_score_33 (fun r w hw1 => ?_)
          obtain ⟨rfl, hw1⟩ := hw1
          rcases hw1 with ⟨hn, -⟩ | ⟨t', i', q1, q2, q3, q4, rfl⟩
          · exact absurd ⟨t, exT p (τ t), ht, hx, rfl, rfl⟩ hn
          · have e1 := nI_inj (by omega) (by omega) q3
            subst e1
            have e2 := nI_inj (by omega) (by omega) q4
            subst e2
            refine xr_iadd C dX1_score_36 ?_
            refine xr_istore_n C dX1_score_37 (by decide) rfl ?_
            refine xr_iinc1 C dX1_score_38 rfl (by decide) rfl ?_
            refine xr_goto (tgt := 4) C dX1_score_41 (by decide) ?_
            exact ih (t + 1) _ (by omega)
        · exact absurd hp hn
  · refine xr_iload_n C dX1_score_4 rfl ?_
    refine xr_iconst (v := nI 4) C dX1_score_5 (by decide) ?_
    refine xr_icmp_geN (tgt := 44) C (by omega) (by omega) dX1_score_6 (by decide) (fun hc => ?_) (fun hc => ?_)
    · omega
    · refine xr_aload_n C dX1_score_9 rfl ?_
      refine xr_iload_n C dX1_score_10 rfl ?_
      refine xr_callWi C (m1_point p) (cw1_point ⟨by decide, by decide⟩) 0 rfl rfl rfl rfl (Nat.le_of_ble_eq_true rfl) dX1_score_11 (fun r w hw1 => ?_)
      obtain ⟨rfl, hw1⟩ := hw1
      rcases hw1 with ⟨rfl, hy⟩ | ⟨rfl, hn⟩
      · exact absurd hy hp
      · refine xr_ifT_eq (tgt := 44) C rfl dX1_score_14 (by decide) ?_
        refine xr_iload_n C dX1_score_44 rfl ?_
        exact xr_ireturn C E rfl dX1_score_45 ⟨rfl, Or.inl ⟨hp, rfl⟩⟩
/-- depth -/
theorem m1_depth (h : r1 τ sz ak nu) (p : Int32) : xMi l D (xT cB cI cS) yX1_depth cX1_depth 4 .int ({ frames := 2, cells := 0, slots := 0, locals := 50 } : Room) [.ref (g 0), .int p] (x1w g cI sz ak nu lo hi) (fun r w => w = x1w g cI sz ak nu lo hi ∧ ((¬ xin p 65536 ∧ r = -1) ∨ (xin p 65536 ∧ r = nI (dmT τ p 4)))) := by
  refine xMi_of 2 rfl rfl (Nat.le_of_ble_eq_true rfl) (fun K C E => ?_)
  refine xr_iconst (v := nI 0) C dX1_depth_0 (by decide) ?_
  refine xr_istore_n C dX1_depth_1 (by decide) rfl ?_
  refine xr_iconst (v := nI 0) C dX1_depth_2 (by decide) ?_
  refine xr_istore_n C dX1_depth_3 (by decide) rfl ?_
  by_cases hp : xin p 65536
  · suffices H : ∀ (m t : Nat), t + m = 4 → xW l ({ frames := 2, cells := 0, slots := 0, locals := 50 } : Room) D 4 K (x1w g cI sz ak nu lo hi) [some (.ref (g 0)), some (.int p), some (.int (nI (dmT τ p t))), some (.int (nI t))] 4 [] by
      exact H 4 0 rfl
    intro m
    induction m with
    | zero =>
      intro t htm
      have : t = 4 := by omega
      subst this
      refine xr_iload_n C dX1_depth_4 rfl ?_
      refine xr_iconst (v := nI 4) C dX1_depth_5 (by decide) ?_
      refine xr_icmp_geN (tgt := 35) C (by omega) (by omega) dX1_depth_6 (by decide) (fun hc => ?_) (fun hc => ?_)
      · refine xr_aload_n C dX1_depth_35 rfl ?_
        refine xr_iload_n C dX1_depth_36 rfl ?_
        refine xr_callWi C (m1_point p) (cw1_point ⟨by decide, by decide⟩) 0 rfl rfl rfl rfl (Nat.le_of_ble_eq_true rfl) dX1_depth_37 (fun r w hw1 => ?_)
        obtain ⟨rfl, hw1⟩ := hw1
        rcases hw1 with ⟨rfl, -⟩ | ⟨rfl, hn⟩
        · refine xr_ifF_eq (tgt := 47) C (by decide) dX1_depth_40 (by decide) ?_
          refine xr_iload_n C dX1_depth_43 rfl ?_
          refine xr_goto (tgt := 48) C dX1_depth_44 (by decide) ?_
          exact xr_ireturn C E rfl dX1_depth_48 ⟨rfl, Or.inr ⟨hp, rfl⟩⟩
        · exact absurd hp hn
      · omega
    | succ m ih =>
      intro t htm
      have ht : t < 4 := by omega
      obtain ⟨s1, s2, s3, s4⟩ := r1_sz h ht
      have hx := exT_lt p (τ t)
      have hdp := dpT_lt p (τ t)
      refine xr_iload_n C dX1_depth_4 rfl ?_
      refine xr_iconst (v := nI 4) C dX1_depth_5 (by decide) ?_
      refine xr_icmp_geN (tgt := 35) C (by omega) (by omega) dX1_depth_6 (by decide) (fun hc => ?_) (fun hc => ?_)
      · omega
      · refine xr_aload_n C dX1_depth_9 rfl ?_
        refine xr_iload_n C dX1_depth_10 rfl ?_
        refine xr_callWi C (m1_point p) (cw1_point ⟨by decide, by decide⟩) 0 rfl rfl rfl rfl (Nat.le_of_ble_eq_true rfl) dX1_depth_11 (fun r w hw1 => ?_)
        obtain ⟨rfl, hw1⟩ := hw1
        rcases hw1 with ⟨rfl, -⟩ | ⟨rfl, hn⟩
        · refine xr_ifF_eq (tgt := 35) C (by decide) dX1_depth_14 (by decide) ?_
          refine xr_iload_n C dX1_depth_17 rfl ?_
          refine xr_aload_n C dX1_depth_18 rfl ?_
          refine xr_iload_n C dX1_depth_19 rfl ?_
          refine xr_iload_n C dX1_depth_20 rfl ?_
          refine xr_callWi C (m1_walk h t p ht) (cw1_walk ⟨by decide, by decide⟩) 0 rfl rfl rfl rfl (Nat.le_of_ble_eq_true rfl) dX1_depth_21 (fun r w hw1 => ?_)
          obtain ⟨rfl, rfl⟩ := hw1
          refine xr_bipush (v := nI 16) C dX1_depth_24 (by decide) ?_
          refine xr_idivN C (by omega) (by omega) (by omega) dX1_depth_26 ?_
          have e : (exT p (τ t) + 16 * dpT p (τ t)) / 16 = dpT p (τ t) := by omega
          rw [e]
          refine xr_iaddN C dX1_depth_27 ?_
          refine xr_istore_n C dX1_depth_28 (by decide) rfl ?_
          refine xr_iinc1 C dX1_depth_29 rfl (by decide) rfl ?_
          refine xr_goto (tgt := 4) C dX1_depth_32 (by decide) ?_
          exact ih (t + 1) (by omega)
        · exact absurd hp hn
  · refine xr_iload_n C dX1_depth_4 rfl ?_
    refine xr_iconst (v := nI 4) C dX1_depth_5 (by decide) ?_
    refine xr_icmp_geN (tgt := 35) C (by omega) (by omega) dX1_depth_6 (by decide) (fun hc => ?_) (fun hc => ?_)
    · omega
    · refine xr_aload_n C dX1_depth_9 rfl ?_
      refine xr_iload_n C dX1_depth_10 rfl ?_
      refine xr_callWi C (m1_point p) (cw1_point ⟨by decide, by decide⟩) 0 rfl rfl rfl rfl (Nat.le_of_ble_eq_true rfl) dX1_depth_11 (fun r w hw1 => ?_)
      obtain ⟨rfl, hw1⟩ := hw1
      rcases hw1 with ⟨rfl, hy⟩ | ⟨rfl, hn⟩
      · exact absurd hy hp
      · refine xr_ifT_eq (tgt := 35) C rfl dX1_depth_14 (by decide) ?_
        refine xr_aload_n C dX1_depth_35 rfl ?_
        refine xr_iload_n C dX1_depth_36 rfl ?_
        refine xr_callWi C (m1_point p) (cw1_point ⟨by decide, by decide⟩) 0 rfl rfl rfl rfl (Nat.le_of_ble_eq_true rfl) dX1_depth_37 (fun r w hw1 => ?_)
        obtain ⟨rfl, hw1⟩ := hw1
        rcases hw1 with ⟨rfl, hy⟩ | ⟨rfl, hn⟩
        · exact absurd hy hp
        · refine xr_ifT_eq (tgt := 47) C rfl dX1_depth_40 (by decide) ?_
          refine xr_iconst (v := (-1)) C dX1_depth_47 (by decide) ?_
          exact xr_ireturn C E rfl dX1_depth_48 ⟨rfl, Or.inl ⟨hp, rfl⟩⟩
/-- leavesAlong -/
theorem m1_leavesAlong (h : r1 τ sz ak nu) (p1 p2 p3 : Int32) : xMi l D (xT cB cI cS) yX1_leavesAlong cX1_leavesAlong 7 .int ({ frames := 2, cells := 0, slots := 0, locals := 50 } : Room) [.ref (g 0), .int p1, .int p2, .int p3] (x1w g cI sz ak nu lo hi) (fun r w => w = x1w g cI sz ak nu lo hi ∧ ((¬ (xin p1 4 ∧ xin p2 65536 ∧ xin p3 4) ∧ r = nI 0) ∨ ∃ t f, t < 4 ∧ f < 4 ∧ p1 = nI t ∧ p3 = nI f ∧ xin p2 65536 ∧ r = laF (fun p t => exT p (τ t)) p2 f t 16)) := by
  refine xMi_of 3 rfl rfl (Nat.le_of_ble_eq_true rfl) (fun K C E => ?_)
  refine xr_iconst (v := nI 0) C dX1_leavesAlong_0 (by decide) ?_
  refine xr_istore C dX1_leavesAlong_1 (by decide) rfl ?_
  refine xr_iconst (v := nI 0) C dX1_leavesAlong_3 (by decide) ?_
  refine xr_istore C dX1_leavesAlong_4 (by decide) rfl ?_
  by_cases hv : xin p1 4 ∧ xin p2 65536 ∧ xin p3 4
  · obtain ⟨⟨t, ht, rfl⟩, hp, ⟨f, hf, rfl⟩⟩ := hv
    obtain ⟨s1, s2, s3, s4⟩ := r1_sz h ht
    suffices H : ∀ (m v : Nat) (o6 : Option Value), v + m = 16 → xW l ({ frames := 2, cells := 0, slots := 0, locals := 50 } : Room) D 7 K (x1w g cI sz ak nu lo hi) [some (.ref (g 0)), some (.int (nI t)), some (.int p2), some (.int (nI f)), some (.int (laF (fun p t => exT p (τ t)) p2 f t v)), some (.int (nI v)), o6] 6 [] by
      exact H 16 0 none rfl
    intro m
    induction m with
    | zero =>
      intro v o6 hvm
      have : v = 16 := by omega
      subst this
      refine xr_iload C dX1_leavesAlong_6 rfl ?_
      refine xr_bipush (v := nI 16) C dX1_leavesAlong_8 (by decide) ?_
      refine xr_icmp_geN (tgt := 71) C (by omega) (by omega) dX1_leavesAlong_10 (by decide) (fun hc => ?_) (fun hc => ?_)
      · refine xr_iload C dX1_leavesAlong_71 rfl ?_
        exact xr_ireturn C E rfl dX1_leavesAlong_73 ⟨rfl, Or.inr ⟨t, f, ht, hf, rfl, rfl, hp, rfl⟩⟩
      · omega
    | succ m ih =>
      intro v o6 hvm
      have hx := exT_lt (wfI p2 f v) (τ t)
      have hdp := dpT_lt (wfI p2 f v) (τ t)
      refine xr_iload C dX1_leavesAlong_6 rfl ?_
      refine xr_bipush (v := nI 16) C dX1_leavesAlong_8 (by decide) ?_
      refine xr_icmp_geN (tgt := 71) C (by omega) (by omega) dX1_leavesAlong_10 (by decide) (fun hc => ?_) (fun hc => ?_)
      · omega
      · refine xr_aload_n C dX1_leavesAlong_13 rfl ?_
        refine xr_iload_n C dX1_leavesAlong_14 rfl ?_
        refine xr_callWi C (m1_tree (nI t)) (cw1_tree ⟨by decide, by decide⟩) 0 rfl rfl rfl rfl (Nat.le_of_ble_eq_true rfl) dX1_leavesAlong_15 (fun r w hw1 => ?_)
        obtain ⟨rfl, hw1⟩ := hw1
        rcases hw1 with ⟨rfl, -⟩ | ⟨rfl, hn⟩
        · refine xr_ifF_eq (tgt := 71) C (by decide) dX1_leavesAlong_18 (by decide) ?_
          refine xr_aload_n C dX1_leavesAlong_21 rfl ?_
          refine xr_iload_n C dX1_leavesAlong_22 rfl ?_
          refine xr_callWi C (m1_point p2) (cw1_point ⟨by decide, by decide⟩) 0 rfl rfl rfl rfl (Nat.le_of_ble_eq_true rfl) dX1_leavesAlong_23 (fun r w hw1 => ?_)
          obtain ⟨rfl, hw1⟩ := hw1
          rcases hw1 with ⟨rfl, -⟩ | ⟨rfl, hn⟩
          · refine xr_ifF_eq (tgt := 71) C (by decide) dX1_leavesAlong_26 (by decide) ?_
            refine xr_iload_n C dX1_leavesAlong_29 rfl ?_
            refine xr_ifF_lt (tgt := 71) C (nI_pos (by omega)) dX1_leavesAlong_30 (by decide) ?_
            refine xr_iload_n C dX1_leavesAlong_33 rfl ?_
            refine xr_iconst (v := nI 3) C dX1_leavesAlong_34 (by decide) ?_
            refine xr_icmp_gtN (tgt := 71) C (by omega) (by omega) dX1_leavesAlong_35 (by decide) (fun hc2 => ?_) (fun hc2 => ?_)
            · omega
            · refine xr_aload_n C dX1_leavesAlong_38 rfl ?_
              refine xr_iload_n C dX1_leavesAlong_39 rfl ?_
              refine xr_iload_n C dX1_leavesAlong_40 rfl ?_
              refine xr_iload C dX1_leavesAlong_41 rfl ?_
              refine xr_callWi C (m1_with p2 f v) (cw1_with ⟨by decide, by decide⟩) 0 rfl rfl rfl rfl (Nat.le_of_ble_eq_true rfl) dX1_leavesAlong_43 (fun r w hw1 => ?_)
              obtain ⟨rfl, rfl⟩ := hw1
              refine xr_istore C dX1_leavesAlong_46 (by decide) rfl ?_
              refine xr_iload C dX1_leavesAlong_48 rfl ?_
              refine xr_iconst (v := nI 1) C dX1_leavesAlong_50 (by decide) ?_
              refine xr_aload_n C dX1_leavesAlong_51 rfl ?_
              refine xr_iload_n C dX1_leavesAlong_52 rfl ?_
              refine xr_iload C dX1_leavesAlong_53 rfl ?_
              refine xr_callWi C (m1_walk h t (wfI p2 f v) ht) (cw1_walk ⟨by decide, by decide⟩) 0 rfl rfl rfl rfl (Nat.le_of_ble_eq_true rfl) dX1_leavesAlong_55 (fun r w hw1 => ?_)
              obtain ⟨rfl, rfl⟩ := hw1
              refine xr_bipush (v := nI 16) C dX1_leavesAlong_58 (by decide) ?_
              refine xr_iremN C (by omega) (by omega) (by omega) dX1_leavesAlong_60 ?_
              have e : (exT (wfI p2 f v) (τ t) + 16 * dpT (wfI p2 f v) (τ t)) % 16 = exT (wfI p2 f v) (τ t) := by omega
              rw [e]
              refine xr_ishl C dX1_leavesAlong_61 ?_
              refine xr_ior C dX1_leavesAlong_62 ?_
              refine xr_istore C dX1_leavesAlong_63 (by decide) rfl ?_
              refine xr_iinc1 C dX1_leavesAlong_65 rfl (by decide) rfl ?_
              refine xr_goto (tgt := 6) C dX1_leavesAlong_68 (by decide) ?_
              exact ih (v + 1) _ (by omega)
          · exact absurd hp hn
        · exact absurd ⟨t, ht, rfl⟩ hn
  · refine xr_iload C dX1_leavesAlong_6 rfl ?_
    refine xr_bipush (v := nI 16) C dX1_leavesAlong_8 (by decide) ?_
    refine xr_icmp_geN (tgt := 71) C (by omega) (by omega) dX1_leavesAlong_10 (by decide) (fun hc => ?_) (fun hc => ?_)
    · omega
    · refine xr_aload_n C dX1_leavesAlong_13 rfl ?_
      refine xr_iload_n C dX1_leavesAlong_14 rfl ?_
      refine xr_callWi C (m1_tree p1) (cw1_tree ⟨by decide, by decide⟩) 0 rfl rfl rfl rfl (Nat.le_of_ble_eq_true rfl) dX1_leavesAlong_15 (fun r w hw1 => ?_)
      obtain ⟨rfl, hw1⟩ := hw1
      rcases hw1 with ⟨rfl, h1⟩ | ⟨rfl, hn⟩
      · refine xr_ifF_eq (tgt := 71) C (by decide) dX1_leavesAlong_18 (by decide) ?_
        refine xr_aload_n C dX1_leavesAlong_21 rfl ?_
        refine xr_iload_n C dX1_leavesAlong_22 rfl ?_
        refine xr_callWi C (m1_point p2) (cw1_point ⟨by decide, by decide⟩) 0 rfl rfl rfl rfl (Nat.le_of_ble_eq_true rfl) dX1_leavesAlong_23 (fun r w hw1 => ?_)
        obtain ⟨rfl, hw1⟩ := hw1
        rcases hw1 with ⟨rfl, h2⟩ | ⟨rfl, hn⟩
        · refine xr_ifF_eq (tgt := 71) C (by decide) dX1_leavesAlong_26 (by decide) ?_
          refine xr_iload_n C dX1_leavesAlong_29 rfl ?_
          refine xr_if_lt (tgt := 71) C dX1_leavesAlong_30 (by decide) (fun h3 => ?_) (fun h3 => ?_)
          · refine xr_iload C dX1_leavesAlong_71 rfl ?_
            exact xr_ireturn C E rfl dX1_leavesAlong_73 ⟨rfl, Or.inl ⟨hv, rfl⟩⟩
          · refine xr_iload_n C dX1_leavesAlong_33 rfl ?_
            refine xr_iconst (v := nI 3) C dX1_leavesAlong_34 (by decide) ?_
            refine xr_icmp_gt (tgt := 71) C dX1_leavesAlong_35 (by decide) (fun h4 => ?_) (fun h4 => ?_)
            · refine xr_iload C dX1_leavesAlong_71 rfl ?_
              exact xr_ireturn C E rfl dX1_leavesAlong_73 ⟨rfl, Or.inl ⟨hv, rfl⟩⟩
            · exact absurd ⟨h1, h2, xin_of' (N := 3) (by decide) h3 h4⟩ hv
        · refine xr_ifT_eq (tgt := 71) C rfl dX1_leavesAlong_26 (by decide) ?_
          refine xr_iload C dX1_leavesAlong_71 rfl ?_
          exact xr_ireturn C E rfl dX1_leavesAlong_73 ⟨rfl, Or.inl ⟨hv, rfl⟩⟩
      · refine xr_ifT_eq (tgt := 71) C rfl dX1_leavesAlong_18 (by decide) ?_
        refine xr_iload C dX1_leavesAlong_71 rfl ?_
        exact xr_ireturn C E rfl dX1_leavesAlong_73 ⟨rfl, Or.inl ⟨hv, rfl⟩⟩
/-- bestValue -/
theorem m1_bestValue (h : r1 τ sz ak nu) (p1 p2 : Int32) : xMi l D (xT cB cI cS) yX1_bestValue cX1_bestValue 9 .int ({ frames := 4, cells := 0, slots := 0, locals := 92 } : Room) [.ref (g 0), .int p1, .int p2] (x1w g cI sz ak nu lo hi) (fun r w => w = x1w g cI sz ak nu lo hi ∧ ((¬ (xin p1 65536 ∧ xin p2 4) ∧ r = -1) ∨ ∃ f, f < 4 ∧ p2 = nI f ∧ xin p1 65536 ∧ r = nI (bvF (fun v => smT (fun t i => valT (τ t) i) (fun p t => exT p (τ t)) (wfI p1 f v) 4) 16).1)) := by
  refine xMi_of 6 rfl rfl (Nat.le_of_ble_eq_true rfl) (fun K C E => ?_)
  refine xr_aload_n C dX1_bestValue_0 rfl ?_
  refine xr_iload_n C dX1_bestValue_1 rfl ?_
  refine xr_callWi C (m1_point p1) (cw1_point ⟨by decide, by decide⟩) 0 rfl rfl rfl rfl (Nat.le_of_ble_eq_true rfl) dX1_bestValue_2 (fun r w hw1 => ?_)
  obtain ⟨rfl, hw1⟩ := hw1
  rcases hw1 with ⟨rfl, hp⟩ | ⟨rfl, hn⟩
  · refine xr_ifF_eq (tgt := 17) C (by decide) dX1_bestValue_5 (by decide) ?_
    refine xr_iload_n C dX1_bestValue_8 rfl ?_
    refine xr_if_lt (tgt := 17) C dX1_bestValue_9 (by decide) (fun h1 => ?_) (fun h1 => ?_)
    · refine xr_iconst (v := (-1)) C dX1_bestValue_17 (by decide) ?_
      exact xr_ireturn C E rfl dX1_bestValue_18 ⟨rfl, Or.inl ⟨fun h => xin_neg (by decide) h1 h.2, rfl⟩⟩
    · refine xr_iload_n C dX1_bestValue_12 rfl ?_
      refine xr_iconst (v := nI 3) C dX1_bestValue_13 (by decide) ?_
      refine xr_icmp_le (tgt := 19) C dX1_bestValue_14 (by decide) (fun h2 => ?_) (fun h2 => ?_)
      · obtain ⟨f, hf, rfl⟩ := xin_of' (N := 3) (by decide) h1 (Int32.not_lt.mpr h2)
        have hsc : ∀ v, v < 16 → xMi l D (xT cB cI cS) yX1_score cX1_score 5 .int ({ frames := 3, cells := 0, slots := 0, locals := 68 } : Room) [.ref (g 0), .int (wfI p1 f v)] (x1w g cI sz ak nu lo hi) (fun r w => w = x1w g cI sz ak nu lo hi ∧ ((¬ xin (wfI p1 f v) 65536 ∧ r = nI 0) ∨ (xin (wfI p1 f v) 65536 ∧ r = smT (fun t i => valT (τ t) i) (fun p t => exT p (τ t)) (wfI p1 f v) 4))) := fun v _ => m1_score h (wfI p1 f v)
        refine xr_iconst (v := nI 0) C dX1_bestValue_19 (by decide) ?_
        refine xr_istore_n C dX1_bestValue_20 (by decide) rfl ?_
        refine xr_aload_n C dX1_bestValue_21 rfl ?_
        refine xr_iload_n C dX1_bestValue_22 rfl ?_
        refine xr_iload_n C dX1_bestValue_23 rfl ?_
        refine xr_iconst (v := nI 0) C dX1_bestValue_24 (by decide) ?_
        refine xr_callWi C (m1_with p1 f 0) (cw1_with ⟨by decide, by decide⟩) 0 rfl rfl rfl rfl (Nat.le_of_ble_eq_true rfl) dX1_bestValue_25 (fun r w hw1 => ?_)
        obtain ⟨rfl, rfl⟩ := hw1
        refine xr_istore C dX1_bestValue_28 (by decide) rfl ?_
        refine xr_aload_n C dX1_bestValue_30 rfl ?_
        refine xr_iload C dX1_bestValue_31 rfl ?_
        refine xr_callWi C (hsc 0 (by decide)) (cw1_score ⟨by decide, by decide⟩) 0 rfl rfl rfl rfl (Nat.le_of_ble_eq_true rfl) dX1_bestValue_33 (fun r w hw1 => ?_)
        obtain ⟨rfl, hw1⟩ := hw1
        rcases hw1 with ⟨hn, -⟩ | ⟨-, rfl⟩
        · exact absurd (wfI_in hp hf (show 0 < 16 by decide)) hn
        · refine xr_istore C dX1_bestValue_36 (by decide) rfl ?_
          refine xr_iconst (v := nI 1) C dX1_bestValue_38 (by decide) ?_
          refine xr_istore C dX1_bestValue_39 (by decide) rfl ?_
          suffices H : ∀ (m v : Nat) (o4 o7 o8 : Option Value), v + m = 16 → 1 ≤ v → xW l ({ frames := 4, cells := 0, slots := 0, locals := 92 } : Room) D 9 K (x1w g cI sz ak nu lo hi) [some (.ref (g 0)), some (.int p1), some (.int (nI f)), some (.int (nI (bvF (fun v => smT (fun t i => valT (τ t) i) (fun p t => exT p (τ t)) (wfI p1 f v) 4) v).1)), o4, some (.int (bvF (fun v => smT (fun t i => valT (τ t) i) (fun p t => exT p (τ t)) (wfI p1 f v) 4) v).2), some (.int (nI v)), o7, o8] 41 [] by
            exact H 15 1 _ none none rfl (by decide)
          intro m
          induction m with
          | zero =>
            intro v o4 o7 o8 hvm hv1
            have : v = 16 := by omega
            subst this
            refine xr_iload C dX1_bestValue_41 rfl ?_
            refine xr_bipush (v := nI 16) C dX1_bestValue_43 (by decide) ?_
            refine xr_icmp_geN (tgt := 102) C (by omega) (by omega) dX1_bestValue_45 (by decide) (fun hc => ?_) (fun hc => ?_)
            · refine xr_iload_n C dX1_bestValue_102 rfl ?_
              exact xr_ireturn C E rfl dX1_bestValue_103 ⟨rfl, Or.inr ⟨f, hf, rfl, hp, rfl⟩⟩
            · omega
          | succ m ih =>
            intro v o4 o7 o8 hvm hv1
            have ih := fun (o4 o7 o8 : Option Value) => ih (v + 1) o4 o7 o8 (by omega) (by omega)
            have e : bvF (fun v => smT (fun t i => valT (τ t) i) (fun p t => exT p (τ t)) (wfI p1 f v) 4) (v + 1) = if v = 0 ∨ (bvF (fun v => smT (fun t i => valT (τ t) i) (fun p t => exT p (τ t)) (wfI p1 f v) 4) v).2 < smT (fun t i => valT (τ t) i) (fun p t => exT p (τ t)) (wfI p1 f v) 4 then (v, smT (fun t i => valT (τ t) i) (fun p t => exT p (τ t)) (wfI p1 f v) 4) else bvF (fun v => smT (fun t i => valT (τ t) i) (fun p t => exT p (τ t)) (wfI p1 f v) 4) v := rfl
            refine xr_iload C dX1_bestValue_41 rfl ?_
            refine xr_bipush (v := nI 16) C dX1_bestValue_43 (by decide) ?_
            refine xr_icmp_geN (tgt := 102) C (by omega) (by omega) dX1_bestValue_45 (by decide) (fun hc => ?_) (fun hc => ?_)
            · omega
            · refine xr_aload_n C dX1_bestValue_48 rfl ?_
              refine xr_iload_n C dX1_bestValue_49 rfl ?_
              refine xr_iload_n C dX1_bestValue_50 rfl ?_
              refine xr_iload C dX1_bestValue_51 rfl ?_
              refine xr_callWi C (m1_with p1 f v) (cw1_with ⟨by decide, by decide⟩) 0 rfl rfl rfl rfl (Nat.le_of_ble_eq_true rfl) dX1_bestValue_53 (fun r w hw1 => ?_)
              obtain ⟨rfl, rfl⟩ := hw1
              refine xr_istore C dX1_bestValue_56 (by decide) rfl ?_
              refine xr_aload_n C dX1_bestValue_58 rfl ?_
              refine xr_iload C dX1_bestValue_59 rfl ?_
              refine xr_callWi C (hsc v (by omega)) (cw1_score ⟨by decide, by decide⟩) 0 rfl rfl rfl rfl (Nat.le_of_ble_eq_true rfl) dX1_bestValue_61 (fun r w hw1 => ?_)
              obtain ⟨rfl, hw1⟩ := hw1
              rcases hw1 with ⟨hn, -⟩ | ⟨-, rfl⟩
              · exact absurd (wfI_in hp hf (show v < 16 by omega)) hn
              · refine xr_istore C dX1_bestValue_64 (by decide) rfl ?_
                refine xr_iload C dX1_bestValue_66 rfl ?_
                refine xr_iload C dX1_bestValue_68 rfl ?_
                refine xr_icmp_le (tgt := 78) C dX1_bestValue_70 (by decide) (fun h5 => ?_) (fun h5 => ?_)
                · rw [if_neg (fun h => h.elim (by omega) (fun h => absurd h (Int32.not_lt.mpr h5)))] at e
                  rw [e] at ih
                  refine xr_iload_n C dX1_bestValue_78 rfl ?_
                  refine xr_istore_n C dX1_bestValue_79 (by decide) rfl ?_
                  refine xr_iload C dX1_bestValue_80 rfl ?_
                  refine xr_iload C dX1_bestValue_82 rfl ?_
                  refine xr_icmp_le (tgt := 92) C dX1_bestValue_84 (by decide) (fun h6 => ?_) (fun h6 => ?_)
                  · refine xr_iload C dX1_bestValue_92 rfl ?_
                    refine xr_istore C dX1_bestValue_94 (by decide) rfl ?_
                    refine xr_iinc1 C dX1_bestValue_96 rfl (by decide) rfl ?_
                    refine xr_goto (tgt := 41) C dX1_bestValue_99 (by decide) ?_
                    exact ih _ _ _
                  · exact absurd h5 h6
                · rw [if_pos (Or.inr (Int32.not_le.mp h5))] at e
                  rw [e] at ih
                  refine xr_iload C dX1_bestValue_73 rfl ?_
                  refine xr_goto (tgt := 79) C dX1_bestValue_75 (by decide) ?_
                  refine xr_istore_n C dX1_bestValue_79 (by decide) rfl ?_
                  refine xr_iload C dX1_bestValue_80 rfl ?_
                  refine xr_iload C dX1_bestValue_82 rfl ?_
                  refine xr_icmp_le (tgt := 92) C dX1_bestValue_84 (by decide) (fun h6 => ?_) (fun h6 => ?_)
                  · exact absurd h6 h5
                  · refine xr_iload C dX1_bestValue_87 rfl ?_
                    refine xr_goto (tgt := 94) C dX1_bestValue_89 (by decide) ?_
                    refine xr_istore C dX1_bestValue_94 (by decide) rfl ?_
                    refine xr_iinc1 C dX1_bestValue_96 rfl (by decide) rfl ?_
                    refine xr_goto (tgt := 41) C dX1_bestValue_99 (by decide) ?_
                    exact ih _ _ _
      · refine xr_iconst (v := (-1)) C dX1_bestValue_17 (by decide) ?_
        exact xr_ireturn C E rfl dX1_bestValue_18 ⟨rfl, Or.inl ⟨fun h => xin_gt (N := 3) (by decide) (Int32.not_le.mp h2) h.2, rfl⟩⟩
  · refine xr_ifT_eq (tgt := 17) C rfl dX1_bestValue_5 (by decide) ?_
    refine xr_iconst (v := (-1)) C dX1_bestValue_17 (by decide) ?_
    exact xr_ireturn C E rfl dX1_bestValue_18 ⟨rfl, Or.inl ⟨fun h => hn h.1, rfl⟩⟩
end X1B
end
section
/-! TreeScorerModel: box, reachable, range, asks -/
set_option maxRecDepth 100000
def LO (τ : Nat → Tr) : Nat → Nat → Nat → Nat := fun t i f => loP (τ t) i f 0
def HI (τ : Nat → Tr) : Nat → Nat → Nat → Nat := fun t i f => hiP (τ t) i f 15
def akC (sz : Nat → Nat) (ak : Nat → Int32) (p : Int32) : Nat → Nat
  | 0 => 0
  | c + 1 => akC sz ak p c + (if c % 15 < sz (c / 15) ∧ ak c = p then 1 else 0)
theorem or_nI0 (x : Int32) : x ||| nI 0 = x := by
  apply Int32.toBitVec_inj.mp
  rw [Int32.toBitVec_or]
  have : (nI 0).toBitVec = 0#32 := by decide
  rw [this]
  simp
section X1C
variable {l : Launch} {D : va_G} {g : Nat → Nat} {cB cI cS : ClassId} {sz : Nat → Nat} {ak nu : Nat → Int32} {lo hi : Nat → Nat} {τ : Nat → Tr}
/-- box's walk down to the leaf at the place 'goal' -/
theorem lp1_box {K : xK} {R : Room} (hR : 1 ≤ R.frames ∧ 24 ≤ R.locals) (C : xOk R D (xT cB cI cS) 9 K cX1_box RX1) (t i0 goal : Nat) (ht : t < 4) (hg : goal < 15) (L Hh : Nat → Nat)
    (hk : ∀ (lo' hi' : Nat → Nat) (o4 o5 o6 o7 o8 : Option Value), (∀ f, f < 4 → lo' f ≤ 16 ∧ hi' f ≤ 15) → (∀ f, f < 4 → lo' f = L f ∧ hi' f = Hh f) → xW l R D 9 K (x1w g cI sz ak nu lo' hi') [some (.ref (g 0)), some (.int (nI t)), some (.int (nI i0)), some (.int (nI goal)), o4, o5, o6, o7, o8] 194 []) :
    ∀ (T : Tr) (p k i : Nat) (lo' hi' : Nat → Nat) (o6 o7 o8 : Option Value), okT T → hold ak nu (15 * t) T p → p + ln T ≤ 15 → k + nl T ≤ 8 → i < nl T → goal = p + posT T i → (∀ f, f < 4 → lo' f ≤ 16 ∧ hi' f ≤ 15) → (∀ f, f < 4 → loP T i f (lo' f) = L f) → (∀ f, f < 4 → hiP T i f (hi' f) = Hh f) →
      xW l R D 9 K (x1w g cI sz ak nu lo' hi') [some (.ref (g 0)), some (.int (nI t)), some (.int (nI i0)), some (.int (nI goal)), some (.int (nI p)), some (.int (nI k)), o6, o7, o8] 51 [] := by
  intro T
  induction T with
  | leaf v =>
    intro p k i lo' hi' o6 o7 o8 hok hh hp hk8 hi1 hgo hb hL hH
    have hgo : goal = p := hgo
    have hk8 : k + 1 ≤ 8 := hk8
    have fin := fun (o4 o5 : Option Value) => hk lo' hi' o4 o5 o6 o7 o8 hb (fun f hf => ⟨hL f hf, hH f hf⟩)
    refine xr_iload C dX1_box_51 rfl ?_
    refine xr_bipush (v := nI 7) C dX1_box_53 (by decide) ?_
    refine xr_icmp_geN (tgt := 194) C (by omega) (by omega) dX1_box_55 (by decide) (fun hc => ?_) (fun hc => ?_)
    · exact fin _ _
    · refine xr_iload C dX1_box_58 rfl ?_
      refine xr_iload_n C dX1_box_60 rfl ?_
      refine xr_icmp_geN (tgt := 194) C (by omega) (by omega) dX1_box_61 (by decide) (fun hc2 => ?_) (fun hc2 => ?_)
      · exact fin _ _
      · omega
  | branch d a b iha ihb =>
    intro p k i lo' hi' o6 o7 o8 hok hh hp hk8 hi1 hgo hb hL hH
    have hp : p + (1 + ln a + ln b) ≤ 15 := hp
    have hk8 : k + (nl a + nl b) ≤ 8 := hk8
    have hi1 : i < nl a + nl b := hi1
    have hna := ln_nl a
    have hna1 := nl_pos a
    have hnb := ln_nl b
    have hnb1 := nl_pos b
    have hd := hok.1
    have hf4 : d / 16 < 4 := by omega
    have hb1 := hb (d / 16) hf4
    have hpa := posT_lt a i
    rw [show posT (.branch d a b) i = if i < nl a then 1 + posT a i else 1 + ln a + posT b (i - nl a) from rfl] at hgo
    have hpg : p < goal := by
      split at hgo <;> omega
    refine xr_iload C dX1_box_51 rfl ?_
    refine xr_bipush (v := nI 7) C dX1_box_53 (by decide) ?_
    refine xr_icmp_geN (tgt := 194) C (by omega) (by omega) dX1_box_55 (by decide) (fun hc => ?_) (fun hc => ?_)
    · omega
    · refine xr_iload C dX1_box_58 rfl ?_
      refine xr_iload_n C dX1_box_60 rfl ?_
      refine xr_icmp_geN (tgt := 194) C (by omega) (by omega) dX1_box_61 (by decide) (fun hc2 => ?_) (fun hc2 => ?_)
      · omega
      · refine xr_aload_n C dX1_box_64 rfl ?_
        refine x1g_13 C 0 rfl rfl dX1_box_65 ?_
        refine xr_bipush (v := nI 15) C dX1_box_68 (by decide) ?_
        refine xr_iload_n C dX1_box_70 rfl ?_
        refine xr_imulN C dX1_box_71 ?_
        refine xr_iload C dX1_box_72 rfl ?_
        refine xr_iaddN C dX1_box_74 ?_
        refine xr_iald C 2 1 rfl rfl (by omega) (by decide) dX1_box_75 ?_
        rw [hh.1]
        refine xr_istore C dX1_box_76 (by decide) rfl ?_
        refine xr_aload_n C dX1_box_78 rfl ?_
        refine x1g_16 C 0 rfl rfl dX1_box_79 ?_
        refine xr_bipush (v := nI 15) C dX1_box_82 (by decide) ?_
        refine xr_iload_n C dX1_box_84 rfl ?_
        refine xr_imulN C dX1_box_85 ?_
        refine xr_iload C dX1_box_86 rfl ?_
        refine xr_iaddN C dX1_box_88 ?_
        refine xr_iald C 3 1 rfl rfl (by omega) (by decide) dX1_box_89 ?_
        rw [hh.2.1]
        refine xr_istore C dX1_box_90 (by decide) rfl ?_
        refine xr_aload_n C dX1_box_92 rfl ?_
        refine xr_iload_n C dX1_box_93 rfl ?_
        refine xr_iload C dX1_box_94 rfl ?_
        refine xr_iconst (v := nI 1) C dX1_box_96 (by decide) ?_
        refine xr_iaddN C dX1_box_97 ?_
        refine xr_callWi C (m1_behind t (p + 1) a ht hok.2.1 hh.2.2.1 (by omega)) (cw1_behind hR) 0 rfl rfl rfl rfl (Nat.le_of_ble_eq_true rfl) dX1_box_98 (fun r w hw1 => ?_)
        obtain ⟨rfl, rfl⟩ := hw1
        refine xr_istore C dX1_box_101 (by decide) rfl ?_
        refine xr_iload_n C dX1_box_103 rfl ?_
        refine xr_iload C dX1_box_104 rfl ?_
        refine xr_icmp_geN (tgt := 149) C (by omega) (by omega) dX1_box_106 (by decide) (fun hc3 => ?_) (fun hc3 => ?_)
        · have hni : ¬ i < nl a := by
            intro q
            rw [if_pos q] at hgo
            omega
          rw [if_neg hni] at hgo
          have hL2 : ∀ f, f < 4 → loP b (i - nl a) f (if d / 16 = f then (if lo' f < d % 16 + 1 then d % 16 + 1 else lo' f) else lo' f) = L f := by
            intro f hf
            have := hL f hf
            rw [show loP (.branch d a b) i f (lo' f) = if i < nl a then loP a i f (lo' f) else loP b (i - nl a) f (if d / 16 = f then (if lo' f < d % 16 + 1 then d % 16 + 1 else lo' f) else lo' f) from rfl, if_neg hni] at this
            exact this
          have hH2 : ∀ f, f < 4 → hiP b (i - nl a) f (hi' f) = Hh f := by
            intro f hf
            have := hH f hf
            rw [show hiP (.branch d a b) i f (hi' f) = if i < nl a then hiP a i f (if d / 16 = f then (if d % 16 < hi' f then d % 16 else hi' f) else hi' f) else hiP b (i - nl a) f (hi' f) from rfl, if_neg hni] at this
            exact this
          have go : ∀ x, x = (if lo' (d / 16) < d % 16 + 1 then d % 16 + 1 else lo' (d / 16)) → (∀ f, f < 4 → va_up lo' (d / 16) x f ≤ 16 ∧ hi' f ≤ 15) ∧ (∀ f, f < 4 → loP b (i - nl a) f (va_up lo' (d / 16) x f) = L f) := by
            intro x hx
            refine ⟨fun f hf => ⟨?_, (hb f hf).2⟩, fun f hf => ?_⟩
            · unfold va_up
              split
              · rw [hx]; split <;> omega
              · exact (hb f hf).1
            · rw [← hL2 f hf]
              congr 1
              unfold va_up
              by_cases q : f = d / 16
              · subst q
                rw [if_pos rfl, if_pos rfl]; exact hx
              · rw [if_neg q, if_neg (fun z => q z.symm)]
          refine xr_aload_n C dX1_box_149 rfl ?_
          refine x1g_19 C 0 rfl rfl dX1_box_150 ?_
          refine xr_iload C dX1_box_153 rfl ?_
          refine xr_iload C dX1_box_155 rfl ?_
          refine xr_iconst (v := nI 1) C dX1_box_157 (by decide) ?_
          refine xr_iaddN C dX1_box_158 ?_
          refine xr_aload_n C dX1_box_159 rfl ?_
          refine x1g_19 C 0 rfl rfl dX1_box_160 ?_
          refine xr_iload C dX1_box_163 rfl ?_
          refine xr_ialdN C 4 1 rfl rfl (by omega) (by decide) dX1_box_165 ?_
          refine xr_icmp_leN (tgt := 176) C (by omega) (by omega) dX1_box_166 (by decide) (fun h7 => ?_) (fun h7 => ?_)
          · obtain ⟨g1, g2⟩ := go (lo' (d / 16)) (by rw [if_neg (by omega)])
            refine xr_aload_n C dX1_box_176 rfl ?_
            refine x1g_19 C 0 rfl rfl dX1_box_177 ?_
            refine xr_iload C dX1_box_180 rfl ?_
            refine xr_ialdN C 4 1 rfl rfl (by omega) (by decide) dX1_box_182 ?_
            refine xr_iastN C 4 1 rfl rfl (by omega) (by decide) rfl dX1_box_183 ?_
            refine xr_iload C dX1_box_184 rfl ?_
            refine xr_istore C dX1_box_186 (by decide) rfl ?_
            refine xr_iinc1 C dX1_box_188 rfl (by decide) rfl ?_
            refine xr_goto (tgt := 51) C dX1_box_191 (by decide) ?_
            exact ihb (p + 1 + ln a) (k + 1) (i - nl a) _ hi' _ _ _ hok.2.2 hh.2.2.2 (by omega) (by omega) (by omega) (by omega) g1 g2 hH2
          · obtain ⟨g1, g2⟩ := go (d % 16 + 1) (by rw [if_pos h7])
            refine xr_iload C dX1_box_169 rfl ?_
            refine xr_iconst (v := nI 1) C dX1_box_171 (by decide) ?_
            refine xr_iaddN C dX1_box_172 ?_
            refine xr_goto (tgt := 183) C dX1_box_173 (by decide) ?_
            refine xr_iastN C 4 1 rfl rfl (by omega) (by decide) rfl dX1_box_183 ?_
            refine xr_iload C dX1_box_184 rfl ?_
            refine xr_istore C dX1_box_186 (by decide) rfl ?_
            refine xr_iinc1 C dX1_box_188 rfl (by decide) rfl ?_
            refine xr_goto (tgt := 51) C dX1_box_191 (by decide) ?_
            exact ihb (p + 1 + ln a) (k + 1) (i - nl a) _ hi' _ _ _ hok.2.2 hh.2.2.2 (by omega) (by omega) (by omega) (by omega) g1 g2 hH2
        · have hni : i < nl a := by
            rcases Nat.lt_or_ge i (nl a) with q | q
            · exact q
            · rw [if_neg (by omega)] at hgo
              omega
          rw [if_pos hni] at hgo
          have hL2 : ∀ f, f < 4 → loP a i f (lo' f) = L f := by
            intro f hf
            have := hL f hf
            rw [show loP (.branch d a b) i f (lo' f) = if i < nl a then loP a i f (lo' f) else loP b (i - nl a) f (if d / 16 = f then (if lo' f < d % 16 + 1 then d % 16 + 1 else lo' f) else lo' f) from rfl, if_pos hni] at this
            exact this
          have hH2 : ∀ f, f < 4 → hiP a i f (if d / 16 = f then (if d % 16 < hi' f then d % 16 else hi' f) else hi' f) = Hh f := by
            intro f hf
            have := hH f hf
            rw [show hiP (.branch d a b) i f (hi' f) = if i < nl a then hiP a i f (if d / 16 = f then (if d % 16 < hi' f then d % 16 else hi' f) else hi' f) else hiP b (i - nl a) f (hi' f) from rfl, if_pos hni] at this
            exact this
          have go : ∀ x, x = (if d % 16 < hi' (d / 16) then d % 16 else hi' (d / 16)) → (∀ f, f < 4 → lo' f ≤ 16 ∧ va_up hi' (d / 16) x f ≤ 15) ∧ (∀ f, f < 4 → hiP a i f (va_up hi' (d / 16) x f) = Hh f) := by
            intro x hx
            refine ⟨fun f hf => ⟨(hb f hf).1, ?_⟩, fun f hf => ?_⟩
            · unfold va_up
              split
              · rw [hx]; split <;> omega
              · exact (hb f hf).2
            · rw [← hH2 f hf]
              congr 1
              unfold va_up
              by_cases q : f = d / 16
              · subst q
                rw [if_pos rfl, if_pos rfl]; exact hx
              · rw [if_neg q, if_neg (fun z => q z.symm)]
          refine xr_aload_n C dX1_box_109 rfl ?_
          refine x1g_22 C 0 rfl rfl dX1_box_110 ?_
          refine xr_iload C dX1_box_113 rfl ?_
          refine xr_iload C dX1_box_115 rfl ?_
          refine xr_aload_n C dX1_box_117 rfl ?_
          refine x1g_22 C 0 rfl rfl dX1_box_118 ?_
          refine xr_iload C dX1_box_121 rfl ?_
          refine xr_ialdN C 5 1 rfl rfl (by omega) (by decide) dX1_box_123 ?_
          refine xr_icmp_geN (tgt := 132) C (by omega) (by omega) dX1_box_124 (by decide) (fun h7 => ?_) (fun h7 => ?_)
          · obtain ⟨g1, g2⟩ := go (hi' (d / 16)) (by rw [if_neg (by omega)])
            refine xr_aload_n C dX1_box_132 rfl ?_
            refine x1g_22 C 0 rfl rfl dX1_box_133 ?_
            refine xr_iload C dX1_box_136 rfl ?_
            refine xr_ialdN C 5 1 rfl rfl (by omega) (by decide) dX1_box_138 ?_
            refine xr_iastN C 5 1 rfl rfl (by omega) (by decide) rfl dX1_box_139 ?_
            refine xr_iload C dX1_box_140 rfl ?_
            refine xr_iconst (v := nI 1) C dX1_box_142 (by decide) ?_
            refine xr_iaddN C dX1_box_143 ?_
            refine xr_istore C dX1_box_144 (by decide) rfl ?_
            refine xr_goto (tgt := 188) C dX1_box_146 (by decide) ?_
            refine xr_iinc1 C dX1_box_188 rfl (by decide) rfl ?_
            refine xr_goto (tgt := 51) C dX1_box_191 (by decide) ?_
            exact iha (p + 1) (k + 1) i lo' _ _ _ _ hok.2.1 hh.2.2.1 (by omega) (by omega) hni (by omega) g1 hL2 g2
          · obtain ⟨g1, g2⟩ := go (d % 16) (by rw [if_pos h7])
            refine xr_iload C dX1_box_127 rfl ?_
            refine xr_goto (tgt := 139) C dX1_box_129 (by decide) ?_
            refine xr_iastN C 5 1 rfl rfl (by omega) (by decide) rfl dX1_box_139 ?_
            refine xr_iload C dX1_box_140 rfl ?_
            refine xr_iconst (v := nI 1) C dX1_box_142 (by decide) ?_
            refine xr_iaddN C dX1_box_143 ?_
            refine xr_istore C dX1_box_144 (by decide) rfl ?_
            refine xr_goto (tgt := 188) C dX1_box_146 (by decide) ?_
            refine xr_iinc1 C dX1_box_188 rfl (by decide) rfl ?_
            refine xr_goto (tgt := 51) C dX1_box_191 (by decide) ?_
            exact iha (p + 1) (k + 1) i lo' _ _ _ _ hok.2.1 hh.2.2.1 (by omega) (by omega) hni (by omega) g1 hL2 g2
/-- box -/
theorem m1_box (h : r1 τ sz ak nu) (p1 p2 : Int32) : xMi l D (xT cB cI cS) yX1_box cX1_box 9 .boolean ({ frames := 2, cells := 0, slots := 0, locals := 45 } : Room) [.ref (g 0), .int p1, .int p2] (x1w g cI sz ak nu lo hi) (fun r w => (¬ xlf (fun t => nl (τ t)) p1 p2 ∧ r = 0 ∧ w = x1w g cI sz ak nu lo hi) ∨ ∃ t i, t < 4 ∧ i < nl (τ t) ∧ p1 = nI t ∧ p2 = nI i ∧ ∃ lo' hi' : Nat → Nat, (∀ f, f < 4 → lo' f = LO τ t i f ∧ hi' f = HI τ t i f) ∧ w = x1w g cI sz ak nu lo' hi' ∧ ((r = 1 ∧ crT (LO τ) (HI τ) t i) ∨ (r = 0 ∧ ¬ crT (LO τ) (HI τ) t i))) := by
  refine xMi_of 6 rfl rfl (Nat.le_of_ble_eq_true rfl) (fun K C E => ?_)
  refine xr_aload_n C dX1_box_0 rfl ?_
  refine xr_iload_n C dX1_box_1 rfl ?_
  refine xr_iload_n C dX1_box_2 rfl ?_
  refine xr_callWi C (m1_find h p1 p2) (cw1_find ⟨by decide, by decide⟩) 0 rfl rfl rfl rfl (Nat.le_of_ble_eq_true rfl) dX1_box_3 (fun r w hw1 => ?_)
  obtain ⟨rfl, hw1⟩ := hw1
  rcases hw1 with ⟨hn, rfl⟩ | ⟨t, i, ht, hi1, rfl, rfl, rfl⟩
  · refine xr_istore_n C dX1_box_6 (by decide) rfl ?_
    refine xr_iload_n C dX1_box_7 rfl ?_
    refine xr_ifF_ge (tgt := 13) C (by decide) dX1_box_8 (by decide) ?_
    refine xr_iconst (v := nI 0) C dX1_box_11 (by decide) ?_
    exact xr_ireturn C E rfl dX1_box_12 (Or.inl ⟨hn, by decide, rfl⟩)
  · obtain ⟨s1, s2, s3, s4⟩ := r1_sz h ht
    obtain ⟨e1, e2, e3, e4⟩ := h t ht
    have hlt := posT_lt (τ t) i
    refine xr_istore_n C dX1_box_6 (by decide) rfl ?_
    refine xr_iload_n C dX1_box_7 rfl ?_
    refine xr_ifT_ge (tgt := 13) C (nI_pos' (by omega)) dX1_box_8 (by decide) ?_
    refine xr_iconst (v := nI 0) C dX1_box_13 (by decide) ?_
    refine xr_istore C dX1_box_14 (by decide) rfl ?_
    suffices H : ∀ (m f : Nat) (lo' hi' : Nat → Nat), f + m = 4 → (∀ j, j < f → lo' j = 0 ∧ hi' j = 15) → xW l ({ frames := 2, cells := 0, slots := 0, locals := 45 } : Room) D 9 K (x1w g cI sz ak nu lo' hi') [some (.ref (g 0)), some (.int (nI t)), some (.int (nI i)), some (.int (nI (posT (τ t) i))), some (.int (nI f)), none, none, none, none] 16 [] by
      exact H 4 0 lo hi rfl (fun j hj => absurd hj (Nat.not_lt_zero j))
    intro m
    induction m with
    | zero =>
      intro f lo' hi' hfm hlh
      have : f = 4 := by omega
      subst this
      refine xr_iload C dX1_box_16 rfl ?_
      refine xr_iconst (v := nI 4) C dX1_box_18 (by decide) ?_
      refine xr_icmp_geN (tgt := 45) C (by omega) (by omega) dX1_box_19 (by decide) (fun hc => ?_) (fun hc => ?_)
      · refine xr_iconst (v := nI 0) C dX1_box_45 (by decide) ?_
        refine xr_istore C dX1_box_46 (by decide) rfl ?_
        refine xr_iconst (v := nI 0) C dX1_box_48 (by decide) ?_
        refine xr_istore C dX1_box_49 (by decide) rfl ?_
        refine lp1_box ⟨by decide, by decide⟩ C t i (posT (τ t) i) ht (by omega) (LO τ t i) (HI τ t i) (fun lo2 hi2 o4 o5 o6 o7 o8 hb2 hlh2 => ?_) (τ t) 0 0 i lo' hi' _ _ _ e3 e2 (by omega) (by omega) hi1 (by omega) (fun f hf => by rw [(hlh f hf).1, (hlh f hf).2]; omega) (fun f hf => by rw [(hlh f hf).1]; rfl) (fun f hf => by rw [(hlh f hf).2]; rfl)
        have b0 := hb2 0 (by omega)
        have b1 := hb2 1 (by omega)
        have b2 := hb2 2 (by omega)
        have b3 := hb2 3 (by omega)
        have l0 := hlh2 0 (by omega)
        have l1 := hlh2 1 (by omega)
        have l2 := hlh2 2 (by omega)
        have l3 := hlh2 3 (by omega)
        have no : ∀ f, f < 4 → hi2 f < lo2 f → ¬ crT (LO τ) (HI τ) t i := fun f hf q hcr => by
          have := hcr f hf
          rw [← (hlh2 f hf).1, ← (hlh2 f hf).2] at this
          omega
        refine xr_aload_n C dX1_box_194 rfl ?_
        refine x1g_19 C 0 rfl rfl dX1_box_195 ?_
        refine xr_iconst (v := nI 0) C dX1_box_198 (by decide) ?_
        refine xr_ialdN C 4 1 rfl rfl (by omega) (by decide) dX1_box_199 ?_
        refine xr_aload_n C dX1_box_200 rfl ?_
        refine x1g_22 C 0 rfl rfl dX1_box_201 ?_
        refine xr_iconst (v := nI 0) C dX1_box_204 (by decide) ?_
        refine xr_ialdN C 5 1 rfl rfl (by omega) (by decide) dX1_box_205 ?_
        refine xr_icmp_gtN (tgt := 258) C (by omega) (by omega) dX1_box_206 (by decide) (fun h0 => ?_) (fun h0 => ?_)
        · refine xr_iconst (v := nI 0) C dX1_box_258 (by decide) ?_
          exact xr_ireturn C E rfl dX1_box_259 (Or.inr ⟨t, i, ht, hi1, rfl, rfl, lo2, hi2, hlh2, rfl, Or.inr ⟨by decide, no 0 (by omega) h0⟩⟩)
        · refine xr_aload_n C dX1_box_209 rfl ?_
          refine x1g_19 C 0 rfl rfl dX1_box_210 ?_
          refine xr_iconst (v := nI 1) C dX1_box_213 (by decide) ?_
          refine xr_ialdN C 4 1 rfl rfl (by omega) (by decide) dX1_box_214 ?_
          refine xr_aload_n C dX1_box_215 rfl ?_
          refine x1g_22 C 0 rfl rfl dX1_box_216 ?_
          refine xr_iconst (v := nI 1) C dX1_box_219 (by decide) ?_
          refine xr_ialdN C 5 1 rfl rfl (by omega) (by decide) dX1_box_220 ?_
          refine xr_icmp_gtN (tgt := 258) C (by omega) (by omega) dX1_box_221 (by decide) (fun h1 => ?_) (fun h1 => ?_)
          · refine xr_iconst (v := nI 0) C dX1_box_258 (by decide) ?_
            exact xr_ireturn C E rfl dX1_box_259 (Or.inr ⟨t, i, ht, hi1, rfl, rfl, lo2, hi2, hlh2, rfl, Or.inr ⟨by decide, no 1 (by omega) h1⟩⟩)
          · refine xr_aload_n C dX1_box_224 rfl ?_
            refine x1g_19 C 0 rfl rfl dX1_box_225 ?_
            refine xr_iconst (v := nI 2) C dX1_box_228 (by decide) ?_
            refine xr_ialdN C 4 1 rfl rfl (by omega) (by decide) dX1_box_229 ?_
            refine xr_aload_n C dX1_box_230 rfl ?_
            refine x1g_22 C 0 rfl rfl dX1_box_231 ?_
            refine xr_iconst (v := nI 2) C dX1_box_234 (by decide) ?_
            refine xr_ialdN C 5 1 rfl rfl (by omega) (by decide) dX1_box_235 ?_
            refine xr_icmp_gtN (tgt := 258) C (by omega) (by omega) dX1_box_236 (by decide) (fun h2 => ?_) (fun h2 => ?_)
            · refine xr_iconst (v := nI 0) C dX1_box_258 (by decide) ?_
              exact xr_ireturn C E rfl dX1_box_259 (Or.inr ⟨t, i, ht, hi1, rfl, rfl, lo2, hi2, hlh2, rfl, Or.inr ⟨by decide, no 2 (by omega) h2⟩⟩)
            · refine xr_aload_n C dX1_box_239 rfl ?_
              refine x1g_19 C 0 rfl rfl dX1_box_240 ?_
              refine xr_iconst (v := nI 3) C dX1_box_243 (by decide) ?_
              refine xr_ialdN C 4 1 rfl rfl (by omega) (by decide) dX1_box_244 ?_
              refine xr_aload_n C dX1_box_245 rfl ?_
              refine x1g_22 C 0 rfl rfl dX1_box_246 ?_
              refine xr_iconst (v := nI 3) C dX1_box_249 (by decide) ?_
              refine xr_ialdN C 5 1 rfl rfl (by omega) (by decide) dX1_box_250 ?_
              refine xr_icmp_gtN (tgt := 258) C (by omega) (by omega) dX1_box_251 (by decide) (fun h3 => ?_) (fun h3 => ?_)
              · refine xr_iconst (v := nI 0) C dX1_box_258 (by decide) ?_
                exact xr_ireturn C E rfl dX1_box_259 (Or.inr ⟨t, i, ht, hi1, rfl, rfl, lo2, hi2, hlh2, rfl, Or.inr ⟨by decide, no 3 (by omega) h3⟩⟩)
              · refine xr_iconst (v := nI 1) C dX1_box_254 (by decide) ?_
                refine xr_goto (tgt := 259) C dX1_box_255 (by decide) ?_
                exact xr_ireturn C E rfl dX1_box_259 (Or.inr ⟨t, i, ht, hi1, rfl, rfl, lo2, hi2, hlh2, rfl, Or.inl ⟨by decide, fun f hf => by
                  rw [← (hlh2 f hf).1, ← (hlh2 f hf).2]
                  have q : f = 0 ∨ f = 1 ∨ f = 2 ∨ f = 3 := by omega
                  rcases q with q | q | q | q <;> subst q <;> omega⟩⟩)
      · omega
    | succ m ih =>
      intro f lo' hi' hfm hlh
      refine xr_iload C dX1_box_16 rfl ?_
      refine xr_iconst (v := nI 4) C dX1_box_18 (by decide) ?_
      refine xr_icmp_geN (tgt := 45) C (by omega) (by omega) dX1_box_19 (by decide) (fun hc => ?_) (fun hc => ?_)
      · omega
      · refine xr_aload_n C dX1_box_22 rfl ?_
        refine x1g_19 C 0 rfl rfl dX1_box_23 ?_
        refine xr_iload C dX1_box_26 rfl ?_
        refine xr_iconst (v := nI 0) C dX1_box_28 (by decide) ?_
        refine xr_iastN C 4 1 rfl rfl (by omega) (by decide) rfl dX1_box_29 ?_
        refine xr_aload_n C dX1_box_30 rfl ?_
        refine x1g_22 C 0 rfl rfl dX1_box_31 ?_
        refine xr_iload C dX1_box_34 rfl ?_
        refine xr_bipush (v := nI 15) C dX1_box_36 (by decide) ?_
        refine xr_iastN C 5 1 rfl rfl (by omega) (by decide) rfl dX1_box_38 ?_
        refine xr_iinc1 C dX1_box_39 rfl (by decide) rfl ?_
        refine xr_goto (tgt := 16) C dX1_box_42 (by decide) ?_
        refine ih (f + 1) _ _ (by omega) (fun j hj => ?_)
        by_cases q : j = f
        · subst q; simp [va_up]
        · simp only [va_up, if_neg q]; exact hlh j (by omega)
/-- reachable -/
theorem m1_reachable (h : r1 τ sz ak nu) (p1 : Int32) : xMi l D (xT cB cI cS) yX1_reachable cX1_reachable 4 .int ({ frames := 3, cells := 0, slots := 0, locals := 73 } : Room) [.ref (g 0), .int p1] (x1w g cI sz ak nu lo hi) (fun r w => (∃ lo' hi', w = x1w g cI sz ak nu lo' hi') ∧ ((¬ xin p1 4 ∧ r = nI 0) ∨ ∃ t, t < 4 ∧ p1 = nI t ∧ r = rcF (fun i => i < nl (τ t) ∧ crT (LO τ) (HI τ) t i) 8)) := by
  refine xMi_of 2 rfl rfl (Nat.le_of_ble_eq_true rfl) (fun K C E => ?_)
  refine xr_iconst (v := nI 0) C dX1_reachable_0 (by decide) ?_
  refine xr_istore_n C dX1_reachable_1 (by decide) rfl ?_
  refine xr_iconst (v := nI 0) C dX1_reachable_2 (by decide) ?_
  refine xr_istore_n C dX1_reachable_3 (by decide) rfl ?_
  by_cases hv : xin p1 4
  · obtain ⟨t, ht, rfl⟩ := hv
    obtain ⟨s1, s2, s3, s4⟩ := r1_sz h ht
    suffices H : ∀ (m i : Nat) (lo' hi' : Nat → Nat), i + m = 8 → xW l ({ frames := 3, cells := 0, slots := 0, locals := 73 } : Room) D 4 K (x1w g cI sz ak nu lo' hi') [some (.ref (g 0)), some (.int (nI t)), some (.int (rcF (fun i => i < nl (τ t) ∧ crT (LO τ) (HI τ) t i) i)), some (.int (nI i))] 4 [] by
      exact H 8 0 lo hi rfl
    intro m
    induction m with
    | zero =>
      intro i lo' hi' him
      have : i = 8 := by omega
      subst this
      refine xr_iload_n C dX1_reachable_4 rfl ?_
      refine xr_bipush (v := nI 8) C dX1_reachable_5 (by decide) ?_
      refine xr_icmp_geN (tgt := 35) C (by omega) (by omega) dX1_reachable_7 (by decide) (fun hc => ?_) (fun hc => ?_)
      · refine xr_iload_n C dX1_reachable_35 rfl ?_
        exact xr_ireturn C E rfl dX1_reachable_36 ⟨⟨lo', hi', rfl⟩, Or.inr ⟨t, ht, rfl, rfl⟩⟩
      · omega
    | succ m ih =>
      intro i lo' hi' him
      have ih := fun (lo' hi' : Nat → Nat) => ih (i + 1) lo' hi' (by omega)
      have e : rcF (fun i => i < nl (τ t) ∧ crT (LO τ) (HI τ) t i) (i + 1) = rcF (fun i => i < nl (τ t) ∧ crT (LO τ) (HI τ) t i) i ||| (@ite _ (i < nl (τ t) ∧ crT (LO τ) (HI τ) t i) (Classical.propDecidable _) (nI 1 <<< (nI i &&& 31)) (nI 0)) := rfl
      refine xr_iload_n C dX1_reachable_4 rfl ?_
      refine xr_bipush (v := nI 8) C dX1_reachable_5 (by decide) ?_
      refine xr_icmp_geN (tgt := 35) C (by omega) (by omega) dX1_reachable_7 (by decide) (fun hc => ?_) (fun hc => ?_)
      · omega
      · refine xr_aload_n C dX1_reachable_10 rfl ?_
        refine xr_iload_n C dX1_reachable_11 rfl ?_
        refine xr_iload_n C dX1_reachable_12 rfl ?_
        refine xr_callWi C (m1_box h (nI t) (nI i)) (cw1_box ⟨by decide, by decide⟩) 0 rfl rfl rfl rfl (Nat.le_of_ble_eq_true rfl) dX1_reachable_13 (fun r w hw1 => ?_)
        rcases hw1 with ⟨hn, rfl, rfl⟩ | ⟨t', i', ht', hi', q1, q2, lo2, hi2, -, rfl, hw1⟩
        · rw [if_neg (fun q => hn ⟨t, i, ht, q.1, rfl, rfl⟩), or_nI0] at e
          rw [e] at ih
          refine xr_ifT_eq (tgt := 27) C rfl dX1_reachable_16 (by decide) ?_
          refine xr_iload_n C dX1_reachable_27 rfl ?_
          refine xr_istore_n C dX1_reachable_28 (by decide) rfl ?_
          refine xr_iinc1 C dX1_reachable_29 rfl (by decide) rfl ?_
          refine xr_goto (tgt := 4) C dX1_reachable_32 (by decide) ?_
          exact ih _ _
        · have e1 := nI_inj (by omega) (by omega) q1
          subst e1
          have e2 := nI_inj (by omega) (by omega) q2
          subst e2
          rcases hw1 with ⟨rfl, hcr⟩ | ⟨rfl, hcr⟩
          · rw [if_pos ⟨hi', hcr⟩] at e
            rw [e] at ih
            refine xr_ifF_eq (tgt := 27) C (by decide) dX1_reachable_16 (by decide) ?_
            refine xr_iload_n C dX1_reachable_19 rfl ?_
            refine xr_iconst (v := nI 1) C dX1_reachable_20 (by decide) ?_
            refine xr_iload_n C dX1_reachable_21 rfl ?_
            refine xr_ishl C dX1_reachable_22 ?_
            refine xr_ior C dX1_reachable_23 ?_
            refine xr_goto (tgt := 28) C dX1_reachable_24 (by decide) ?_
            refine xr_istore_n C dX1_reachable_28 (by decide) rfl ?_
            refine xr_iinc1 C dX1_reachable_29 rfl (by decide) rfl ?_
            refine xr_goto (tgt := 4) C dX1_reachable_32 (by decide) ?_
            exact ih _ _
          · rw [if_neg (fun q => hcr q.2), or_nI0] at e
            rw [e] at ih
            refine xr_ifT_eq (tgt := 27) C rfl dX1_reachable_16 (by decide) ?_
            refine xr_iload_n C dX1_reachable_27 rfl ?_
            refine xr_istore_n C dX1_reachable_28 (by decide) rfl ?_
            refine xr_iinc1 C dX1_reachable_29 rfl (by decide) rfl ?_
            refine xr_goto (tgt := 4) C dX1_reachable_32 (by decide) ?_
            exact ih _ _
  · suffices H : ∀ (m i : Nat) (lo' hi' : Nat → Nat), i + m = 8 → xW l ({ frames := 3, cells := 0, slots := 0, locals := 73 } : Room) D 4 K (x1w g cI sz ak nu lo' hi') [some (.ref (g 0)), some (.int p1), some (.int (nI 0)), some (.int (nI i))] 4 [] by
      exact H 8 0 lo hi rfl
    intro m
    induction m with
    | zero =>
      intro i lo' hi' him
      have : i = 8 := by omega
      subst this
      refine xr_iload_n C dX1_reachable_4 rfl ?_
      refine xr_bipush (v := nI 8) C dX1_reachable_5 (by decide) ?_
      refine xr_icmp_geN (tgt := 35) C (by omega) (by omega) dX1_reachable_7 (by decide) (fun hc => ?_) (fun hc => ?_)
      · refine xr_iload_n C dX1_reachable_35 rfl ?_
        exact xr_ireturn C E rfl dX1_reachable_36 ⟨⟨lo', hi', rfl⟩, Or.inl ⟨hv, rfl⟩⟩
      · omega
    | succ m ih =>
      intro i lo' hi' him
      refine xr_iload_n C dX1_reachable_4 rfl ?_
      refine xr_bipush (v := nI 8) C dX1_reachable_5 (by decide) ?_
      refine xr_icmp_geN (tgt := 35) C (by omega) (by omega) dX1_reachable_7 (by decide) (fun hc => ?_) (fun hc => ?_)
      · omega
      · refine xr_aload_n C dX1_reachable_10 rfl ?_
        refine xr_iload_n C dX1_reachable_11 rfl ?_
        refine xr_iload_n C dX1_reachable_12 rfl ?_
        refine xr_callWi C (m1_box h p1 (nI i)) (cw1_box ⟨by decide, by decide⟩) 0 rfl rfl rfl rfl (Nat.le_of_ble_eq_true rfl) dX1_reachable_13 (fun r w hw1 => ?_)
        rcases hw1 with ⟨hn, rfl, rfl⟩ | ⟨t', i', ht', hi', q1, q2, lo2, hi2, -, rfl, hw1⟩
        · refine xr_ifT_eq (tgt := 27) C rfl dX1_reachable_16 (by decide) ?_
          refine xr_iload_n C dX1_reachable_27 rfl ?_
          refine xr_istore_n C dX1_reachable_28 (by decide) rfl ?_
          refine xr_iinc1 C dX1_reachable_29 rfl (by decide) rfl ?_
          refine xr_goto (tgt := 4) C dX1_reachable_32 (by decide) ?_
          exact ih (i + 1) _ _ (by omega)
        · exact absurd ⟨t', ht', q1⟩ hv
/-- range -/
theorem m1_range (h : r1 τ sz ak nu) (p1 p2 p3 p4 : Int32) : xMi l D (xT cB cI cS) yX1_range cX1_range 5 .int ({ frames := 3, cells := 0, slots := 0, locals := 73 } : Room) [.ref (g 0), .int p1, .int p2, .int p3, .int p4] (x1w g cI sz ak nu lo hi) (fun r w => (∃ lo' hi', w = x1w g cI sz ak nu lo' hi') ∧ ((¬ (xlf (fun t => nl (τ t)) p1 p2 ∧ xin p3 4 ∧ xin p4 2) ∧ r = -1) ∨ ∃ t i f z, t < 4 ∧ i < nl (τ t) ∧ f < 4 ∧ z < 2 ∧ p1 = nI t ∧ p2 = nI i ∧ p3 = nI f ∧ p4 = nI z ∧ ((¬ crT (LO τ) (HI τ) t i ∧ r = -1) ∨ (crT (LO τ) (HI τ) t i ∧ r = nI (if z = 0 then LO τ t i f else HI τ t i f))))) := by
  refine xMi_of 0 rfl rfl (Nat.le_of_ble_eq_true rfl) (fun K C E => ?_)
  refine xr_aload_n C dX1_range_0 rfl ?_
  refine xr_iload_n C dX1_range_1 rfl ?_
  refine xr_iload_n C dX1_range_2 rfl ?_
  refine xr_callWi C (m1_box h p1 p2) (cw1_box ⟨by decide, by decide⟩) 0 rfl rfl rfl rfl (Nat.le_of_ble_eq_true rfl) dX1_range_3 (fun r w hw1 => ?_)
  rcases hw1 with ⟨hn, rfl, rfl⟩ | ⟨t, i, ht, hi1, rfl, rfl, lo2, hi2, hlh, rfl, hw1⟩
  · refine xr_ifT_eq (tgt := 29) C rfl dX1_range_6 (by decide) ?_
    refine xr_iconst (v := (-1)) C dX1_range_29 (by decide) ?_
    exact xr_ireturn C E rfl dX1_range_30 ⟨⟨_, _, rfl⟩, Or.inl ⟨fun h => hn h.1, rfl⟩⟩
  · by_cases hv : xin p3 4 ∧ xin p4 2
    · obtain ⟨⟨f, hf, rfl⟩, ⟨z, hz, rfl⟩⟩ := hv
      rcases hw1 with ⟨rfl, hcr⟩ | ⟨rfl, hcr⟩
      · refine xr_ifF_eq (tgt := 29) C (by decide) dX1_range_6 (by decide) ?_
        refine xr_iload_n C dX1_range_9 rfl ?_
        refine xr_ifF_lt (tgt := 29) C (nI_pos (by omega)) dX1_range_10 (by decide) ?_
        refine xr_iload_n C dX1_range_13 rfl ?_
        refine xr_iconst (v := nI 3) C dX1_range_14 (by decide) ?_
        refine xr_icmp_gtN (tgt := 29) C (by omega) (by omega) dX1_range_15 (by decide) (fun hc => ?_) (fun hc => ?_)
        · omega
        · refine xr_iload C dX1_range_18 rfl ?_
          refine xr_if_eqN (tgt := 31) C (by omega) dX1_range_20 (by decide) (fun h1 => ?_) (fun h1 => ?_)
          · refine xr_iload C dX1_range_31 rfl ?_
            refine xr_if_neN (tgt := 45) C (by omega) dX1_range_33 (by decide) (fun h2 => ?_) (fun h2 => ?_)
            · omega
            · refine xr_aload_n C dX1_range_36 rfl ?_
              refine x1g_19 C 0 rfl rfl dX1_range_37 ?_
              refine xr_iload_n C dX1_range_40 rfl ?_
              refine xr_ialdN C 4 1 rfl rfl (by omega) (by decide) dX1_range_41 ?_
              refine xr_goto (tgt := 51) C dX1_range_42 (by decide) ?_
              exact xr_ireturn C E rfl dX1_range_51 ⟨⟨_, _, rfl⟩, Or.inr ⟨t, i, f, z, ht, hi1, hf, hz, rfl, rfl, rfl, rfl, Or.inr ⟨hcr, by rw [if_pos h1, (hlh f hf).1]⟩⟩⟩
          · refine xr_iload C dX1_range_23 rfl ?_
            refine xr_iconst (v := nI 1) C dX1_range_25 (by decide) ?_
            refine xr_icmp_eqN (tgt := 31) C (by omega) (by omega) dX1_range_26 (by decide) (fun h3 => ?_) (fun h3 => ?_)
            · refine xr_iload C dX1_range_31 rfl ?_
              refine xr_if_neN (tgt := 45) C (by omega) dX1_range_33 (by decide) (fun h2 => ?_) (fun h2 => ?_)
              · refine xr_aload_n C dX1_range_45 rfl ?_
                refine x1g_22 C 0 rfl rfl dX1_range_46 ?_
                refine xr_iload_n C dX1_range_49 rfl ?_
                refine xr_ialdN C 5 1 rfl rfl (by omega) (by decide) dX1_range_50 ?_
                exact xr_ireturn C E rfl dX1_range_51 ⟨⟨_, _, rfl⟩, Or.inr ⟨t, i, f, z, ht, hi1, hf, hz, rfl, rfl, rfl, rfl, Or.inr ⟨hcr, by rw [if_neg (by omega), (hlh f hf).2]⟩⟩⟩
              · omega
            · omega
      · refine xr_ifT_eq (tgt := 29) C rfl dX1_range_6 (by decide) ?_
        refine xr_iconst (v := (-1)) C dX1_range_29 (by decide) ?_
        exact xr_ireturn C E rfl dX1_range_30 ⟨⟨_, _, rfl⟩, Or.inr ⟨t, i, f, z, ht, hi1, hf, hz, rfl, rfl, rfl, rfl, Or.inl ⟨hcr, rfl⟩⟩⟩
    · have bad : ¬ (xlf (fun t => nl (τ t)) (nI t) (nI i) ∧ xin p3 4 ∧ xin p4 2) := fun q => hv q.2
      rcases hw1 with ⟨rfl, hcr⟩ | ⟨rfl, hcr⟩
      · refine xr_ifF_eq (tgt := 29) C (by decide) dX1_range_6 (by decide) ?_
        refine xr_iload_n C dX1_range_9 rfl ?_
        refine xr_if_lt (tgt := 29) C dX1_range_10 (by decide) (fun h1 => ?_) (fun h1 => ?_)
        · refine xr_iconst (v := (-1)) C dX1_range_29 (by decide) ?_
          exact xr_ireturn C E rfl dX1_range_30 ⟨⟨_, _, rfl⟩, Or.inl ⟨bad, rfl⟩⟩
        · refine xr_iload_n C dX1_range_13 rfl ?_
          refine xr_iconst (v := nI 3) C dX1_range_14 (by decide) ?_
          refine xr_icmp_gt (tgt := 29) C dX1_range_15 (by decide) (fun h2 => ?_) (fun h2 => ?_)
          · refine xr_iconst (v := (-1)) C dX1_range_29 (by decide) ?_
            exact xr_ireturn C E rfl dX1_range_30 ⟨⟨_, _, rfl⟩, Or.inl ⟨bad, rfl⟩⟩
          · have hf := xin_of' (N := 3) (by decide) h1 h2
            refine xr_iload C dX1_range_18 rfl ?_
            refine xr_if_eq (tgt := 31) C dX1_range_20 (by decide) (fun h3 => ?_) (fun h3 => ?_)
            · exact absurd ⟨hf, 0, by decide, h3⟩ hv
            · refine xr_iload C dX1_range_23 rfl ?_
              refine xr_iconst (v := nI 1) C dX1_range_25 (by decide) ?_
              refine xr_icmp_eq (tgt := 31) C dX1_range_26 (by decide) (fun h4 => ?_) (fun h4 => ?_)
              · exact absurd ⟨hf, 1, by decide, h4⟩ hv
              · refine xr_iconst (v := (-1)) C dX1_range_29 (by decide) ?_
                exact xr_ireturn C E rfl dX1_range_30 ⟨⟨_, _, rfl⟩, Or.inl ⟨bad, rfl⟩⟩
      · refine xr_ifT_eq (tgt := 29) C rfl dX1_range_6 (by decide) ?_
        refine xr_iconst (v := (-1)) C dX1_range_29 (by decide) ?_
        exact xr_ireturn C E rfl dX1_range_30 ⟨⟨_, _, rfl⟩, Or.inl ⟨bad, rfl⟩⟩
/-- asks -/
theorem m1_asks (h : r1 τ sz ak nu) (p1 : Int32) : xMi l D (xT cB cI cS) yX1_asks cX1_asks 4 .int ({ frames := 0, cells := 0, slots := 0, locals := 0 } : Room) [.ref (g 0), .int p1] (x1w g cI sz ak nu lo hi) (fun r w => w = x1w g cI sz ak nu lo hi ∧ ((¬ xin p1 4 ∧ r = -1) ∨ (xin p1 4 ∧ r = nI (akC sz ak p1 60)))) := by
  refine xMi_of 2 rfl rfl (Nat.le_of_ble_eq_true rfl) (fun K C E => ?_)
  refine xr_iconst (v := nI 0) C dX1_asks_0 (by decide) ?_
  refine xr_istore_n C dX1_asks_1 (by decide) rfl ?_
  refine xr_iconst (v := nI 0) C dX1_asks_2 (by decide) ?_
  refine xr_istore_n C dX1_asks_3 (by decide) rfl ?_
  suffices H : ∀ (m c : Nat), c + m = 60 → xW l ({ frames := 0, cells := 0, slots := 0, locals := 0 } : Room) D 4 K (x1w g cI sz ak nu lo hi) [some (.ref (g 0)), some (.int p1), some (.int (nI (akC sz ak p1 c))), some (.int (nI c))] 4 [] by
    exact H 60 0 rfl
  intro m
  induction m with
  | zero =>
    intro c hcm
    have : c = 60 := by omega
    subst this
    refine xr_iload_n C dX1_asks_4 rfl ?_
    refine xr_bipush (v := nI 60) C dX1_asks_5 (by decide) ?_
    refine xr_icmp_geN (tgt := 50) C (by omega) (by omega) dX1_asks_7 (by decide) (fun hc => ?_) (fun hc => ?_)
    · refine xr_iload_n C dX1_asks_50 rfl ?_
      refine xr_if_lt (tgt := 59) C dX1_asks_51 (by decide) (fun h1 => ?_) (fun h1 => ?_)
      · refine xr_iconst (v := (-1)) C dX1_asks_59 (by decide) ?_
        refine xr_goto (tgt := 64) C dX1_asks_60 (by decide) ?_
        exact xr_ireturn C E rfl dX1_asks_64 ⟨rfl, Or.inl ⟨xin_neg (by decide) h1, rfl⟩⟩
      · refine xr_iload_n C dX1_asks_54 rfl ?_
        refine xr_iconst (v := nI 3) C dX1_asks_55 (by decide) ?_
        refine xr_icmp_le (tgt := 63) C dX1_asks_56 (by decide) (fun h2 => ?_) (fun h2 => ?_)
        · refine xr_iload_n C dX1_asks_63 rfl ?_
          exact xr_ireturn C E rfl dX1_asks_64 ⟨rfl, Or.inr ⟨xin_of' (N := 3) (by decide) h1 (Int32.not_lt.mpr h2), rfl⟩⟩
        · refine xr_iconst (v := (-1)) C dX1_asks_59 (by decide) ?_
          refine xr_goto (tgt := 64) C dX1_asks_60 (by decide) ?_
          exact xr_ireturn C E rfl dX1_asks_64 ⟨rfl, Or.inl ⟨xin_gt (N := 3) (by decide) (Int32.not_le.mp h2), rfl⟩⟩
    · omega
  | succ m ih =>
    intro c hcm
    have ih := ih (c + 1) (by omega)
    have e : akC sz ak p1 (c + 1) = akC sz ak p1 c + (if c % 15 < sz (c / 15) ∧ ak c = p1 then 1 else 0) := rfl
    have s1 := (r1_sz h (show c / 15 < 4 by omega)).1
    refine xr_iload_n C dX1_asks_4 rfl ?_
    refine xr_bipush (v := nI 60) C dX1_asks_5 (by decide) ?_
    refine xr_icmp_geN (tgt := 50) C (by omega) (by omega) dX1_asks_7 (by decide) (fun hc => ?_) (fun hc => ?_)
    · omega
    · refine xr_iload_n C dX1_asks_10 rfl ?_
      refine xr_bipush (v := nI 15) C dX1_asks_11 (by decide) ?_
      refine xr_iremN C (by omega) (by omega) (by omega) dX1_asks_13 ?_
      refine xr_aload_n C dX1_asks_14 rfl ?_
      refine x1g_7 C 0 rfl rfl dX1_asks_15 ?_
      refine xr_iload_n C dX1_asks_18 rfl ?_
      refine xr_bipush (v := nI 15) C dX1_asks_19 (by decide) ?_
      refine xr_idivN C (by omega) (by omega) (by omega) dX1_asks_21 ?_
      refine xr_ialdN C 1 1 rfl rfl (by omega) (by decide) dX1_asks_22 ?_
      refine xr_icmp_geN (tgt := 42) C (by omega) (by omega) dX1_asks_23 (by decide) (fun h1 => ?_) (fun h1 => ?_)
      · rw [if_neg (fun q => by omega), Nat.add_zero] at e
        rw [e] at ih
        refine xr_iload_n C dX1_asks_42 rfl ?_
        refine xr_istore_n C dX1_asks_43 (by decide) rfl ?_
        refine xr_iinc1 C dX1_asks_44 rfl (by decide) rfl ?_
        refine xr_goto (tgt := 4) C dX1_asks_47 (by decide) ?_
        exact ih
      · refine xr_aload_n C dX1_asks_26 rfl ?_
        refine x1g_13 C 0 rfl rfl dX1_asks_27 ?_
        refine xr_iload_n C dX1_asks_30 rfl ?_
        refine xr_iald C 2 1 rfl rfl (by omega) (by decide) dX1_asks_31 ?_
        refine xr_iload_n C dX1_asks_32 rfl ?_
        refine xr_icmp_ne (tgt := 42) C dX1_asks_33 (by decide) (fun h2 => ?_) (fun h2 => ?_)
        · rw [if_neg (fun q => h2 q.2), Nat.add_zero] at e
          rw [e] at ih
          refine xr_iload_n C dX1_asks_42 rfl ?_
          refine xr_istore_n C dX1_asks_43 (by decide) rfl ?_
          refine xr_iinc1 C dX1_asks_44 rfl (by decide) rfl ?_
          refine xr_goto (tgt := 4) C dX1_asks_47 (by decide) ?_
          exact ih
        · rw [if_pos ⟨h1, h2⟩] at e
          rw [e] at ih
          refine xr_iload_n C dX1_asks_36 rfl ?_
          refine xr_iconst (v := nI 1) C dX1_asks_37 (by decide) ?_
          refine xr_iaddN C dX1_asks_38 ?_
          refine xr_goto (tgt := 43) C dX1_asks_39 (by decide) ?_
          refine xr_istore_n C dX1_asks_43 (by decide) rfl ?_
          refine xr_iinc1 C dX1_asks_44 rfl (by decide) rfl ?_
          refine xr_goto (tgt := 4) C dX1_asks_47 (by decide) ?_
          exact ih
end X1C
end
section
/-! FORKS of trees, and what TreeScorer's table of them means -/
set_option maxRecDepth 100000
/-- the forks of a part of tree t whose first leaf is a -/
def fkT (t : Nat) : Tr → Nat → List Fk
  | .leaf _, _ => []
  | .branch d l r, a => (t, d / 16, d % 16, a, a + nl l - 1, a + nl l + nl r - 1) :: (fkT t l a ++ fkT t r (a + nl l))
def fkL (fk : Nat → Fk) (n : Nat) : List Fk := (List.range n).map fk
def allF (τ : Nat → Tr) : List Fk := [0, 1, 2, 3].flatMap (fun t => fkT t (τ t) 0)
theorem fkT_len (t : Nat) : ∀ (T : Tr) (a : Nat), (fkT t T a).length + 1 = nl T
  | .leaf _, a => rfl
  | .branch d l r, a => by
    have h1 := fkT_len t l a
    have h2 := fkT_len t r (a + nl l)
    show ((_ :: (fkT t l a ++ fkT t r (a + nl l))) : List Fk).length + 1 = nl l + nl r
    rw [List.length_cons, List.length_append]
    omega
theorem fkT_mem {t : Nat} {q : Fk} : ∀ (T : Tr) (a : Nat), okT T → q ∈ fkT t T a → q.1 = t ∧ q.2.1 < 4 ∧ q.2.2.1 < 16 ∧ a ≤ q.2.2.2.1 ∧ q.2.2.2.1 ≤ q.2.2.2.2.1 ∧ q.2.2.2.2.1 < q.2.2.2.2.2 ∧ q.2.2.2.2.2 < a + nl T
  | .leaf _, a, _, h => absurd h List.not_mem_nil
  | .branch d l r, a, ho, h => by
    have n1 := nl_pos l
    have n2 := nl_pos r
    have hd := ho.1
    show q.1 = t ∧ q.2.1 < 4 ∧ q.2.2.1 < 16 ∧ a ≤ q.2.2.2.1 ∧ q.2.2.2.1 ≤ q.2.2.2.2.1 ∧ q.2.2.2.2.1 < q.2.2.2.2.2 ∧ q.2.2.2.2.2 < a + (nl l + nl r)
    rcases List.mem_cons.mp h with e | h
    · subst e
      refine ⟨rfl, ?_, ?_, ?_, ?_, ?_, ?_⟩
      · show d / 16 < 4; omega
      · show d % 16 < 16; omega
      · exact Nat.le_refl a
      · show a ≤ a + nl l - 1; omega
      · show a + nl l - 1 < a + nl l + nl r - 1; omega
      · show a + nl l + nl r - 1 < a + (nl l + nl r); omega
    · rcases List.mem_append.mp h with h | h
      · obtain ⟨h1, h2, h3, h4, h5, h6, h7⟩ := fkT_mem l a ho.2.1 h
        exact ⟨h1, h2, h3, h4, h5, h6, by omega⟩
      · obtain ⟨h1, h2, h3, h4, h5, h6, h7⟩ := fkT_mem r (a + nl l) ho.2.2 h
        exact ⟨h1, h2, h3, by omega, h5, h6, by omega⟩
theorem mem_fkL {fk : Nat → Fk} {n : Nat} {q : Fk} : q ∈ fkL fk n ↔ ∃ j, j < n ∧ fk j = q := by
  unfold fkL
  rw [List.mem_map]
  constructor
  · rintro ⟨j, hj, e⟩
    exact ⟨j, List.mem_range.mp hj, e⟩
  · rintro ⟨j, hj, e⟩
    exact ⟨j, List.mem_range.mpr hj, e⟩
theorem fkL_succ (fk : Nat → Fk) (n : Nat) : fkL fk (n + 1) = fkL fk n ++ [fk n] := by
  unfold fkL
  rw [List.range_succ, List.map_append]
  rfl
theorem mem_allF {τ : Nat → Tr} {q : Fk} (hok : ∀ t, t < 4 → okT (τ t)) : q ∈ allF τ ↔ q.1 < 4 ∧ q ∈ fkT q.1 (τ q.1) 0 := by
  unfold allF
  rw [List.mem_flatMap]
  constructor
  · rintro ⟨t, ht, h⟩
    have ht4 : t < 4 := by
      simp only [List.mem_cons, List.not_mem_nil, or_false] at ht
      omega
    have e := (fkT_mem (τ t) 0 (hok t ht4) h).1
    rw [e]
    exact ⟨ht4, h⟩
  · rintro ⟨h1, h2⟩
    refine ⟨q.1, ?_, h2⟩
    simp only [List.mem_cons, List.not_mem_nil, or_false]
    omega
/-- what TreeScorer's arrays hold -/
def r0 (τ : Nat → Tr) (lc : Nat → Nat) (vs : Nat → Int32) (n : Nat) (fk : Nat → Fk) (sa : Nat → Nat) : Prop :=
  (∀ t, t < 4 → lc t = nl (τ t) ∧ nl (τ t) ≤ 8 ∧ okT (τ t) ∧ ∀ i, i < nl (τ t) → vs (t * 8 + i) = valT (τ t) i) ∧ (fkL fk n).Perm (allF τ) ∧ (∀ j, okF (fk j)) ∧ (∀ j k, j < k → k < n → keyF (fk j) ≤ keyF (fk k)) ∧ (∀ f, f < 5 → sa f = cntF fk f n)
theorem r0_wf {τ : Nat → Tr} {lc : Nat → Nat} {vs : Nat → Int32} {n : Nat} {fk : Nat → Fk} {sa : Nat → Nat} (h : r0 τ lc vs n fk sa) : wf0 lc n fk sa := by
  obtain ⟨h1, h2, h3, h4, h5⟩ := h
  refine ⟨fun t ht => ?_, ?_, h3, fun j hj => ?_, h4, h5⟩
  · have := h1 t ht
    have := nl_pos (τ t)
    omega
  · have hl := h2.length_eq
    have e0 := fkT_len 0 (τ 0) 0
    have e1 := fkT_len 1 (τ 1) 0
    have e2 := fkT_len 2 (τ 2) 0
    have e3 := fkT_len 3 (τ 3) 0
    have l0 := (h1 0 (by omega)).1
    have l1 := (h1 1 (by omega)).1
    have l2 := (h1 2 (by omega)).1
    have l3 := (h1 3 (by omega)).1
    have hn : (fkL fk n).length = n := by simp [fkL]
    have ha : (allF τ).length = (fkT 0 (τ 0) 0).length + ((fkT 1 (τ 1) 0).length + ((fkT 2 (τ 2) 0).length + (fkT 3 (τ 3) 0).length)) := by simp [allF]
    omega
  · have hm : fk j ∈ fkL fk n := mem_fkL.mpr ⟨j, hj, rfl⟩
    have hm2 := (mem_allF (fun t ht => (h1 t ht).2.2.1)).mp (h2.mem_iff.mp hm)
    have hh := fkT_mem _ 0 ((h1 _ hm2.1).2.2.1) hm2.2
    have e := (h1 _ hm2.1).1
    omega
/-- of the forks of tree t: those of the table and those of the tree are the same -/
theorem r0_mem {τ : Nat → Tr} {lc : Nat → Nat} {vs : Nat → Int32} {n : Nat} {fk : Nat → Fk} {sa : Nat → Nat} (h : r0 τ lc vs n fk sa) {t : Nat} (ht : t < 4) {q : Fk} : (∃ j, j < n ∧ fk j = q ∧ q.1 = t) ↔ q ∈ fkT t (τ t) 0 := by
  obtain ⟨h1, h2, -⟩ := h
  have hok : ∀ t, t < 4 → okT (τ t) := fun t ht => (h1 t ht).2.2.1
  constructor
  · rintro ⟨j, hj, e, e2⟩
    have := ((mem_allF hok).mp (h2.mem_iff.mp (mem_fkL.mpr ⟨j, hj, e⟩))).2
    rw [e2] at this
    exact this
  · intro hq
    have e := (fkT_mem _ 0 (hok t ht) hq).1
    obtain ⟨j, hj, e3⟩ := mem_fkL.mp (h2.mem_iff.mpr ((mem_allF (q := q) hok).mpr ⟨by omega, by rw [e]; exact hq⟩))
    exact ⟨j, hj, e3, e⟩
/-- the leaf where a point comes to is the first that no fork takes away -/
theorem exT_rm (t : Nat) (p : Int32) : ∀ (T : Tr) (a : Nat), okT T → (∀ i, a ≤ i → i < a + exT p T → ∃ q ∈ fkT t T a, q.2.2.1 < ftv p q.2.1 ∧ q.2.2.2.1 ≤ i ∧ i ≤ q.2.2.2.2.1) ∧ ¬ ∃ q ∈ fkT t T a, q.2.2.1 < ftv p q.2.1 ∧ q.2.2.2.1 ≤ a + exT p T ∧ a + exT p T ≤ q.2.2.2.2.1
  | .leaf v, a, _ => ⟨fun i h1 h2 => by
      have h2 : i < a + 0 := h2
      omega, fun ⟨q, hq, _⟩ => absurd hq List.not_mem_nil⟩
  | .branch d l r, a, ho => by
    obtain ⟨l1, l2⟩ := exT_rm t p l a ho.2.1
    obtain ⟨r1, r2⟩ := exT_rm t p r (a + nl l) ho.2.2
    have n1 := nl_pos l
    have n2 := nl_pos r
    have x1 := exT_lt p l
    have x2 := exT_lt p r
    rw [show exT p (.branch d l r) = if ftv p (d / 16) ≤ d % 16 then exT p l else nl l + exT p r from rfl]
    rw [show fkT t (.branch d l r) a = (t, d / 16, d % 16, a, a + nl l - 1, a + nl l + nl r - 1) :: (fkT t l a ++ fkT t r (a + nl l)) from rfl]
    by_cases hc : ftv p (d / 16) ≤ d % 16
    · rw [if_pos hc]
      refine ⟨fun i h1 h2 => ?_, ?_⟩
      · obtain ⟨q, hq, hh⟩ := l1 i h1 h2
        exact ⟨q, List.mem_cons_of_mem _ (List.mem_append_left _ hq), hh⟩
      · rintro ⟨q, hq, hh⟩
        rcases List.mem_cons.mp hq with e | hq
        · subst e
          have : d % 16 < ftv p (d / 16) := hh.1
          omega
        · rcases List.mem_append.mp hq with hq | hq
          · exact l2 ⟨q, hq, hh⟩
          · have := fkT_mem r (a + nl l) ho.2.2 hq
            omega
    · rw [if_neg hc]
      refine ⟨fun i h1 h2 => ?_, ?_⟩
      · rcases Nat.lt_or_ge i (a + nl l) with h | h
        · refine ⟨_, List.mem_cons_self, ?_, ?_, ?_⟩
          · show d % 16 < ftv p (d / 16); omega
          · exact h1
          · show i ≤ a + nl l - 1; omega
        · obtain ⟨q, hq, hh⟩ := r1 i h (by omega)
          exact ⟨q, List.mem_cons_of_mem _ (List.mem_append_right _ hq), hh⟩
      · rintro ⟨q, hq, hh⟩
        rcases List.mem_cons.mp hq with e | hq
        · subst e
          have : a + (nl l + exT p r) ≤ a + nl l - 1 := hh.2.2
          omega
        · rcases List.mem_append.mp hq with hq | hq
          · have := fkT_mem l a ho.2.1 hq
            omega
          · rw [← Nat.add_assoc] at hh
            exact r2 ⟨q, hq, hh⟩
theorem r0_rm {τ : Nat → Tr} {lc : Nat → Nat} {vs : Nat → Int32} {n : Nat} {fk : Nat → Fk} {sa : Nat → Nat} (h : r0 τ lc vs n fk sa) {t : Nat} (ht : t < 4) (p : Int32) (i : Nat) : rmF fk (fun j => j < n) p t i ↔ ∃ q ∈ fkT t (τ t) 0, q.2.2.1 < ftv p q.2.1 ∧ q.2.2.2.1 ≤ i ∧ i ≤ q.2.2.2.2.1 := by
  constructor
  · rintro ⟨j, hj, e, hh⟩
    exact ⟨fk j, (r0_mem h ht).mp ⟨j, hj, rfl, e⟩, hh⟩
  · rintro ⟨q, hq, hh⟩
    obtain ⟨j, hj, e, e2⟩ := (r0_mem h ht).mpr hq
    subst e
    exact ⟨j, hj, e2, hh⟩
theorem r0_ex {τ : Nat → Tr} {lc : Nat → Nat} {vs : Nat → Int32} {n : Nat} {fk : Nat → Fk} {sa : Nat → Nat} (h : r0 τ lc vs n fk sa) : exOk lc n fk (fun p t => exT p (τ t)) := by
  intro p t ht
  obtain ⟨e1, -, e3, -⟩ := h.1 t ht
  have hx := exT_lt p (τ t)
  obtain ⟨a, b⟩ := exT_rm t p (τ t) 0 e3
  rw [Nat.zero_add] at a b
  refine ⟨by rw [e1]; exact hx, fun i hi => (r0_rm h ht p i).mpr (a i (Nat.zero_le _) hi), fun hh => b ((r0_rm h ht p _).mp hh)⟩
theorem r0_val {τ : Nat → Tr} {lc : Nat → Nat} {vs : Nat → Int32} {n : Nat} {fk : Nat → Fk} {sa : Nat → Nat} (h : r0 τ lc vs n fk sa) (p : Int32) : ∀ k, k ≤ 4 → scV vs (fun p t => exT p (τ t)) p k = smT (fun t i => valT (τ t) i) (fun p t => exT p (τ t)) p k
  | 0, _ => rfl
  | k + 1, hk => by
    unfold scV smT
    rw [r0_val h p k (by omega), (h.1 k (by omega)).2.2.2 _ (exT_lt p (τ k))]
/-- the ends of a feature at a leaf -/
theorem loP_spec (t f : Nat) : ∀ (T : Tr) (a i x : Nat), okT T → i < nl T → x ≤ loP T i f x ∧ (∀ q ∈ fkT t T a, q.2.1 = f → q.2.2.2.2.1 < a + i → a + i ≤ q.2.2.2.2.2 → q.2.2.1 + 1 ≤ loP T i f x) ∧ (loP T i f x = x ∨ ∃ q ∈ fkT t T a, q.2.1 = f ∧ q.2.2.2.2.1 < a + i ∧ a + i ≤ q.2.2.2.2.2 ∧ loP T i f x = q.2.2.1 + 1)
  | .leaf v, a, i, x, _, _ => ⟨Nat.le_refl _, fun q hq => absurd hq List.not_mem_nil, Or.inl rfl⟩
  | .branch d l r, a, i, x, ho, hi => by
    have n1 := nl_pos l
    have n2 := nl_pos r
    have hi : i < nl l + nl r := hi
    rw [show loP (.branch d l r) i f x = if i < nl l then loP l i f x else loP r (i - nl l) f (if d / 16 = f then (if x < d % 16 + 1 then d % 16 + 1 else x) else x) from rfl]
    rw [show fkT t (.branch d l r) a = (t, d / 16, d % 16, a, a + nl l - 1, a + nl l + nl r - 1) :: (fkT t l a ++ fkT t r (a + nl l)) from rfl]
    by_cases hc : i < nl l
    · rw [if_pos hc]
      obtain ⟨l1, l2, l3⟩ := loP_spec t f l a i x ho.2.1 hc
      refine ⟨l1, fun q hq h1 h2 h3 => ?_, ?_⟩
      · rcases List.mem_cons.mp hq with e | hq
        · subst e
          have : a + nl l - 1 < a + i := h2
          omega
        · rcases List.mem_append.mp hq with hq | hq
          · exact l2 q hq h1 h2 h3
          · have := fkT_mem r (a + nl l) ho.2.2 hq
            omega
      · rcases l3 with h | ⟨q, hq, hh⟩
        · exact Or.inl h
        · exact Or.inr ⟨q, List.mem_cons_of_mem _ (List.mem_append_left _ hq), hh⟩
    · rw [if_neg hc]
      obtain ⟨l1, l2, l3⟩ := loP_spec t f r (a + nl l) (i - nl l) (if d / 16 = f then (if x < d % 16 + 1 then d % 16 + 1 else x) else x) ho.2.2 (by omega)
      have ea : a + nl l + (i - nl l) = a + i := by omega
      rw [ea] at l2 l3
      have hx : x ≤ (if d / 16 = f then (if x < d % 16 + 1 then d % 16 + 1 else x) else x) := by
        split
        · split <;> omega
        · exact Nat.le_refl _
      refine ⟨Nat.le_trans hx l1, fun q hq h1 h2 h3 => ?_, ?_⟩
      · rcases List.mem_cons.mp hq with e | hq
        · subst e
          have h1 : d / 16 = f := h1
          rw [if_pos h1] at l1 ⊢
          show d % 16 + 1 ≤ _
          refine Nat.le_trans ?_ l1
          split <;> omega
        · rcases List.mem_append.mp hq with hq | hq
          · have := fkT_mem l a ho.2.1 hq
            omega
          · exact l2 q hq h1 h2 h3
      · rcases l3 with h | ⟨q, hq, hh⟩
        · rw [h]
          by_cases hd : d / 16 = f
          · rw [if_pos hd]
            by_cases hx2 : x < d % 16 + 1
            · rw [if_pos hx2]
              refine Or.inr ⟨_, List.mem_cons_self, hd, ?_, ?_, rfl⟩
              · show a + nl l - 1 < a + i; omega
              · show a + i ≤ a + nl l + nl r - 1; omega
            · rw [if_neg hx2]
              exact Or.inl rfl
          · rw [if_neg hd]
            exact Or.inl rfl
        · exact Or.inr ⟨q, List.mem_cons_of_mem _ (List.mem_append_right _ hq), hh⟩
theorem hiP_spec (t f : Nat) : ∀ (T : Tr) (a i x : Nat), okT T → i < nl T → hiP T i f x ≤ x ∧ (∀ q ∈ fkT t T a, q.2.1 = f → q.2.2.2.1 ≤ a + i → a + i ≤ q.2.2.2.2.1 → hiP T i f x ≤ q.2.2.1) ∧ (hiP T i f x = x ∨ ∃ q ∈ fkT t T a, q.2.1 = f ∧ q.2.2.2.1 ≤ a + i ∧ a + i ≤ q.2.2.2.2.1 ∧ hiP T i f x = q.2.2.1)
  | .leaf v, a, i, x, _, _ => ⟨Nat.le_refl _, fun q hq => absurd hq List.not_mem_nil, Or.inl rfl⟩
  | .branch d l r, a, i, x, ho, hi => by
    have n1 := nl_pos l
    have n2 := nl_pos r
    have hi : i < nl l + nl r := hi
    rw [show hiP (.branch d l r) i f x = if i < nl l then hiP l i f (if d / 16 = f then (if d % 16 < x then d % 16 else x) else x) else hiP r (i - nl l) f x from rfl]
    rw [show fkT t (.branch d l r) a = (t, d / 16, d % 16, a, a + nl l - 1, a + nl l + nl r - 1) :: (fkT t l a ++ fkT t r (a + nl l)) from rfl]
    by_cases hc : i < nl l
    · rw [if_pos hc]
      obtain ⟨l1, l2, l3⟩ := hiP_spec t f l a i (if d / 16 = f then (if d % 16 < x then d % 16 else x) else x) ho.2.1 hc
      have hx : (if d / 16 = f then (if d % 16 < x then d % 16 else x) else x) ≤ x := by
        split
        · split <;> omega
        · exact Nat.le_refl _
      refine ⟨Nat.le_trans l1 hx, fun q hq h1 h2 h3 => ?_, ?_⟩
      · rcases List.mem_cons.mp hq with e | hq
        · subst e
          have h1 : d / 16 = f := h1
          rw [if_pos h1] at l1 ⊢
          show _ ≤ d % 16
          refine Nat.le_trans l1 ?_
          split <;> omega
        · rcases List.mem_append.mp hq with hq | hq
          · exact l2 q hq h1 h2 h3
          · have := fkT_mem r (a + nl l) ho.2.2 hq
            omega
      · rcases l3 with h | ⟨q, hq, hh⟩
        · rw [h]
          by_cases hd : d / 16 = f
          · rw [if_pos hd]
            by_cases hx2 : d % 16 < x
            · rw [if_pos hx2]
              refine Or.inr ⟨_, List.mem_cons_self, hd, ?_, ?_, rfl⟩
              · show a ≤ a + i; omega
              · show a + i ≤ a + nl l - 1; omega
            · rw [if_neg hx2]
              exact Or.inl rfl
          · rw [if_neg hd]
            exact Or.inl rfl
        · exact Or.inr ⟨q, List.mem_cons_of_mem _ (List.mem_append_left _ hq), hh⟩
    · rw [if_neg hc]
      obtain ⟨l1, l2, l3⟩ := hiP_spec t f r (a + nl l) (i - nl l) x ho.2.2 (by omega)
      have ea : a + nl l + (i - nl l) = a + i := by omega
      rw [ea] at l2 l3
      refine ⟨l1, fun q hq h1 h2 h3 => ?_, ?_⟩
      · rcases List.mem_cons.mp hq with e | hq
        · subst e
          have : a + i ≤ a + nl l - 1 := h3
          omega
        · rcases List.mem_append.mp hq with hq | hq
          · have := fkT_mem l a ho.2.1 hq
            omega
          · exact l2 q hq h1 h2 h3
      · rcases l3 with h | ⟨q, hq, hh⟩
        · exact Or.inl h
        · exact Or.inr ⟨q, List.mem_cons_of_mem _ (List.mem_append_right _ hq), hh⟩
theorem r0_bx {τ : Nat → Tr} {lc : Nat → Nat} {vs : Nat → Int32} {n : Nat} {fk : Nat → Fk} {sa : Nat → Nat} (h : r0 τ lc vs n fk sa) : bxOk lc n fk (LO τ) (HI τ) := by
  intro t ht i hi f hf
  obtain ⟨e1, -, e3, -⟩ := h.1 t ht
  rw [e1] at hi
  obtain ⟨a1, a2, a3⟩ := loP_spec t f (τ t) 0 i 0 e3 hi
  obtain ⟨b1, b2, b3⟩ := hiP_spec t f (τ t) 0 i 15 e3 hi
  rw [Nat.zero_add] at a2 a3 b2 b3
  refine ⟨⟨fun j hj hq => a2 (fk j) ((r0_mem h ht).mp ⟨j, hj, rfl, hq.1⟩) hq.2.1 hq.2.2.1 hq.2.2.2, ?_⟩, ⟨fun j hj hq => b2 (fk j) ((r0_mem h ht).mp ⟨j, hj, rfl, hq.1⟩) hq.2.1 hq.2.2.1 hq.2.2.2, b1, ?_⟩⟩
  · rcases a3 with a3 | ⟨q, hq, c1, c2, c3, c4⟩
    · exact Or.inl a3
    · obtain ⟨j, hj, e, e2⟩ := (r0_mem h ht).mpr hq
      subst e
      exact Or.inr ⟨j, hj, ⟨e2, c1, c2, c3⟩, c4⟩
  · rcases b3 with b3 | ⟨q, hq, c1, c2, c3, c4⟩
    · exact Or.inl b3
    · obtain ⟨j, hj, e, e2⟩ := (r0_mem h ht).mpr hq
      subst e
      exact Or.inr ⟨j, hj, ⟨e2, c1, c2, c3⟩, c4⟩
/-- depth: a fork lies on the way to exactly the leaves of its span -/
theorem dpT_cnt (t : Nat) (p : Int32) : ∀ (T : Tr) (a : Nat), okT T → (fkT t T a).countP (fun q => decide (q.2.2.2.1 ≤ a + exT p T ∧ a + exT p T ≤ q.2.2.2.2.2)) = dpT p T
  | .leaf v, a, _ => rfl
  | .branch d l r, a, ho => by
    have h1 := dpT_cnt t p l a ho.2.1
    have h2 := dpT_cnt t p r (a + nl l) ho.2.2
    have n1 := nl_pos l
    have n2 := nl_pos r
    have x1 := exT_lt p l
    have x2 := exT_lt p r
    rw [show exT p (.branch d l r) = if ftv p (d / 16) ≤ d % 16 then exT p l else nl l + exT p r from rfl]
    rw [show dpT p (.branch d l r) = 1 + (if ftv p (d / 16) ≤ d % 16 then dpT p l else dpT p r) from rfl]
    rw [show fkT t (.branch d l r) a = (t, d / 16, d % 16, a, a + nl l - 1, a + nl l + nl r - 1) :: (fkT t l a ++ fkT t r (a + nl l)) from rfl]
    by_cases hc : ftv p (d / 16) ≤ d % 16
    · rw [if_pos hc, if_pos hc, List.countP_cons_of_pos, List.countP_append, h1, (List.countP_eq_zero (l := fkT t r (a + nl l))).mpr (fun q hq => ?_)]
      · omega
      · have := fkT_mem r (a + nl l) ho.2.2 hq
        rw [decide_eq_true_eq]
        omega
      · rw [decide_eq_true_eq]
        exact ⟨by show a ≤ a + exT p l; omega, by show a + exT p l ≤ a + nl l + nl r - 1; omega⟩
    · rw [if_neg hc, if_neg hc, ← Nat.add_assoc, List.countP_cons_of_pos, List.countP_append, h2, (List.countP_eq_zero (l := fkT t l a)).mpr (fun q hq => ?_)]
      · omega
      · have := fkT_mem l a ho.2.1 hq
        rw [decide_eq_true_eq]
        omega
      · rw [decide_eq_true_eq]
        exact ⟨by show a ≤ a + nl l + exT p r; omega, by show a + nl l + exT p r ≤ a + nl l + nl r - 1; omega⟩
theorem dpC_cnt (fk : Nat → Fk) (ex : Int32 → Nat → Nat) (p : Int32) : ∀ n, dpC fk ex p n = (fkL fk n).countP (fun q => decide (q.2.2.2.1 ≤ ex p q.1 ∧ ex p q.1 ≤ q.2.2.2.2.2))
  | 0 => rfl
  | n + 1 => by
    rw [fkL_succ, List.countP_append, ← dpC_cnt fk ex p n, List.countP_singleton]
    simp only [decide_eq_true_eq]
    rfl
theorem cnt_allF (τ : Nat → Tr) (P : Fk → Bool) : (allF τ).countP P = (fkT 0 (τ 0) 0).countP P + (fkT 1 (τ 1) 0).countP P + (fkT 2 (τ 2) 0).countP P + (fkT 3 (τ 3) 0).countP P := by
  simp [allF, List.countP_append]
  omega
theorem r0_depth {τ : Nat → Tr} {lc : Nat → Nat} {vs : Nat → Int32} {n : Nat} {fk : Nat → Fk} {sa : Nat → Nat} (h : r0 τ lc vs n fk sa) (p : Int32) : dpC fk (fun p t => exT p (τ t)) p n = dmT τ p 4 := by
  rw [dpC_cnt, h.2.1.countP_eq, cnt_allF]
  have key : ∀ t, t < 4 → (fkT t (τ t) 0).countP (fun q => decide (q.2.2.2.1 ≤ exT p (τ q.1) ∧ exT p (τ q.1) ≤ q.2.2.2.2.2)) = dpT p (τ t) := by
    intro t ht
    have ok := (h.1 t ht).2.2.1
    rw [← dpT_cnt t p (τ t) 0 ok]
    apply List.countP_congr
    intro q hq
    have e := (fkT_mem (τ t) 0 ok hq).1
    rw [e, Nat.zero_add]
  rw [key 0 (by omega), key 1 (by omega), key 2 (by omega), key 3 (by omega)]
  unfold dmT dmT dmT dmT dmT
  omega
/-- asks -/
def cT (f : Nat) : Tr → Nat
  | .leaf _ => 0
  | .branch d l r => (if d / 16 = f then 1 else 0) + cT f l + cT f r
theorem cT_cnt (t f : Nat) : ∀ (T : Tr) (a : Nat), (fkT t T a).countP (fun q => decide (q.2.1 = f)) = cT f T
  | .leaf v, a => rfl
  | .branch d l r, a => by
    have h1 := cT_cnt t f l a
    have h2 := cT_cnt t f r (a + nl l)
    rw [show fkT t (.branch d l r) a = (t, d / 16, d % 16, a, a + nl l - 1, a + nl l + nl r - 1) :: (fkT t l a ++ fkT t r (a + nl l)) from rfl]
    rw [show cT f (.branch d l r) = (if d / 16 = f then 1 else 0) + cT f l + cT f r from rfl]
    rw [List.countP_cons, List.countP_append, h1, h2]
    simp only [decide_eq_true_eq]
    omega
theorem cntF_cnt (fk : Nat → Fk) (f : Nat) : ∀ n, cntF fk (f + 1) n = cntF fk f n + (fkL fk n).countP (fun q => decide (q.2.1 = f))
  | 0 => rfl
  | n + 1 => by
    rw [fkL_succ, List.countP_append, List.countP_singleton]
    unfold cntF
    rw [cntF_cnt fk f n]
    simp only [decide_eq_true_eq]
    by_cases h1 : (fk n).2.1 < f
    · rw [if_pos h1, if_pos (by omega), if_neg (by omega)]
      omega
    · by_cases h2 : (fk n).2.1 = f
      · rw [if_neg h1, if_pos (by omega), if_pos h2]
        omega
      · rw [if_neg h1, if_neg (by omega), if_neg h2]
        omega
theorem akC_succ (sz : Nat → Nat) (ak : Nat → Int32) (p : Int32) (c : Nat) : akC sz ak p (c + 1) = akC sz ak p c + (if c % 15 < sz (c / 15) ∧ ak c = p then 1 else 0) := rfl
theorem akC_tree {sz : Nat → Nat} {ak nu : Nat → Int32} {t f : Nat} (hs : sz t ≤ 15) (hf : f < 4) : ∀ (T : Tr) (p : Nat), okT T → hold ak nu (15 * t) T p → p + ln T ≤ sz t → akC sz ak (nI f) (15 * t + (p + ln T)) = akC sz ak (nI f) (15 * t + p) + cT f T
  | .leaf v, p, _, h, hp => by
    have hp : p + 1 ≤ sz t := hp
    show akC sz ak (nI f) (15 * t + p + 1) = _ + 0
    rw [akC_succ, if_neg (fun q => ?_)]
    have e := q.2
    rw [h.1] at e
    have := nI_nneg (show f < 2 ^ 31 by omega)
    rw [← e] at this
    exact this nI_neg1
  | .branch d l r, p, ho, h, hp => by
    have hp : p + (1 + ln l + ln r) ≤ sz t := hp
    have e1 := akC_tree hs hf l (p + 1) ho.2.1 h.2.2.1 (by omega)
    have e2 := akC_tree hs hf r (p + 1 + ln l) ho.2.2 h.2.2.2 (by omega)
    have e3 := akC_succ sz ak (nI f) (15 * t + p)
    have hd := ho.1
    have m1 : (15 * t + p) % 15 = p := by omega
    have m2 : (15 * t + p) / 15 = t := by omega
    rw [m1, m2, h.1] at e3
    rw [show ln (.branch d l r) = 1 + ln l + ln r from rfl, show cT f (.branch d l r) = (if d / 16 = f then 1 else 0) + cT f l + cT f r from rfl]
    rw [show p + (1 + ln l + ln r) = p + 1 + ln l + ln r by omega, e2, e1, show 15 * t + (p + 1) = 15 * t + p + 1 by omega, e3]
    by_cases hq : d / 16 = f
    · rw [if_pos ⟨by omega, congrArg nI hq⟩, if_pos hq]
      omega
    · rw [if_neg (fun z => hq (nI_inj (by omega) (by omega) z.2)), if_neg hq]
      omega
theorem akC_rest {sz : Nat → Nat} {ak : Nat → Int32} {t : Nat} (p : Int32) : ∀ k, sz t + k ≤ 15 → akC sz ak p (15 * t + (sz t + k)) = akC sz ak p (15 * t + sz t)
  | 0, _ => rfl
  | k + 1, hk => by
    have m1 : (15 * t + (sz t + k)) % 15 = sz t + k := by omega
    have m2 : (15 * t + (sz t + k)) / 15 = t := by omega
    have m3 : ¬ ((15 * t + (sz t + k)) % 15 < sz ((15 * t + (sz t + k)) / 15) ∧ ak (15 * t + (sz t + k)) = p) := by
      rw [m1, m2]
      omega
    rw [show 15 * t + (sz t + (k + 1)) = 15 * t + (sz t + k) + 1 by omega, akC_succ, akC_rest p k (by omega), if_neg m3, Nat.add_zero]
theorem r1_asks {τ : Nat → Tr} {sz : Nat → Nat} {ak nu : Nat → Int32} (h : r1 τ sz ak nu) {f : Nat} (hf : f < 4) : akC sz ak (nI f) 60 = cT f (τ 0) + cT f (τ 1) + cT f (τ 2) + cT f (τ 3) := by
  have key : ∀ t, t < 4 → akC sz ak (nI f) (15 * t + 15) = akC sz ak (nI f) (15 * t) + cT f (τ t) := by
    intro t ht
    obtain ⟨s1, -, -, -⟩ := r1_sz h ht
    obtain ⟨e1, e2, e3, e4⟩ := h t ht
    have a := akC_tree (nu := nu) s1 hf (τ t) 0 e3 e2 (by omega)
    have b := akC_rest (sz := sz) (ak := ak) (t := t) (nI f) (15 - sz t) (by omega)
    rw [show sz t + (15 - sz t) = 15 by omega] at b
    rw [b, e1, ← Nat.zero_add (ln (τ t)), a]
    rfl
  have k0 := key 0 (by omega)
  have k1 := key 1 (by omega)
  have k2 := key 2 (by omega)
  have k3 := key 3 (by omega)
  have z : akC sz ak (nI f) (15 * 0) = 0 := rfl
  rw [show (60 : Nat) = 15 * 3 + 15 by rfl, k3, show 15 * 3 = 15 * 2 + 15 by rfl, k2, show 15 * 2 = 15 * 1 + 15 by rfl, k1, show 15 * 1 = 15 * 0 + 15 by rfl, k0, z]
  omega
theorem r0_asks {τ : Nat → Tr} {lc : Nat → Nat} {vs : Nat → Int32} {n : Nat} {fk : Nat → Fk} {sa : Nat → Nat} (h : r0 τ lc vs n fk sa) (f : Nat) : cntF fk (f + 1) n - cntF fk f n = cT f (τ 0) + cT f (τ 1) + cT f (τ 2) + cT f (τ 3) := by
  rw [cntF_cnt, Nat.add_sub_cancel_left, h.2.1.countP_eq, cnt_allF, cT_cnt, cT_cnt, cT_cnt, cT_cnt]
/-- reachable: the leaves beyond the tree's own are never reached -/
theorem rcF_cut (c : Nat → Prop) (m : Nat) : ∀ k, rcF (fun i => i < m ∧ c i) (m + k) = rcF c m
  | 0 => by
    have : ∀ j, j ≤ m → rcF (fun i => i < m ∧ c i) j = rcF c j := by
      intro j
      induction j with
      | zero => intro _; rfl
      | succ j ih =>
        intro hj
        unfold rcF
        rw [ih (by omega)]
        by_cases hc : c j
        · rw [if_pos ⟨by omega, hc⟩, if_pos hc]
        · rw [if_neg (fun q => hc q.2), if_neg hc]
    exact this m (Nat.le_refl m)
  | k + 1 => by
    rw [← Nat.add_assoc]
    show rcF (fun i => i < m ∧ c i) (m + k) ||| _ = _
    rw [rcF_cut c m k, if_neg (fun q => by have := q.1; omega), or_nI0]
end
section
/-! split, setValue, clear: what they make of the trees, on TreeScorer's side -/
set_option maxRecDepth 100000
theorem flatMap_map {F F' : Nat → List Fk} {φ : Fk → Fk} : ∀ (ts : List Nat), (∀ t' ∈ ts, F' t' = (F t').map φ) → ts.flatMap F' = (ts.flatMap F).map φ
  | [], _ => rfl
  | s :: ts, h => by
    rw [List.flatMap_cons, List.flatMap_cons, List.map_append, h s List.mem_cons_self, flatMap_map ts (fun t' ht' => h t' (List.mem_cons_of_mem _ ht'))]
theorem flatMap_ins {F F' : Nat → List Fk} {φ : Fk → Fk} {x : Fk} {t : Nat} : ∀ (ts : List Nat), ts.Nodup → t ∈ ts → (F' t).Perm (x :: (F t).map φ) → (∀ t' ∈ ts, t' ≠ t → F' t' = (F t').map φ) → (ts.flatMap F').Perm (x :: (ts.flatMap F).map φ)
  | [], _, h, _, _ => absurd h List.not_mem_nil
  | s :: ts, hn, hm, hp, ho => by
    rw [List.flatMap_cons, List.flatMap_cons, List.map_append]
    have hn2 := List.nodup_cons.mp hn
    by_cases hs : s = t
    · subst hs
      have e := flatMap_map (F := F) (F' := F') (φ := φ) ts (fun t' ht' => ho t' (List.mem_cons_of_mem _ ht') (fun q => hn2.1 (q ▸ ht')))
      rw [e]
      exact hp.append_right _
    · have hm2 : t ∈ ts := by
        rcases List.mem_cons.mp hm with q | q
        · exact absurd q.symm hs
        · exact q
      have ih := flatMap_ins (F := F) (F' := F') (φ := φ) (x := x) ts hn2.2 hm2 hp (fun t' ht' => ho t' (List.mem_cons_of_mem _ ht'))
      rw [ho s List.mem_cons_self hs]
      exact (ih.append_left _).trans List.perm_middle
theorem mvF_up {k : Nat} {q : Fk} (h1 : k < q.2.2.2.1) (h2 : q.2.2.2.1 ≤ q.2.2.2.2.1) (h3 : q.2.2.2.2.1 < q.2.2.2.2.2) : mvF k q = (q.1, q.2.1, q.2.2.1, q.2.2.2.1 + 1, q.2.2.2.2.1 + 1, q.2.2.2.2.2 + 1) := by
  unfold mvF
  rw [if_pos h1, if_pos (by omega), if_pos (by omega)]
theorem mvF_keep {k : Nat} {q : Fk} (h1 : q.2.2.2.1 ≤ q.2.2.2.2.1) (h2 : q.2.2.2.2.1 < q.2.2.2.2.2) (h3 : q.2.2.2.2.2 < k) : mvF k q = q := by
  unfold mvF
  rw [if_neg (by omega), if_neg (by omega), if_neg (by omega)]
  rfl
theorem fkT_shift (t : Nat) : ∀ (T : Tr) (a k : Nat), okT T → k < a → fkT t T (a + 1) = (fkT t T a).map (mvF k)
  | .leaf v, a, k, _, _ => rfl
  | .branch d l r, a, k, ho, hk => by
    have n1 := nl_pos l
    have n2 := nl_pos r
    have e1 := fkT_shift t l a k ho.2.1 hk
    have e2 := fkT_shift t r (a + nl l) k ho.2.2 (by omega)
    rw [show fkT t (.branch d l r) (a + 1) = (t, d / 16, d % 16, a + 1, a + 1 + nl l - 1, a + 1 + nl l + nl r - 1) :: (fkT t l (a + 1) ++ fkT t r (a + 1 + nl l)) from rfl]
    rw [show fkT t (.branch d l r) a = (t, d / 16, d % 16, a, a + nl l - 1, a + nl l + nl r - 1) :: (fkT t l a ++ fkT t r (a + nl l)) from rfl]
    rw [List.map_cons, List.map_append, ← e1, ← e2, mvF_up (show k < a from hk) (show a ≤ a + nl l - 1 by omega) (show a + nl l - 1 < a + nl l + nl r - 1 by omega)]
    rw [show a + 1 + nl l = a + nl l + 1 by omega]
    congr 1
    show (t, d / 16, d % 16, a + 1, a + nl l + 1 - 1, a + nl l + 1 + nl r - 1) = (t, d / 16, d % 16, a + 1, a + nl l - 1 + 1, a + nl l + nl r - 1 + 1)
    rw [show a + nl l + 1 - 1 = a + nl l - 1 + 1 by omega, show a + nl l + 1 + nl r - 1 = a + nl l + nl r - 1 + 1 by omega]
theorem fkT_keep (t : Nat) (T : Tr) (a k : Nat) (ho : okT T) (hk : a + nl T ≤ k) : (fkT t T a).map (mvF k) = fkT t T a := by
  have : ∀ q ∈ fkT t T a, mvF k q = q := by
    intro q hq
    have := fkT_mem T a ho hq
    exact mvF_keep (by omega) (by omega) (by omega)
  rw [List.map_congr_left this]
  exact List.map_id' _
theorem fkT_spl (t d : Nat) : ∀ (T : Tr) (a i : Nat), okT T → i < nl T → (fkT t (splT T i d) a).Perm ((t, d / 16, d % 16, a + i, a + i, a + i + 1) :: (fkT t T a).map (mvF (a + i)))
  | .leaf v, a, i, _, hi => by
    have : i = 0 := by
      have hi : i < 1 := hi
      omega
    subst this
    exact List.Perm.refl _
  | .branch e l r, a, i, ho, hi => by
    have n1 := nl_pos l
    have n2 := nl_pos r
    have hi : i < nl l + nl r := hi
    rw [show fkT t (.branch e l r) a = (t, e / 16, e % 16, a, a + nl l - 1, a + nl l + nl r - 1) :: (fkT t l a ++ fkT t r (a + nl l)) from rfl]
    rw [List.map_cons, List.map_append]
    unfold splT
    by_cases hc : i < nl l
    · rw [if_pos hc]
      have ih := fkT_spl t d l a i ho.2.1 hc
      rw [show fkT t (.branch e (splT l i d) r) a = (t, e / 16, e % 16, a, a + nl (splT l i d) - 1, a + nl (splT l i d) + nl r - 1) :: (fkT t (splT l i d) a ++ fkT t r (a + nl (splT l i d))) from rfl]
      rw [nl_spl, ← fkT_shift t r (a + nl l) (a + i) ho.2.2 (by omega)]
      have er : mvF (a + i) (t, e / 16, e % 16, a, a + nl l - 1, a + nl l + nl r - 1) = (t, e / 16, e % 16, a, a + (nl l + 1) - 1, a + (nl l + 1) + nl r - 1) := by
        unfold mvF
        show (t, e / 16, e % 16, a + (if a + i < a then 1 else 0), a + nl l - 1 + (if a + i ≤ a + nl l - 1 then 1 else 0), a + nl l + nl r - 1 + (if a + i ≤ a + nl l + nl r - 1 then 1 else 0)) = _
        rw [if_neg (by omega), if_pos (by omega), if_pos (by omega), show a + nl l - 1 + 1 = a + (nl l + 1) - 1 by omega, show a + nl l + nl r - 1 + 1 = a + (nl l + 1) + nl r - 1 by omega, Nat.add_zero]
      rw [er]
      exact ((ih.append_right _).cons _).trans (List.Perm.swap _ _ _)
    · rw [if_neg hc]
      have ih := fkT_spl t d r (a + nl l) (i - nl l) ho.2.2 (by omega)
      rw [show a + nl l + (i - nl l) = a + i by omega] at ih
      rw [show fkT t (.branch e l (splT r (i - nl l) d)) a = (t, e / 16, e % 16, a, a + nl l - 1, a + nl l + nl (splT r (i - nl l) d) - 1) :: (fkT t l a ++ fkT t (splT r (i - nl l) d) (a + nl l)) from rfl]
      rw [nl_spl, fkT_keep t l a (a + i) ho.2.1 (by omega)]
      have er : mvF (a + i) (t, e / 16, e % 16, a, a + nl l - 1, a + nl l + nl r - 1) = (t, e / 16, e % 16, a, a + nl l - 1, a + nl l + (nl r + 1) - 1) := by
        unfold mvF
        show (t, e / 16, e % 16, a + (if a + i < a then 1 else 0), a + nl l - 1 + (if a + i ≤ a + nl l - 1 then 1 else 0), a + nl l + nl r - 1 + (if a + i ≤ a + nl l + nl r - 1 then 1 else 0)) = _
        rw [if_neg (by omega), if_neg (by omega), if_pos (by omega), show a + nl l + nl r - 1 + 1 = a + nl l + (nl r + 1) - 1 by omega, Nat.add_zero, Nat.add_zero]
      rw [er]
      exact (((ih.append_left _).trans List.perm_middle).cons _).trans (List.Perm.swap _ _ _)
theorem valT_spl (d : Nat) : ∀ (T : Tr) (i j : Nat), i < nl T → j < nl T + 1 → valT (splT T i d) j = if j ≤ i then valT T j else if j = i + 1 then 0 else valT T (j - 1)
  | .leaf v, i, j, hi, hj => by
    have hi : i < 1 := hi
    have hj : j < 1 + 1 := hj
    have : i = 0 := by omega
    subst this
    show (if j < 1 then v else 0) = if j ≤ 0 then v else if j = 0 + 1 then 0 else v
    by_cases h : j = 0
    · subst h; rfl
    · have : j = 1 := by omega
      subst this; rfl
  | .branch e l r, i, j, hi, hj => by
    have hi : i < nl l + nl r := hi
    have hj : j < nl l + nl r + 1 := hj
    have v0 : ∀ k, valT (.branch e l r) k = if k < nl l then valT l k else valT r (k - nl l) := fun _ => rfl
    rw [v0, v0]
    unfold splT
    by_cases hc : i < nl l
    · rw [if_pos hc]
      show (if j < nl (splT l i d) then valT (splT l i d) j else valT r (j - nl (splT l i d))) = _
      rw [nl_spl]
      by_cases hj2 : j < nl l + 1
      · rw [if_pos hj2, valT_spl d l i j hc hj2]
        by_cases h1 : j ≤ i
        · rw [if_pos h1, if_pos h1, if_pos (by omega)]
        · rw [if_neg h1, if_neg h1]
          by_cases h2 : j = i + 1
          · rw [if_pos h2, if_pos h2]
          · rw [if_neg h2, if_neg h2, if_pos (by omega)]
      · rw [if_neg hj2, if_neg (by omega), if_neg (by omega), if_neg (by omega), show j - (nl l + 1) = j - 1 - nl l by omega]
    · rw [if_neg hc]
      show (if j < nl l then valT l j else valT (splT r (i - nl l) d) (j - nl l)) = _
      by_cases hj2 : j < nl l
      · rw [if_pos hj2, if_pos (by omega), if_pos hj2]
      · rw [if_neg hj2, valT_spl d r (i - nl l) (j - nl l) (by omega) (by omega)]
        by_cases h1 : j ≤ i
        · rw [if_pos h1, if_pos (by omega), if_neg hj2]
        · rw [if_neg h1, if_neg (by omega)]
          by_cases h2 : j = i + 1
          · rw [if_pos h2, if_pos (by omega)]
          · rw [if_neg h2, if_neg (by omega), if_neg (by omega), show j - nl l - 1 = j - 1 - nl l by omega]
theorem insAt_perm {m fk' : Nat → Fk} {n k : Nat} {x : Fk} (hk : k ≤ n) (h : insAt m fk' n k x) : (fkL fk' (n + 1)).Perm (x :: fkL m n) := by
  obtain ⟨h1, h2, h3, -⟩ := h
  have e1 : fkL m n = fkL m k ++ (List.range (n - k)).map (fun j => m (k + j)) := by
    unfold fkL
    rw [show n = k + (n - k) by omega, List.range_add, List.map_append, List.map_map, show k + (n - k) - k = n - k by omega]
    rfl
  have e2 : fkL fk' (n + 1) = fkL m k ++ x :: (List.range (n - k)).map (fun j => m (k + j)) := by
    unfold fkL
    rw [show n + 1 = k + (n - k + 1) by omega, List.range_add, List.map_append, List.map_map, List.range_succ_eq_map, List.map_cons, List.map_map]
    congr 1
    · exact List.map_congr_left (fun j hj => h1 j (List.mem_range.mp hj))
    · congr 1
      refine List.map_congr_left (fun j hj => ?_)
      have := List.mem_range.mp hj
      show fk' (k + (j + 1)) = m (k + j)
      exact h3 (k + (j + 1)) (by omega) (by omega)
  rw [e1, e2]
  exact List.perm_middle
theorem keyF_mv (i : Nat) (q : Fk) : keyF (mvF i q) = keyF q := rfl
theorem mvAll_key (fk : Nat → Fk) (n t i j : Nat) : keyF (mvAll fk n t i j) = keyF (fk j) := by
  unfold mvAll
  split
  · rfl
  · rfl
theorem gtK_key {f lim : Nat} {q : Fk} (hq : q.2.2.1 < 16) (hl : lim < 16) : gtK f lim q ↔ 16 * f + lim < keyF q := by
  unfold gtK keyF
  omega
theorem r0_split {τ : Nat → Tr} {lc : Nat → Nat} {vs : Nat → Int32} {n : Nat} {fk : Nat → Fk} {sa : Nat → Nat} (h : r0 τ lc vs n fk sa) {t i f lim : Nat} (ht : t < 4) (hi : i < lc t) (h8 : lc t < 8) (hf : f < 4) (hlim : lim < 16) {vs' : Nat → Int32} {fk' : Nat → Fk} {sa' : Nat → Nat} (hs : splR lc vs n fk t i f lim vs' fk' sa') :
    r0 (va_up τ t (splT (τ t) i (16 * f + lim))) (va_up lc t (lc t + 1)) vs' (n + 1) fk' sa' := by
  have hw := r0_wf h
  obtain ⟨h1, h2, h3, h4, h5⟩ := h
  obtain ⟨rfl, ⟨k, hk, hins, hk1, hk2⟩, hsa⟩ := hs
  have hmok := mvAll_ok hw (i := i) h8 n (Nat.le_refl n)
  obtain ⟨e1, e2, e3, e4⟩ := h1 t ht
  have hok : ∀ t, t < 4 → okT (τ t) := fun t ht => (h1 t ht).2.2.1
  have hfk' : ∀ j, okF (fk' j) := by
    intro j
    obtain ⟨i1, i2, i3, i4⟩ := hins
    rcases Nat.lt_trichotomy j k with q | q | q
    · rw [i1 j q]; exact hmok j
    · subst q
      rw [i2]
      exact ⟨ht, hf, hlim, show i < 8 by omega, show i < 8 by omega, show i + 1 < 8 by omega⟩
    · rcases Nat.lt_or_ge n j with q2 | q2
      · rw [i4 j q2]; exact hmok j
      · rw [i3 j q q2]; exact hmok _
  refine ⟨fun t' ht' => ?_, ?_, hfk', ?_, hsa⟩
  · by_cases htt : t' = t
    · subst htt
      have a1 : va_up τ t' (splT (τ t') i (16 * f + lim)) t' = splT (τ t') i (16 * f + lim) := by simp [va_up]
      have a2 : va_up lc t' (lc t' + 1) t' = lc t' + 1 := by simp [va_up]
      rw [a1, a2, nl_spl]
      refine ⟨by omega, by omega, ok_spl (by omega) _ _ e3, fun j hj => ?_⟩
      rw [valT_spl _ _ _ _ (by omega) hj]
      by_cases c1 : j ≤ i
      · rw [if_pos c1, upd_ne _ _ (by omega)]
        unfold shV
        rw [if_neg (by omega)]
        exact e4 j (by omega)
      · rw [if_neg c1]
        by_cases c2 : j = i + 1
        · subst c2
          rw [if_pos rfl]
          exact upd_at _ _ _
        · rw [if_neg c2, upd_ne _ _ (by omega)]
          unfold shV
          rw [if_pos (by omega), show t' * 8 + j - 1 = t' * 8 + (j - 1) by omega]
          exact e4 (j - 1) (by omega)
    · have a1 : va_up τ t (splT (τ t) i (16 * f + lim)) t' = τ t' := by simp [va_up, htt]
      have a2 : va_up lc t (lc t + 1) t' = lc t' := by simp [va_up, htt]
      rw [a1, a2]
      obtain ⟨g1, g2, g3, g4⟩ := h1 t' ht'
      refine ⟨g1, g2, g3, fun j hj => ?_⟩
      have : t' * 8 + j < t * 8 ∨ t * 8 + 8 ≤ t' * 8 + j := by
        rcases Nat.lt_or_ge t' t with a | a <;> omega
      rw [upd_ne _ _ (by omega)]
      unfold shV
      rw [if_neg (by omega)]
      exact g4 j hj
  · have hmap : fkL (mvAll fk n t i) n = (fkL fk n).map (fun q => if q.1 = t then mvF i q else q) := by
      unfold fkL
      rw [List.map_map]
      refine List.map_congr_left (fun j hj => ?_)
      have := List.mem_range.mp hj
      show mvAll fk n t i j = if (fk j).1 = t then mvF i (fk j) else fk j
      unfold mvAll
      by_cases c : (fk j).1 = t
      · rw [if_pos ⟨this, c⟩, if_pos c]
      · rw [if_neg (fun q => c q.2), if_neg c]
    have hall : (allF (va_up τ t (splT (τ t) i (16 * f + lim)))).Perm ((t, f, lim, i, i, i + 1) :: (allF τ).map (fun q => if q.1 = t then mvF i q else q)) := by
      refine flatMap_ins (t := t) [0, 1, 2, 3] (by decide) ?_ ?_ ?_
      · simp only [List.mem_cons, List.not_mem_nil, or_false]; omega
      · have a1 : va_up τ t (splT (τ t) i (16 * f + lim)) t = splT (τ t) i (16 * f + lim) := by simp [va_up]
        rw [a1]
        have := fkT_spl t (16 * f + lim) (τ t) 0 i e3 (by omega)
        rw [Nat.zero_add, show (16 * f + lim) / 16 = f by omega, show (16 * f + lim) % 16 = lim by omega] at this
        have e5 : (fkT t (τ t) 0).map (fun q => if q.1 = t then mvF i q else q) = (fkT t (τ t) 0).map (mvF i) := by
          refine List.map_congr_left (fun q hq => ?_)
          rw [if_pos (fkT_mem (τ t) 0 e3 hq).1]
        rw [e5]
        exact this
      · intro t' ht' hne
        have ht4 : t' < 4 := by
          simp only [List.mem_cons, List.not_mem_nil, or_false] at ht'
          omega
        have a1 : va_up τ t (splT (τ t) i (16 * f + lim)) t' = τ t' := by simp [va_up, hne]
        rw [a1]
        have : ∀ q ∈ fkT t' (τ t') 0, (if q.1 = t then mvF i q else q) = q := by
          intro q hq
          rw [if_neg (fun z => hne ((fkT_mem (τ t') 0 (hok t' ht4) hq).1.symm.trans z))]
        rw [List.map_congr_left this]
        exact (List.map_id' _).symm
    refine (insAt_perm hk hins).trans ?_
    rw [hmap]
    exact ((h2.map _).cons _).trans hall.symm
  · have hs0 : ∀ j k, j ≤ k → k < n → keyF (mvAll fk n t i j) ≤ keyF (mvAll fk n t i k) := by
      intro j k hjk hkn
      rw [mvAll_key, mvAll_key]
      rcases Nat.lt_or_ge j k with q | q
      · exact h4 j k q hkn
      · have : j = k := by omega
        subst this
        exact Nat.le_refl _
    have kx : keyF (t, f, lim, i, i, i + 1) = 16 * f + lim := rfl
    have hlow : ∀ j, j < k → keyF (mvAll fk n t i j) ≤ 16 * f + lim := by
      intro j hj
      have a := hs0 j (k - 1) (by omega) (by omega)
      have b := hk1 (by omega)
      rw [gtK_key (hmok _).2.2.1 hlim] at b
      omega
    have hhigh : ∀ j, k ≤ j → j < n → 16 * f + lim ≤ keyF (mvAll fk n t i j) := by
      intro j h6 h7
      have b := hk2 j h6 h7
      rw [gtK_key (hmok _).2.2.1 hlim] at b
      omega
    obtain ⟨i1, i2, i3, i4⟩ := hins
    intro a b hab hbn
    rcases Nat.lt_trichotomy b k with q | q | q
    · rw [i1 b q, i1 a (by omega)]
      exact hs0 a b (by omega) (by omega)
    · subst q
      rw [i2, i1 a hab, kx]
      exact hlow a hab
    · rw [i3 b q (by omega)]
      rcases Nat.lt_trichotomy a k with q2 | q2 | q2
      · rw [i1 a q2]
        exact hs0 a (b - 1) (by omega) (by omega)
      · subst q2
        rw [i2, kx]
        exact hhigh (b - 1) (by omega) (by omega)
      · rw [i3 a q2 (by omega)]
        exact hs0 (a - 1) (b - 1) (by omega) (by omega)
theorem fkT_set (t : Nat) (v : Int32) : ∀ (T : Tr) (a i : Nat), fkT t (setT T i v) a = fkT t T a
  | .leaf w, a, i => rfl
  | .branch e l r, a, i => by
    unfold setT
    split
    · show (t, e / 16, e % 16, a, a + nl (setT l i v) - 1, a + nl (setT l i v) + nl r - 1) :: (fkT t (setT l i v) a ++ fkT t r (a + nl (setT l i v))) = _
      rw [nl_set, fkT_set t v l]
      rfl
    · show (t, e / 16, e % 16, a, a + nl l - 1, a + nl l + nl (setT r (i - nl l) v) - 1) :: (fkT t l a ++ fkT t (setT r (i - nl l) v) (a + nl l)) = _
      rw [nl_set, fkT_set t v r]
      rfl
theorem valT_set (v : Int32) : ∀ (T : Tr) (i j : Nat), i < nl T → j < nl T → valT (setT T i v) j = if j = i then v else valT T j
  | .leaf w, i, j, hi, hj => by
    have hi : i < 1 := hi
    have hj : j < 1 := hj
    rw [if_pos (by omega)]
    rfl
  | .branch e l r, i, j, hi, hj => by
    have hi : i < nl l + nl r := hi
    have hj : j < nl l + nl r := hj
    rw [show valT (.branch e l r) j = if j < nl l then valT l j else valT r (j - nl l) from rfl]
    unfold setT
    by_cases hc : i < nl l
    · rw [if_pos hc]
      show (if j < nl (setT l i v) then valT (setT l i v) j else valT r (j - nl (setT l i v))) = _
      rw [nl_set]
      by_cases hj2 : j < nl l
      · rw [if_pos hj2, if_pos hj2, valT_set v l i j hc hj2]
      · rw [if_neg hj2, if_neg hj2, if_neg (by omega)]
    · rw [if_neg hc]
      show (if j < nl l then valT l j else valT (setT r (i - nl l) v) (j - nl l)) = _
      by_cases hj2 : j < nl l
      · rw [if_pos hj2, if_pos hj2, if_neg (by omega)]
      · rw [if_neg hj2, if_neg hj2, valT_set v r (i - nl l) (j - nl l) (by omega) (by omega)]
        by_cases h1 : j = i
        · rw [if_pos h1, if_pos (by omega)]
        · rw [if_neg h1, if_neg (by omega)]
theorem r0_set {τ : Nat → Tr} {lc : Nat → Nat} {vs : Nat → Int32} {n : Nat} {fk : Nat → Fk} {sa : Nat → Nat} (h : r0 τ lc vs n fk sa) {t i : Nat} (v : Int32) (ht : t < 4) (hi : i < lc t) : r0 (va_up τ t (setT (τ t) i v)) lc (upd vs (t * 8 + i) v) n fk sa := by
  obtain ⟨h1, h2, h3, h4, h5⟩ := h
  obtain ⟨e1, e2, e3, e4⟩ := h1 t ht
  refine ⟨fun t' ht' => ?_, ?_, h3, h4, h5⟩
  · by_cases htt : t' = t
    · subst htt
      have a1 : va_up τ t' (setT (τ t') i v) t' = setT (τ t') i v := by simp [va_up]
      rw [a1, nl_set]
      refine ⟨e1, e2, ok_set _ _ e3, fun j hj => ?_⟩
      rw [valT_set v _ _ _ (by omega) hj]
      by_cases c : j = i
      · subst c; rw [if_pos rfl]; exact upd_at _ _ _
      · rw [if_neg c, upd_ne _ _ (by omega)]; exact e4 j hj
    · have a1 : va_up τ t (setT (τ t) i v) t' = τ t' := by simp [va_up, htt]
      rw [a1]
      obtain ⟨g1, g2, g3, g4⟩ := h1 t' ht'
      refine ⟨g1, g2, g3, fun j hj => ?_⟩
      rw [upd_ne _ _ (by rcases Nat.lt_or_ge t' t with a | a <;> omega)]
      exact g4 j hj
  · have : allF (va_up τ t (setT (τ t) i v)) = allF τ := by
      unfold allF
      congr 1
      funext t'
      unfold va_up
      split
      · rename_i c; subst c; exact fkT_set t' v _ _ _
      · rfl
    rw [this]
    exact h2
theorem flatMap_cut {F F' : Nat → List Fk} {P : Fk → Bool} : ∀ (ts : List Nat), (∀ t' ∈ ts, F' t' = (F t').filter P) → ts.flatMap F' = (ts.flatMap F).filter P
  | [], _ => rfl
  | s :: ts, h => by
    rw [List.flatMap_cons, List.flatMap_cons, List.filter_append, h s List.mem_cons_self, flatMap_cut ts (fun t' ht' => h t' (List.mem_cons_of_mem _ ht'))]
theorem fkL_sorted {fk : Nat → Fk} {n : Nat} : (fkL fk n).Pairwise (fun a b => keyF a ≤ keyF b) ↔ ∀ j k, j < k → k < n → keyF (fk j) ≤ keyF (fk k) := by
  rw [List.pairwise_iff_getElem]
  have hl : (fkL fk n).length = n := by simp [fkL]
  constructor
  · intro h j k hjk hk
    have := h j k (by omega) (by omega) hjk
    simpa [fkL] using this
  · intro h j k hj hk hjk
    have := h j k hjk (by omega)
    simpa [fkL] using this
theorem r0_clear {τ : Nat → Tr} {lc : Nat → Nat} {vs : Nat → Int32} {n : Nat} {fk : Nat → Fk} {sa : Nat → Nat} (h : r0 τ lc vs n fk sa) {t : Nat} (ht : t < 4) {n' : Nat} {fk' : Nat → Fk} {sa' : Nat → Nat} (hl : (List.range n').map fk' = ((List.range n).map fk).filter (fun q => !(q.1 == t))) (hf : ∀ j, okF (fk' j)) (hsa : ∀ f, f < 5 → sa' f = cntF fk' f n') : r0 (va_up τ t (.leaf 0)) (va_up lc t 1) (upd vs (t * 8) (nI 0)) n' fk' sa' := by
  obtain ⟨h1, h2, h3, h4, h5⟩ := h
  have hl : fkL fk' n' = (fkL fk n).filter (fun q => !(q.1 == t)) := hl
  refine ⟨fun t' ht' => ?_, ?_, hf, ?_, hsa⟩
  · by_cases htt : t' = t
    · subst htt
      have a1 : va_up τ t' (.leaf 0) t' = .leaf 0 := by simp [va_up]
      have a2 : va_up lc t' 1 t' = 1 := by simp [va_up]
      rw [a1, a2]
      refine ⟨rfl, show 1 ≤ 8 by decide, trivial, fun j hj => ?_⟩
      have hj : j < 1 := hj
      have : j = 0 := by omega
      subst this
      exact (upd_at _ _ _).trans (by decide)
    · have a1 : va_up τ t (.leaf 0) t' = τ t' := by simp [va_up, htt]
      have a2 : va_up lc t 1 t' = lc t' := by simp [va_up, htt]
      rw [a1, a2]
      obtain ⟨g1, g2, g3, g4⟩ := h1 t' ht'
      refine ⟨g1, g2, g3, fun j hj => ?_⟩
      rw [upd_ne _ _ (by rcases Nat.lt_or_ge t' t with a | a <;> omega)]
      exact g4 j hj
  · have : allF (va_up τ t (.leaf 0)) = (allF τ).filter (fun q => !(q.1 == t)) := by
      refine flatMap_cut [0, 1, 2, 3] (fun t' ht' => ?_)
      have ht4 : t' < 4 := by
        simp only [List.mem_cons, List.not_mem_nil, or_false] at ht'
        omega
      have hq : ∀ q ∈ fkT t' (τ t') 0, q.1 = t' := fun q hq => (fkT_mem (τ t') 0 (h1 t' ht4).2.2.1 hq).1
      by_cases c : t' = t
      · subst c
        have a1 : va_up τ t' (.leaf 0) t' = .leaf 0 := by simp [va_up]
        rw [a1]
        refine (List.filter_eq_nil_iff.mpr (fun q hm => ?_)).symm
        simp [hq q hm]
      · have a1 : va_up τ t (.leaf 0) t' = τ t' := by simp [va_up, c]
        rw [a1]
        refine (List.filter_eq_self.mpr (fun q hm => ?_)).symm
        simp [hq q hm, c]
    rw [hl, this]
    exact h2.filter _
  · rw [← fkL_sorted, hl]
    exact (fkL_sorted.mpr h4).filter _
theorem r0_init {lc : Nat → Nat} (hlc : ∀ t, t < 4 → lc t = 1) : r0 (fun _ => .leaf 0) lc (fun _ => nI 0) 0 (fun _ => (0, 0, 0, 0, 0, 0)) (fun _ => 0) := by
  refine ⟨fun t ht => ⟨hlc t ht, show 1 ≤ 8 by decide, trivial, fun i hi => show nI 0 = (0 : Int32) by decide⟩, List.Perm.refl _, fun j => ?_, fun j k _ hk => absurd hk (Nat.not_lt_zero k), fun f _ => rfl⟩
  exact ⟨show 0 < 4 by decide, show 0 < 4 by decide, show 0 < 16 by decide, show 0 < 8 by decide, show 0 < 8 by decide, show 0 < 8 by decide⟩
theorem r1_init {sz : Nat → Nat} {ak nu : Nat → Int32} (hsz : ∀ t, t < 4 → sz t = 1 ∧ ak (15 * t) = -1 ∧ nu (15 * t) = 0) : r1 (fun _ => .leaf 0) sz ak nu := fun t ht => ⟨(hsz t ht).1, ⟨(hsz t ht).2.1, (hsz t ht).2.2⟩, trivial, show 1 ≤ 8 by decide⟩
end
section
/-! The constructors -/
set_option maxRecDepth 100000
section XN
variable {l : Launch} {R : Room} {D : va_G} {tys : List (ClassId × FieldType)} {nL : Nat} {cc : ByteArray} {own : String} {ws : va_W} {lv : List (Option Value)} {pc : Nat} {st : List Value}
variable {p : Program} {e : Env} {s : State} {m : MethodId} {args : Array Value} {below : List Frame} {meth : Method} {c : Code} {Q : State → Prop} {A : Nat → Prop} {cells slots : Nat}
theorem xOk_cs {c2 s2 : Nat} (C : xOk R D tys nL (p, e, s, m, args, below, meth, c, Q, A, cells, slots) cc own) (h1 : c2 ≤ R.cells) (h2 : s2 ≤ R.slots) : xOk R D tys nL (p, e, s, m, args, below, meth, c, Q, A, c2, s2) cc own := by
  obtain ⟨hx, hb, hml, hown, hts, hK, hA, hlk, -⟩ := C
  exact ⟨hx, hb, hml, hown, hts, hK, hA, hlk, h1, h2⟩
theorem xr_objInit (C : xOk R D tys nL (p, e, s, m, args, below, meth, c, Q, A, cells, slots) cc own) {idx a : Nat} (h1 : Cond.methodLink own idx objectInit ∈ lw_all) (h2 : Cond.instanceMethod objectInit ∈ lw_all) (h3 : Cond.code objectInit ⟨#[0xb1]⟩ 1 none ∈ lw_all) (hd : decode cc pc = .ok (.invokespecial idx, 3)) (hf : 1 ≤ R.frames) (hloc : 12 ≤ R.locals) (k : xW l R D nL (p, e, s, m, args, below, meth, c, Q, A, cells, slots) ws lv (pc + 3) []) : xW l R D nL (p, e, s, m, args, below, meth, c, Q, A, cells, slots) ws lv pc [.ref a] := by
  obtain ⟨hx, hb, hml, hown, hts, hK, hA, hlk, hcs⟩ := C
  intro H locs ls hP hD hS hl
  exact W.objInit hx hb hown (hts _ h1) (hts _ h2) (hts _ h3) rfl (by rw [hml]; exact hl.1.1) rfl hd hf hloc (k H locs ls hP hD hS hl)
theorem xr_newa (C : xOk R D tys nL (p, e, s, m, args, below, meth, c, Q, A, cells, slots) cc own) (t0 : Nat) {atype : ArrayType} {ty : FieldType} {cA : ClassId} (harr : Cond.arrayClass (newarray.typeOf atype) ∈ lw_all) (hty : newarray.typeOf atype = ty) (ht : tys[t0]? = some (cA, ty)) (hra : ∀ (U : State) (x : ClassId), va_RA U x ty → U.vm.findClass ("[" ++ ty.toString) = some x) {N : Nat} {a0 : vp_A} (ha : ∀ x : ClassId, vp_cell x a0 = arrV x N (fun _ => defaultValue ty)) (hN : N < 2 ^ 31) (hbytes : N * componentBytes ty ≤ 536870912) (hc1 : cells + 1 ≤ R.cells) (hs1 : slots + N ≤ R.slots) (hd : decode cc pc = .ok (.newarray atype, 2))
    (k : ∀ q : Nat, xW l R D nL (p, e, s, m, args, below, meth, c, Q, A, cells + 1, slots + N) (ws ++ [(q, .inl (cA, a0))]) lv (pc + 2) (.ref q :: st)) : xW l R D nL (p, e, s, m, args, below, meth, c, Q, A, cells, slots) ws lv pc (.int (nI N) :: st) := by
  obtain ⟨hx, hb, hml, hown, hts, hK, hA, hlk, hcs⟩ := C
  intro H locs ls hP hD hS hl
  refine va_newa hx hb (hts _ harr) hty hK hP hD hS hA ha (nI_pos hN) (nI_clamp hN) hbytes hc1 hs1 hd (fun q cA' H1 hK1 hP1 hD1 hS1 => ?_)
  have e1 := hra s _ (hK.2 t0 _ ht).2
  have hlast : (tys ++ [(cA', ty)])[tys.length]? = some (cA', ty) := by simp
  have e2 := hra s _ (hK1.2 tys.length _ hlast).2
  have e3 : cA' = cA := Option.some.inj (e2.symm.trans e1)
  subst e3
  exact k q H1 locs ls hP1 hD1 hS1 hl
theorem xr_putF (C : xOk R D tys nL (p, e, s, m, args, below, meth, c, Q, A, cells, slots) cc own) {ref Cn : String} {T : u_T} {N ci index : Nat} (hin : ∀ w ∈ u_ws Cn T N, w ∈ lw_all) (ty0 : Nat → FieldType) (hty : ∀ k, k < N → parseFieldDescriptor (T k).2.2.1 = some (ty0 k)) (hnm : ∀ a, a < N → ∀ b, b < N → a ≠ b → (T a).2.1 ≠ (T b).2.1) (q0 : Nat) {a : Nat} {fs : List Value} (he : ws[q0]? = some (a, .inr (ci, fs))) (hc : vwCl[ci]? = some (Cn, T, N)) (j : Nat) (hj : j < N) (hlink : Cond.fieldLink own index ref (T j).2.1 (T j).2.2.1 ∈ lw_all) (hsame : ref = (T j).1) (hfin : (T j).2.2.2 = true) (hin2 : meth.name = "<init>") (hdecl : (T j).1 = own) {ty : FieldType} {v : Value} (hpd : parseFieldDescriptor (T j).2.2.1 = some ty) (hnr : narrow ty v = v) (hfit : fits ty v = true) (hlen : j < fs.length) {ws' : va_W} (hw : ws.set q0 (a, .inr (ci, fs.set j v)) = ws') (hd : decode cc pc = .ok (.putfield index, 3)) (k : xW l R D nL (p, e, s, m, args, below, meth, c, Q, A, cells, slots) ws' lv (pc + 3) st) : xW l R D nL (p, e, s, m, args, below, meth, c, Q, A, cells, slots) ws lv pc (v :: .ref a :: st) := by
  obtain ⟨hx, hb, hml, hown, hts, hK, hA, hlk, hcs⟩ := C
  intro H locs ls hP hD hS hl
  subst hw
  exact va_putF hx hb hts hin ty0 hty hnm hown hK hP hD hS q0 he hc j hj (hts _ hlink) (fun _ h => hsame ▸ h) hfin hin2 hdecl hpd hnr hfit hlen hd (fun H1 locs1 hP1 hD1 hS1 => k H1 locs1 ls hP1 hD1 hS1 hl)
end XN
/-- a constructor: it makes mc cells of ms slots -/
def xMc (l : Launch) (D : va_G) (tys : List (ClassId × FieldType)) (y : MethodName) (cc : ByteArray) (nL : Nat) (rm : Room) (av : List Value) (ws : va_W) (mc ms : Nat) (post : va_W → Prop) : Prop :=
  ∀ sz : Nat, Met l y (ws_ y cc nL none) rm (va_Pc av (xPre D tys ws sz)) (va_Qv post (xPost D tys (va_A ws sz)) (va_A ws sz)) mc ms (va_A ws sz)
theorem xMc_of {l : Launch} {D : va_G} {tys : List (ClassId × FieldType)} {y : MethodName} {cc : ByteArray} {nL : Nat} {rm : Room} {av : List Value} {ws : va_W} {mc ms : Nat} {post : va_W → Prop} (r : Nat) (hy : plainName y.cls = true) (hy2 : y.name = "<init>") (hc : av.all (fun v => v.category == 1) = true) (hn : (lg_sl av).length ≤ nL)
    (body : ∀ (p : Program) (e : Env) (s : State) (m : MethodId) (args : Array Value) (below : List Frame) (meth : Method) (c : Code) (Q : State → Prop) (A : Nat → Prop), xOk rm D tys nL (p, e, s, m, args, below, meth, c, Q, A, 0, 0) cc y.cls → meth.name = "<init>" → xEv D tys (p, e, s, m, args, below, meth, c, Q, A, mc, ms) post → xW l rm D nL (p, e, s, m, args, below, meth, c, Q, A, 0, 0) ws (av.map some ++ List.replicate r none) 0 []) : xMc l D tys y cc nL rm av ws mc ms post := by
  intro sz
  refine Met.ofW (cc := cc) (maxL := nL) (ret := none) hy rfl ?_
  intro p e s m args below meth c s₁ B hml hv
  obtain ⟨rfl, hsz, hP, hK, hD0⟩ := hv
  have hts := atoms_spec (ws := ws_ y cc nL none) B.pre
  have hts : ∀ w ∈ lw_all, w.before _ s = true := fun w h => hts w (List.mem_cons_of_mem _ h)
  have hin : meth.name = "<init>" := hy2 ▸ (name_of_methodNamed B.named B.method).1
  subst hsz
  have hD := hD0.self (sz := s.heap.size)
  have hcat : ∀ v ∈ av, v.category = 1 := fun v hv => by simpa using List.all_eq_true.mp hc v hv
  rw [lg_entry_eq]
  exact body p e s m av.toArray below meth c (MQ below (va_Qv post (xPost D tys (va_A ws s.heap.size)) (va_A ws s.heap.size)) av.toArray s mc ms (va_A ws s.heap.size)) (va_A ws s.heap.size)
    ⟨B.exec, B.bytes, hml, findClass_of_methodNamed B.named, hts, hK, fun q h => Or.inr h, B.notSynchronized, Nat.zero_le _, Nat.zero_le _⟩ hin ⟨B.returns, rfl⟩ s.heap [] _ hP hD va_S.rf (xL_entry av hcat hn _ r rfl)
section XI
variable {l : Launch} {D : va_G} {cB cI cS : ClassId}
/-- TreeScorer() -/
theorem m0_init (h : Nat) : xMc l D (xT cB cI cS) yX0_init cX0_init 2 ({ frames := 1, cells := 10, slots := 213, locals := 20 } : Room) [.ref h] [(h, .inr (0, [.null, .null, .int 0, .null, .null, .null, .null, .null, .null, .null, .null]))] 10 213 (fun w => ∃ (g : Nat → Nat) (lc : Nat → Nat), g 0 = h ∧ (∀ t, t < 4 → lc t = 1) ∧ w = x0w g cB cI cS lc (fun _ => nI 0) 0 (fun _ => (0, 0, 0, 0, 0, 0)) (fun _ => 0) (fun _ => 0)) := by
  refine xMc_of 1 rfl rfl rfl (Nat.le_of_ble_eq_true rfl) (fun p e s m args below meth c Q A C hin E => ?_)
  refine xr_aload_n C dX0_init_0 rfl ?_
  refine xr_objInit C q26 q27 q28 dX0_init_1 (by decide) (by decide) ?_
  refine xr_aload_n C dX0_init_4 rfl ?_
  refine xr_iconst (v := nI 4) C dX0_init_5 (by decide) ?_
  refine xr_newa (atype := .byte) (ty := .byte) (a0 := (4, .inl (fun _ => nI 0))) (N := 4) C 0 q63 rfl rfl (fun _ _ h => h) (fun _ => rfl) (by decide) (by decide) (by decide) (by decide) dX0_init_6 (fun q1 => ?_)
  replace C := xOk_cs (c2 := 1) (s2 := 4) C (by decide) (by decide)
  refine xr_putF C in_X0 tyX0 tyX0_ok nmX0 0 rfl rfl 0 (by decide) q29 rfl rfl hin rfl (ty := .array .byte) (by decide +kernel) rfl rfl (Nat.le_of_ble_eq_true rfl) (ws' := [(h, .inr (0, [.ref q1, .null, .int 0, .null, .null, .null, .null, .null, .null, .null, .null])), (q1, .inl (cB, 4, .inl (fun _ => nI 0)))]) rfl dX0_init_8 ?_
  refine xr_aload_n C dX0_init_11 rfl ?_
  refine xr_bipush (v := nI 32) C dX0_init_12 (by decide) ?_
  refine xr_newa (atype := .int) (ty := .int) (a0 := (32, .inl (fun _ => nI 0))) (N := 32) C 1 q64 rfl rfl (fun _ _ h => h) (fun _ => rfl) (by decide) (by decide) (by decide) (by decide) dX0_init_14 (fun q2 => ?_)
  replace C := xOk_cs (c2 := 2) (s2 := 36) C (by decide) (by decide)
  refine xr_putF C in_X0 tyX0 tyX0_ok nmX0 0 rfl rfl 1 (by decide) q30 rfl rfl hin rfl (ty := .array .int) (by decide +kernel) rfl rfl (Nat.le_of_ble_eq_true rfl) (ws' := [(h, .inr (0, [.ref q1, .ref q2, .int 0, .null, .null, .null, .null, .null, .null, .null, .null])), (q1, .inl (cB, 4, .inl (fun _ => nI 0))), (q2, .inl (cI, 32, .inl (fun _ => nI 0)))]) rfl dX0_init_16 ?_
  refine xr_aload_n C dX0_init_19 rfl ?_
  refine xr_bipush (v := nI 28) C dX0_init_20 (by decide) ?_
  refine xr_newa (atype := .byte) (ty := .byte) (a0 := (28, .inl (fun _ => nI 0))) (N := 28) C 0 q63 rfl rfl (fun _ _ h => h) (fun _ => rfl) (by decide) (by decide) (by decide) (by decide) dX0_init_22 (fun q3 => ?_)
  replace C := xOk_cs (c2 := 3) (s2 := 64) C (by decide) (by decide)
  refine xr_putF C in_X0 tyX0 tyX0_ok nmX0 0 rfl rfl 3 (by decide) q32 rfl rfl hin rfl (ty := .array .byte) (by decide +kernel) rfl rfl (Nat.le_of_ble_eq_true rfl) (ws' := [(h, .inr (0, [.ref q1, .ref q2, .int 0, .ref q3, .null, .null, .null, .null, .null, .null, .null])), (q1, .inl (cB, 4, .inl (fun _ => nI 0))), (q2, .inl (cI, 32, .inl (fun _ => nI 0))), (q3, .inl (cB, 28, .inl (fun _ => nI 0)))]) rfl dX0_init_24 ?_
  refine xr_aload_n C dX0_init_27 rfl ?_
  refine xr_bipush (v := nI 28) C dX0_init_28 (by decide) ?_
  refine xr_newa (atype := .byte) (ty := .byte) (a0 := (28, .inl (fun _ => nI 0))) (N := 28) C 0 q63 rfl rfl (fun _ _ h => h) (fun _ => rfl) (by decide) (by decide) (by decide) (by decide) dX0_init_30 (fun q4 => ?_)
  replace C := xOk_cs (c2 := 4) (s2 := 92) C (by decide) (by decide)
  refine xr_putF C in_X0 tyX0 tyX0_ok nmX0 0 rfl rfl 4 (by decide) q33 rfl rfl hin rfl (ty := .array .byte) (by decide +kernel) rfl rfl (Nat.le_of_ble_eq_true rfl) (ws' := [(h, .inr (0, [.ref q1, .ref q2, .int 0, .ref q3, .ref q4, .null, .null, .null, .null, .null, .null])), (q1, .inl (cB, 4, .inl (fun _ => nI 0))), (q2, .inl (cI, 32, .inl (fun _ => nI 0))), (q3, .inl (cB, 28, .inl (fun _ => nI 0))), (q4, .inl (cB, 28, .inl (fun _ => nI 0)))]) rfl dX0_init_32 ?_
  refine xr_aload_n C dX0_init_35 rfl ?_
  refine xr_bipush (v := nI 28) C dX0_init_36 (by decide) ?_
  refine xr_newa (atype := .byte) (ty := .byte) (a0 := (28, .inl (fun _ => nI 0))) (N := 28) C 0 q63 rfl rfl (fun _ _ h => h) (fun _ => rfl) (by decide) (by decide) (by decide) (by decide) dX0_init_38 (fun q5 => ?_)
  replace C := xOk_cs (c2 := 5) (s2 := 120) C (by decide) (by decide)
  refine xr_putF C in_X0 tyX0 tyX0_ok nmX0 0 rfl rfl 5 (by decide) q34 rfl rfl hin rfl (ty := .array .byte) (by decide +kernel) rfl rfl (Nat.le_of_ble_eq_true rfl) (ws' := [(h, .inr (0, [.ref q1, .ref q2, .int 0, .ref q3, .ref q4, .ref q5, .null, .null, .null, .null, .null])), (q1, .inl (cB, 4, .inl (fun _ => nI 0))), (q2, .inl (cI, 32, .inl (fun _ => nI 0))), (q3, .inl (cB, 28, .inl (fun _ => nI 0))), (q4, .inl (cB, 28, .inl (fun _ => nI 0))), (q5, .inl (cB, 28, .inl (fun _ => nI 0)))]) rfl dX0_init_40 ?_
  refine xr_aload_n C dX0_init_43 rfl ?_
  refine xr_bipush (v := nI 28) C dX0_init_44 (by decide) ?_
  refine xr_newa (atype := .byte) (ty := .byte) (a0 := (28, .inl (fun _ => nI 0))) (N := 28) C 0 q63 rfl rfl (fun _ _ h => h) (fun _ => rfl) (by decide) (by decide) (by decide) (by decide) dX0_init_46 (fun q6 => ?_)
  replace C := xOk_cs (c2 := 6) (s2 := 148) C (by decide) (by decide)
  refine xr_putF C in_X0 tyX0 tyX0_ok nmX0 0 rfl rfl 6 (by decide) q35 rfl rfl hin rfl (ty := .array .byte) (by decide +kernel) rfl rfl (Nat.le_of_ble_eq_true rfl) (ws' := [(h, .inr (0, [.ref q1, .ref q2, .int 0, .ref q3, .ref q4, .ref q5, .ref q6, .null, .null, .null, .null])), (q1, .inl (cB, 4, .inl (fun _ => nI 0))), (q2, .inl (cI, 32, .inl (fun _ => nI 0))), (q3, .inl (cB, 28, .inl (fun _ => nI 0))), (q4, .inl (cB, 28, .inl (fun _ => nI 0))), (q5, .inl (cB, 28, .inl (fun _ => nI 0))), (q6, .inl (cB, 28, .inl (fun _ => nI 0)))]) rfl dX0_init_48 ?_
  refine xr_aload_n C dX0_init_51 rfl ?_
  refine xr_bipush (v := nI 28) C dX0_init_52 (by decide) ?_
  refine xr_newa (atype := .byte) (ty := .byte) (a0 := (28, .inl (fun _ => nI 0))) (N := 28) C 0 q63 rfl rfl (fun _ _ h => h) (fun _ => rfl) (by decide) (by decide) (by decide) (by decide) dX0_init_54 (fun q7 => ?_)
  replace C := xOk_cs (c2 := 7) (s2 := 176) C (by decide) (by decide)
  refine xr_putF C in_X0 tyX0 tyX0_ok nmX0 0 rfl rfl 7 (by decide) q36 rfl rfl hin rfl (ty := .array .byte) (by decide +kernel) rfl rfl (Nat.le_of_ble_eq_true rfl) (ws' := [(h, .inr (0, [.ref q1, .ref q2, .int 0, .ref q3, .ref q4, .ref q5, .ref q6, .ref q7, .null, .null, .null])), (q1, .inl (cB, 4, .inl (fun _ => nI 0))), (q2, .inl (cI, 32, .inl (fun _ => nI 0))), (q3, .inl (cB, 28, .inl (fun _ => nI 0))), (q4, .inl (cB, 28, .inl (fun _ => nI 0))), (q5, .inl (cB, 28, .inl (fun _ => nI 0))), (q6, .inl (cB, 28, .inl (fun _ => nI 0))), (q7, .inl (cB, 28, .inl (fun _ => nI 0)))]) rfl dX0_init_56 ?_
  refine xr_aload_n C dX0_init_59 rfl ?_
  refine xr_bipush (v := nI 28) C dX0_init_60 (by decide) ?_
  refine xr_newa (atype := .byte) (ty := .byte) (a0 := (28, .inl (fun _ => nI 0))) (N := 28) C 0 q63 rfl rfl (fun _ _ h => h) (fun _ => rfl) (by decide) (by decide) (by decide) (by decide) dX0_init_62 (fun q8 => ?_)
  replace C := xOk_cs (c2 := 8) (s2 := 204) C (by decide) (by decide)
  refine xr_putF C in_X0 tyX0 tyX0_ok nmX0 0 rfl rfl 8 (by decide) q37 rfl rfl hin rfl (ty := .array .byte) (by decide +kernel) rfl rfl (Nat.le_of_ble_eq_true rfl) (ws' := [(h, .inr (0, [.ref q1, .ref q2, .int 0, .ref q3, .ref q4, .ref q5, .ref q6, .ref q7, .ref q8, .null, .null])), (q1, .inl (cB, 4, .inl (fun _ => nI 0))), (q2, .inl (cI, 32, .inl (fun _ => nI 0))), (q3, .inl (cB, 28, .inl (fun _ => nI 0))), (q4, .inl (cB, 28, .inl (fun _ => nI 0))), (q5, .inl (cB, 28, .inl (fun _ => nI 0))), (q6, .inl (cB, 28, .inl (fun _ => nI 0))), (q7, .inl (cB, 28, .inl (fun _ => nI 0))), (q8, .inl (cB, 28, .inl (fun _ => nI 0)))]) rfl dX0_init_64 ?_
  refine xr_aload_n C dX0_init_67 rfl ?_
  refine xr_iconst (v := nI 5) C dX0_init_68 (by decide) ?_
  refine xr_newa (atype := .byte) (ty := .byte) (a0 := (5, .inl (fun _ => nI 0))) (N := 5) C 0 q63 rfl rfl (fun _ _ h => h) (fun _ => rfl) (by decide) (by decide) (by decide) (by decide) dX0_init_69 (fun q9 => ?_)
  replace C := xOk_cs (c2 := 9) (s2 := 209) C (by decide) (by decide)
  refine xr_putF C in_X0 tyX0 tyX0_ok nmX0 0 rfl rfl 9 (by decide) q38 rfl rfl hin rfl (ty := .array .byte) (by decide +kernel) rfl rfl (Nat.le_of_ble_eq_true rfl) (ws' := [(h, .inr (0, [.ref q1, .ref q2, .int 0, .ref q3, .ref q4, .ref q5, .ref q6, .ref q7, .ref q8, .ref q9, .null])), (q1, .inl (cB, 4, .inl (fun _ => nI 0))), (q2, .inl (cI, 32, .inl (fun _ => nI 0))), (q3, .inl (cB, 28, .inl (fun _ => nI 0))), (q4, .inl (cB, 28, .inl (fun _ => nI 0))), (q5, .inl (cB, 28, .inl (fun _ => nI 0))), (q6, .inl (cB, 28, .inl (fun _ => nI 0))), (q7, .inl (cB, 28, .inl (fun _ => nI 0))), (q8, .inl (cB, 28, .inl (fun _ => nI 0))), (q9, .inl (cB, 5, .inl (fun _ => nI 0)))]) rfl dX0_init_71 ?_
  refine xr_aload_n C dX0_init_74 rfl ?_
  refine xr_iconst (v := nI 4) C dX0_init_75 (by decide) ?_
  refine xr_newa (atype := .short) (ty := .short) (a0 := (4, .inl (fun _ => nI 0))) (N := 4) C 2 q65 rfl rfl (fun _ _ h => h) (fun _ => rfl) (by decide) (by decide) (by decide) (by decide) dX0_init_76 (fun q10 => ?_)
  replace C := xOk_cs (c2 := 10) (s2 := 213) C (by decide) (by decide)
  refine xr_putF C in_X0 tyX0 tyX0_ok nmX0 0 rfl rfl 10 (by decide) q39 rfl rfl hin rfl (ty := .array .short) (by decide +kernel) rfl rfl (Nat.le_of_ble_eq_true rfl) (ws' := [(h, .inr (0, [.ref q1, .ref q2, .int 0, .ref q3, .ref q4, .ref q5, .ref q6, .ref q7, .ref q8, .ref q9, .ref q10])), (q1, .inl (cB, 4, .inl (fun _ => nI 0))), (q2, .inl (cI, 32, .inl (fun _ => nI 0))), (q3, .inl (cB, 28, .inl (fun _ => nI 0))), (q4, .inl (cB, 28, .inl (fun _ => nI 0))), (q5, .inl (cB, 28, .inl (fun _ => nI 0))), (q6, .inl (cB, 28, .inl (fun _ => nI 0))), (q7, .inl (cB, 28, .inl (fun _ => nI 0))), (q8, .inl (cB, 28, .inl (fun _ => nI 0))), (q9, .inl (cB, 5, .inl (fun _ => nI 0))), (q10, .inl (cS, 4, .inl (fun _ => nI 0)))]) rfl dX0_init_78 ?_
  refine xr_iconst (v := nI 0) C dX0_init_81 (by decide) ?_
  refine xr_istore_n C dX0_init_82 (by decide) rfl ?_
  refine xr_ws (ws' := x0w (fun k => match k with | 0 => h | 1 => q1 | 2 => q2 | 3 => q3 | 4 => q4 | 5 => q5 | 6 => q6 | 7 => q7 | 8 => q8 | 9 => q9 | _ => q10) cB cI cS (fun _ => 0) (fun _ => nI 0) 0 (fun _ => (0, 0, 0, 0, 0, 0)) (fun _ => 0) (fun _ => 0)) rfl ?_
  suffices H : ∀ (n t : Nat) (lc : Nat → Nat), t + n = 4 → (∀ j, j < t → lc j = 1) → xW l ({ frames := 1, cells := 10, slots := 213, locals := 20 } : Room) D 2 (p, e, s, m, args, below, meth, c, Q, A, 10, 213) (x0w (fun k => match k with | 0 => h | 1 => q1 | 2 => q2 | 3 => q3 | 4 => q4 | 5 => q5 | 6 => q6 | 7 => q7 | 8 => q8 | 9 => q9 | _ => q10) cB cI cS lc (fun _ => nI 0) 0 (fun _ => (0, 0, 0, 0, 0, 0)) (fun _ => 0) (fun _ => 0)) [some (.ref h), some (.int (nI t))] 83 [] by
    exact H 4 0 _ rfl (fun j hj => absurd hj (Nat.not_lt_zero j))
  intro n
  induction n with
  | zero =>
    intro t lc htn hlc
    have : t = 4 := by omega
    subst this
    refine xr_iload_n C dX0_init_83 rfl ?_
    refine xr_iconst (v := nI 4) C dX0_init_84 (by decide) ?_
    refine xr_icmp_geN (tgt := 101) C (by omega) (by omega) dX0_init_85 (by decide) (fun hc => ?_) (fun hc => ?_)
    · exact xr_return C E dX0_init_101 ⟨_, lc, rfl, hlc, rfl⟩
    · omega
  | succ n ih =>
    intro t lc htn hlc
    refine xr_iload_n C dX0_init_83 rfl ?_
    refine xr_iconst (v := nI 4) C dX0_init_84 (by decide) ?_
    refine xr_icmp_geN (tgt := 101) C (by omega) (by omega) dX0_init_85 (by decide) (fun hc => ?_) (fun hc => ?_)
    · omega
    · refine xr_aload_n C dX0_init_88 rfl ?_
      refine x0g_7 C 0 rfl rfl dX0_init_89 ?_
      refine xr_iload_n C dX0_init_92 rfl ?_
      refine xr_iconst (v := nI 1) C dX0_init_93 (by decide) ?_
      refine xr_bastN C 1 0 rfl rfl (by omega) (by decide) (by omega) rfl dX0_init_94 ?_
      refine xr_iinc1 C dX0_init_95 rfl (by decide) rfl ?_
      refine xr_goto (tgt := 83) C dX0_init_98 (by decide) ?_
      refine ih (t + 1) _ (by omega) (fun j hj => ?_)
      by_cases q : j = t
      · subst q; simp [va_up]
      · simp only [va_up, if_neg q]; exact hlc j (by omega)
/-- TreeScorerModel() -/
theorem m1_init (h : Nat) : xMc l D (xT cB cI cS) yX1_init cX1_init 2 ({ frames := 1, cells := 5, slots := 132, locals := 20 } : Room) [.ref h] [(h, .inr (1, [.null, .null, .null, .null, .null]))] 5 132 (fun w => ∃ (g : Nat → Nat) (sz : Nat → Nat) (ak : Nat → Int32), g 0 = h ∧ (∀ t, t < 4 → sz t = 1 ∧ ak (15 * t) = -1) ∧ w = x1w g cI sz ak (fun _ => nI 0) (fun _ => 0) (fun _ => 0)) := by
  refine xMc_of 1 rfl rfl rfl (Nat.le_of_ble_eq_true rfl) (fun p e s m args below meth c Q A C hin E => ?_)
  refine xr_aload_n C dX1_init_0 rfl ?_
  refine xr_objInit C q186 q27 q28 dX1_init_1 (by decide) (by decide) ?_
  refine xr_aload_n C dX1_init_4 rfl ?_
  refine xr_iconst (v := nI 4) C dX1_init_5 (by decide) ?_
  refine xr_newa (atype := .int) (ty := .int) (a0 := (4, .inl (fun _ => nI 0))) (N := 4) C 1 q64 rfl rfl (fun _ _ h => h) (fun _ => rfl) (by decide) (by decide) (by decide) (by decide) dX1_init_6 (fun q1 => ?_)
  replace C := xOk_cs (c2 := 1) (s2 := 4) C (by decide) (by decide)
  refine xr_put C in_X1 tyX1 tyX1_ok nmX1 0 rfl rfl 0 (by decide) q187 rfl rfl (ty := .array .int) (by decide +kernel) rfl rfl (Nat.le_of_ble_eq_true rfl) (ws' := [(h, .inr (1, [.ref q1, .null, .null, .null, .null])), (q1, .inl (cI, 4, .inl (fun _ => nI 0)))]) rfl dX1_init_8 ?_
  refine xr_aload_n C dX1_init_11 rfl ?_
  refine xr_bipush (v := nI 60) C dX1_init_12 (by decide) ?_
  refine xr_newa (atype := .int) (ty := .int) (a0 := (60, .inl (fun _ => nI 0))) (N := 60) C 1 q64 rfl rfl (fun _ _ h => h) (fun _ => rfl) (by decide) (by decide) (by decide) (by decide) dX1_init_14 (fun q2 => ?_)
  replace C := xOk_cs (c2 := 2) (s2 := 64) C (by decide) (by decide)
  refine xr_put C in_X1 tyX1 tyX1_ok nmX1 0 rfl rfl 1 (by decide) q188 rfl rfl (ty := .array .int) (by decide +kernel) rfl rfl (Nat.le_of_ble_eq_true rfl) (ws' := [(h, .inr (1, [.ref q1, .ref q2, .null, .null, .null])), (q1, .inl (cI, 4, .inl (fun _ => nI 0))), (q2, .inl (cI, 60, .inl (fun _ => nI 0)))]) rfl dX1_init_16 ?_
  refine xr_aload_n C dX1_init_19 rfl ?_
  refine xr_bipush (v := nI 60) C dX1_init_20 (by decide) ?_
  refine xr_newa (atype := .int) (ty := .int) (a0 := (60, .inl (fun _ => nI 0))) (N := 60) C 1 q64 rfl rfl (fun _ _ h => h) (fun _ => rfl) (by decide) (by decide) (by decide) (by decide) dX1_init_22 (fun q3 => ?_)
  replace C := xOk_cs (c2 := 3) (s2 := 124) C (by decide) (by decide)
  refine xr_put C in_X1 tyX1 tyX1_ok nmX1 0 rfl rfl 2 (by decide) q189 rfl rfl (ty := .array .int) (by decide +kernel) rfl rfl (Nat.le_of_ble_eq_true rfl) (ws' := [(h, .inr (1, [.ref q1, .ref q2, .ref q3, .null, .null])), (q1, .inl (cI, 4, .inl (fun _ => nI 0))), (q2, .inl (cI, 60, .inl (fun _ => nI 0))), (q3, .inl (cI, 60, .inl (fun _ => nI 0)))]) rfl dX1_init_24 ?_
  refine xr_aload_n C dX1_init_27 rfl ?_
  refine xr_iconst (v := nI 4) C dX1_init_28 (by decide) ?_
  refine xr_newa (atype := .int) (ty := .int) (a0 := (4, .inl (fun _ => nI 0))) (N := 4) C 1 q64 rfl rfl (fun _ _ h => h) (fun _ => rfl) (by decide) (by decide) (by decide) (by decide) dX1_init_29 (fun q4 => ?_)
  replace C := xOk_cs (c2 := 4) (s2 := 128) C (by decide) (by decide)
  refine xr_put C in_X1 tyX1 tyX1_ok nmX1 0 rfl rfl 3 (by decide) q190 rfl rfl (ty := .array .int) (by decide +kernel) rfl rfl (Nat.le_of_ble_eq_true rfl) (ws' := [(h, .inr (1, [.ref q1, .ref q2, .ref q3, .ref q4, .null])), (q1, .inl (cI, 4, .inl (fun _ => nI 0))), (q2, .inl (cI, 60, .inl (fun _ => nI 0))), (q3, .inl (cI, 60, .inl (fun _ => nI 0))), (q4, .inl (cI, 4, .inl (fun _ => nI 0)))]) rfl dX1_init_31 ?_
  refine xr_aload_n C dX1_init_34 rfl ?_
  refine xr_iconst (v := nI 4) C dX1_init_35 (by decide) ?_
  refine xr_newa (atype := .int) (ty := .int) (a0 := (4, .inl (fun _ => nI 0))) (N := 4) C 1 q64 rfl rfl (fun _ _ h => h) (fun _ => rfl) (by decide) (by decide) (by decide) (by decide) dX1_init_36 (fun q5 => ?_)
  replace C := xOk_cs (c2 := 5) (s2 := 132) C (by decide) (by decide)
  refine xr_put C in_X1 tyX1 tyX1_ok nmX1 0 rfl rfl 4 (by decide) q191 rfl rfl (ty := .array .int) (by decide +kernel) rfl rfl (Nat.le_of_ble_eq_true rfl) (ws' := [(h, .inr (1, [.ref q1, .ref q2, .ref q3, .ref q4, .ref q5])), (q1, .inl (cI, 4, .inl (fun _ => nI 0))), (q2, .inl (cI, 60, .inl (fun _ => nI 0))), (q3, .inl (cI, 60, .inl (fun _ => nI 0))), (q4, .inl (cI, 4, .inl (fun _ => nI 0))), (q5, .inl (cI, 4, .inl (fun _ => nI 0)))]) rfl dX1_init_38 ?_
  refine xr_iconst (v := nI 0) C dX1_init_41 (by decide) ?_
  refine xr_istore_n C dX1_init_42 (by decide) rfl ?_
  refine xr_ws (ws' := x1w (fun k => match k with | 0 => h | 1 => q1 | 2 => q2 | 3 => q3 | 4 => q4 | _ => q5) cI (fun _ => 0) (fun _ => nI 0) (fun _ => nI 0) (fun _ => 0) (fun _ => 0)) rfl ?_
  suffices H : ∀ (n t : Nat) (sz : Nat → Nat) (ak : Nat → Int32), t + n = 4 → (∀ j, j < t → sz j = 1 ∧ ak (15 * j) = -1) → xW l ({ frames := 1, cells := 5, slots := 132, locals := 20 } : Room) D 2 (p, e, s, m, args, below, meth, c, Q, A, 5, 132) (x1w (fun k => match k with | 0 => h | 1 => q1 | 2 => q2 | 3 => q3 | 4 => q4 | _ => q5) cI sz ak (fun _ => nI 0) (fun _ => 0) (fun _ => 0)) [some (.ref h), some (.int (nI t))] 43 [] by
    exact H 4 0 _ _ rfl (fun j hj => absurd hj (Nat.not_lt_zero j))
  intro n
  induction n with
  | zero =>
    intro t sz ak htn hlc
    have : t = 4 := by omega
    subst this
    refine xr_iload_n C dX1_init_43 rfl ?_
    refine xr_iconst (v := nI 4) C dX1_init_44 (by decide) ?_
    refine xr_icmp_geN (tgt := 71) C (by omega) (by omega) dX1_init_45 (by decide) (fun hc => ?_) (fun hc => ?_)
    · exact xr_return C E dX1_init_71 ⟨_, sz, ak, rfl, hlc, rfl⟩
    · omega
  | succ n ih =>
    intro t sz ak htn hlc
    refine xr_iload_n C dX1_init_43 rfl ?_
    refine xr_iconst (v := nI 4) C dX1_init_44 (by decide) ?_
    refine xr_icmp_geN (tgt := 71) C (by omega) (by omega) dX1_init_45 (by decide) (fun hc => ?_) (fun hc => ?_)
    · omega
    · refine xr_aload_n C dX1_init_48 rfl ?_
      refine x1g_7 C 0 rfl rfl dX1_init_49 ?_
      refine xr_iload_n C dX1_init_52 rfl ?_
      refine xr_iconst (v := nI 1) C dX1_init_53 (by decide) ?_
      refine xr_iastN C 1 1 rfl rfl (by omega) (by decide) rfl dX1_init_54 ?_
      refine xr_aload_n C dX1_init_55 rfl ?_
      refine x1g_13 C 0 rfl rfl dX1_init_56 ?_
      refine xr_bipush (v := nI 15) C dX1_init_59 (by decide) ?_
      refine xr_iload_n C dX1_init_61 rfl ?_
      refine xr_imulN C dX1_init_62 ?_
      refine xr_iconst (v := (-1)) C dX1_init_63 (by decide) ?_
      refine xr_iast C 2 1 rfl rfl (by omega) (by decide) rfl dX1_init_64 ?_
      refine xr_iinc1 C dX1_init_65 rfl (by decide) rfl ?_
      refine xr_goto (tgt := 43) C dX1_init_68 (by decide) ?_
      refine ih (t + 1) _ _ (by omega) (fun j hj => ?_)
      by_cases q : j = t
      · subst q; exact ⟨by simp [va_up], upd_at _ _ _⟩
      · refine ⟨?_, ?_⟩
        · simp only [va_up, if_neg q]; exact (hlc j (by omega)).1
        · rw [upd_ne _ _ (by omega)]; exact (hlc j (by omega)).2
end XI
end
section
/-! THE CLAIM OUT OF ONE WALK OF THE LAW'S BODY. Your part is whole_start (and what it stands on); all else here is the same for every law, but numbers. -/
def R_law : String := "TreeScorerLaw"
def lw_P (b : Addr) (xs : List Int32) (args : Array Value) (s : State) : Prop := args = #[.ref b] ∧ s.IntsAt b xs ∧ xs.length ≤ 320 ∧ (Jvm.Cond.and given_1 narrow_1).before args s = true
def lw_Q (_ : Array Value) (s : State) (o : Outcome) (t : State) : Prop := o = .returned (some (.int 1)) ∧ Framed s o t [] 600000 7290000
def lw_Z (below : List Frame) (a : Array Value) (s : State) : State → Prop := fun t => ∃ o, t.status = .running ∧ Ended t below o ∧ lw_Q a s o t
/-- the law's own end, with 1 on the stack, nothing written that was there before, its room as the claim has it -/
theorem lw_ret {p : Program} {l : Launch} {e : Env} {s : State} {m : MethodId} {below : List Frame} {meth : Method} {c : Code} {b : Nat} (hx : p.tables.exec = Jvm.exec) (hb : c.code = code) (hr : meth.sig.returnType = ret) (hlocks : meth.locks = false) {pc : Nat} {H : Heap} {ls : Array Slot} (hdg : decode code pc = .ok (.ireturn, 1)) : W p l e room_1 s m #[Value.ref b] below meth c H [] 600000 7290000 (lw_Z below #[Value.ref b] s) (F0 m pc ls [.int 1]) := by
  intro T hT X
  obtain ⟨fs, hret, hrun, hended, hW, hframe⟩ := X.leave (v := some (.int 1)) (hlocks := hlocks) (fun h => by rw [hr] at h; cases h)
  have hmeth' : T.vm.method? m = some meth := X.method'
  refine ⟨T.setFrames fs, ?_, .returned (some (.int 1)), hrun, hended, rfl, ⟨_, rfl⟩, hW, hframe⟩
  jvm_step X.here [X.here.top, hx, hb, hdg, hmeth', hr, ret, narrow_b1]
  (try refine ⟨rfl, ?_⟩); (try refine ⟨rfl, ?_⟩)
  first | (intro acts; rw [hret _ acts rfl rfl rfl]) | rw [hret _ _ rfl rfl rfl]
  exact Steps.refl _
/-- what holds at the law's entry: the machine, the code, the tables' words (any of lw_tbl by 'hts w (by decide +kernel)'), the script of L ints xs at the cell b, what the Statement gives of the start (any of its parts by flat_of_before) -/
def lw_At (p : Program) (s : State) (m : MethodId) (meth : Method) (c : Code) (b L : Nat) (xs : Nat → Int32) : Prop :=
  p.tables.exec = Jvm.exec ∧ c.code = code ∧ meth.sig.returnType = ret ∧ c.maxLocals = 4 ∧ s.vm.findClass R_law = some m.cls ∧ (∀ w ∈ lw_tbl, w.before #[Value.ref b] s = true) ∧ va_X b L xs s s.heap ∧ b < s.heap.size ∧ meth.locks = false ∧ (Jvm.Cond.and given_1 narrow_1).before #[Value.ref b] s = true
end
section
/-! THE LAW's own rows: its script, its switch, new, a constructor's call, a call on one of two worlds -/
set_option maxRecDepth 100000
def xScr (K : xK) (b L : Nat) (xs : Nat → Int32) : Prop := match K with
  | (_, _, s, _, _, _, _, _, _, A, _, _) => va_X b L xs s s.heap ∧ b < s.heap.size ∧ ¬ A b
section XS
variable {l : Launch} {R : Room} {D : va_G} {tys : List (ClassId × FieldType)} {nL : Nat} {K : xK} {cc : ByteArray} {own : String} {ws : va_W} {lv : List (Option Value)} {pc : Nat} {st : List Value}
theorem xr_sld (C : xOk R D tys nL K cc own) {b L : Nat} {xs : Nat → Int32} (X : xScr K b L xs) {i : Nat} (hi : i < L) (hL : L < 2 ^ 31) (hd : decode cc pc = .ok (.iaload, 1)) (k : xW l R D nL K ws lv (pc + 1) (.int (xs i) :: st)) : xW l R D nL K ws lv pc (.int (nI i) :: .ref b :: st) := by
  obtain ⟨p, e, s, m, args, below, meth, c, Q, A, cells, slots⟩ := K
  obtain ⟨hx, hb, hml, hown, hts, hK, hA, hlk, hcs⟩ := C
  obtain ⟨hX, hbl, hbA⟩ := X
  intro H locs ls hP hD hS hl
  refine va_sld hx hb hX hbl hbA hS (vp_in_nI hi hL) hd ?_
  rw [nI_clamp (show i < 2 ^ 31 by omega)]
  exact k H locs ls hP hD hS hl
theorem xr_slen (C : xOk R D tys nL K cc own) {b L : Nat} {xs : Nat → Int32} (X : xScr K b L xs) (hd : decode cc pc = .ok (.arraylength, 1)) (k : xW l R D nL K ws lv (pc + 1) (.int (nI L) :: st)) : xW l R D nL K ws lv pc (.ref b :: st) := by
  obtain ⟨p, e, s, m, args, below, meth, c, Q, A, cells, slots⟩ := K
  obtain ⟨hx, hb, hml, hown, hts, hK, hA, hlk, hcs⟩ := C
  obtain ⟨hX, hbl, hbA⟩ := X
  intro H locs ls hP hD hS hl
  exact va_slen hx hb hX hbl hbA hS hd (k H locs ls hP hD hS hl)
theorem xr_tableIn (C : xOk R D tys nL K cc own) {dflt lo hi : Int} {offs : Array Int} {len : Nat} {x : Int32} {off : Int} {tgt : Nat} (hd : decode cc pc = .ok (.tableswitch dflt lo hi offs, len)) (h1 : ¬ x.toInt < lo) (h2 : ¬ hi < x.toInt) (ho : offs[(x.toInt - lo).toNat]? = some off) (ht : (pc : Int) + off = (tgt : Int)) (k : xW l R D nL K ws lv tgt st) : xW l R D nL K ws lv pc (.int x :: st) := by
  obtain ⟨p, e, s, m, args, below, meth, c, Q, A, cells, slots⟩ := K
  obtain ⟨hx, hb, hml, hown, hts, hK, hA, hlk, hcs⟩ := C
  intro H locs ls hP hD hS hl
  exact lv_tableIn hx hb hd h1 h2 ho ht (k H locs ls hP hD hS hl)
theorem xr_tableOut (C : xOk R D tys nL K cc own) {dflt lo hi : Int} {offs : Array Int} {len : Nat} {x : Int32} {tgt : Nat} (hd : decode cc pc = .ok (.tableswitch dflt lo hi offs, len)) (h : x.toInt < lo ∨ hi < x.toInt) (ht : (pc : Int) + dflt = (tgt : Int)) (k : xW l R D nL K ws lv tgt st) : xW l R D nL K ws lv pc (.int x :: st) := by
  obtain ⟨p, e, s, m, args, below, meth, c, Q, A, cells, slots⟩ := K
  obtain ⟨hx, hb, hml, hown, hts, hK, hA, hlk, hcs⟩ := C
  intro H locs ls hP hD hS hl
  exact lv_tableOut hx hb hd h ht (k H locs ls hP hD hS hl)
end XS
section XM
variable {l : Launch} {R : Room} {D : va_G} {tys : List (ClassId × FieldType)} {nL : Nat} {cc : ByteArray} {own : String} {ws : va_W} {lv : List (Option Value)} {pc : Nat} {st : List Value}
variable {p : Program} {e : Env} {s : State} {m : MethodId} {args : Array Value} {below : List Frame} {meth : Method} {c : Code} {Q : State → Prop} {A : Nat → Prop} {cells slots : Nat}
variable {y : MethodName} {cc' : ByteArray} {nL' n idx mc ms : Nat} {rm' : Room} {b : Nat} {As rest stk : List Value} {wc wr : va_W}
theorem xr_new (C : xOk R D tys nL (p, e, s, m, args, below, meth, c, Q, A, cells, slots) cc own) {Cn : String} {T : u_T} {N ci index : Nat} (hin : ∀ w ∈ u_ws Cn T N, w ∈ lw_all) (ty0 : Nat → FieldType) (hty : ∀ k, k < N → parseFieldDescriptor (T k).2.2.1 = some (ty0 k)) (h1 : Cond.classLink own index Cn ∈ lw_all) (h2 : Cond.instantiable Cn N ∈ lw_all) (h3 : Cond.initialized Cn ∈ lw_all) (hc : vwCl[ci]? = some (Cn, T, N)) {fs : List Value} (hfs : ∀ j, j < N → defaultValue (ty0 j) = vp_V fs j) (hc1 : cells + 1 ≤ R.cells) (hs1 : slots + N ≤ R.slots) (hd : decode cc pc = .ok (.new index, 3))
    (k : ∀ q : Nat, xW l R D nL (p, e, s, m, args, below, meth, c, Q, A, cells + 1, slots + N) (ws ++ [(q, .inr (ci, fs))]) lv (pc + 3) (.ref q :: st)) : xW l R D nL (p, e, s, m, args, below, meth, c, Q, A, cells, slots) ws lv pc st := by
  obtain ⟨hx, hb, hml, hown, hts, hK, hA, hlk, hcs⟩ := C
  intro H locs ls hP hD hS hl
  exact va_new hx hb hts hin ty0 hty hown (hts _ h1) (hts _ h2) (hts _ h3) hK hP hD hS hA hc hfs hc1 hs1 hd (fun q H1 hP1 hD1 hS1 => k q H1 locs ls hP1 hD1 hS1 hl)
theorem xr_callIv {post : va_W → Prop} (C : xOk R D tys nL (p, e, s, m, args, below, meth, c, Q, A, cells, slots) cc own) (hM : xMc l D tys y cc' nL' rm' (.ref b :: As) wc mc ms post) (h1 : Cond.code y cc' nL' none ∈ lw_all) (h2 : Cond.initialized y.cls ∈ lw_all) (h3 : Cond.methodLink own idx y ∈ lw_all) (h4 : Cond.instanceMethod y ∈ lw_all) (hy : y.name = "<init>") (hrc : rm'.cells = mc) (hrs : rm'.slots = ms) (hd0 : y.cls ≠ "java/lang/invoke/MethodHandle" ∧ y.cls ≠ "java/lang/invoke/VarHandle" ∧ (parseMethodDescriptor y.desc).map (fun d => d.parameters.length) = some n) (hRm : rm'.frames + 1 ≤ R.frames ∧ 8 + (nL' + 11) + rm'.locals ≤ R.locals) (isC isR : List Nat) (hC : isC.map (fun i => ws[i]?) = wc.map some) (hR : isR.map (fun i => ws[i]?) = wr.map some) (hnC : va_nd isC = true) (hnR : va_nd isR = true) (hdis : ∀ i ∈ isR, i ∉ isC) (hn : As.length = n) (hst : stk = As.reverse ++ .ref b :: rest) (hcat : (rest.map fun v => v.category).sum ≤ 8) (hd : decode cc pc = .ok (.invokespecial idx, 3)) (hf : cells + mc ≤ R.cells ∧ slots + ms ≤ R.slots)
    (k : ∀ w : va_W, post w → xW l R D nL (p, e, s, m, args, below, meth, c, Q, A, cells + mc, slots + ms) (wr ++ w) lv (pc + 3) rest) : xW l R D nL (p, e, s, m, args, below, meth, c, Q, A, cells, slots) ws lv pc stk := by
  obtain ⟨hx, hb, hml, hown, hts, hK, hA, hlk, hcs⟩ := C
  intro H locs ls hP hD hS hl
  subst hst
  have hPc : va_P D vwCl wc H := hP.sub (ws' := wc) isC (xfm hC)
  have hDc := hD.sub (ws' := wc) isC hnC hC
  have hFc := va_free (wc := wc) hD hS hA isC hC
  refine va_callv (va_runI (As := As) (rest := rest) ⟨hx, hb, hml, hown, hts⟩ (hM H.size) (cwI n hts (lw_meth h1) rfl hrc hrs (hts _ h2) (hts _ h3) (hts _ h4) hy hd0 hRm) ⟨xblind, fun U hU hW => ⟨rfl, by rw [hU], by rw [hU]; exact hPc, va_K.moved hW.alike hK, hDc.weaken (fun _ _ _ _ => trivial)⟩⟩ rfl hn hl.1.1 rfl (lv_room hcat) hd hf) hS (fun q _ h => hFc q h) hFc (fun u t H1 locs ht hvm hw1 hB hz1 hk1 hS => ?_)
  obtain ⟨hP1, hK1, hD1⟩ := hB
  rw [ht] at hP1
  obtain ⟨hP, hD⟩ := va_join (wr := wr) (w1 := u) hP hD isC isR hC hR hnR hdis hk1 hFc hP1 hD1
  exact k u hw1 H1 locs ls hP hD hS hl
end XM
theorem xapp_C (a b : va_W) : (List.range a.length).map (fun i => (a ++ b)[i]?) = a.map some := by
  apply List.ext_getElem?
  intro i
  by_cases h : i < a.length
  · rw [List.getElem?_map, List.getElem?_map, List.getElem?_range h]
    show some ((a ++ b)[i]?) = _
    rw [List.getElem?_append_left h, List.getElem?_eq_getElem h]
    rfl
  · rw [List.getElem?_eq_none (by simp; omega), List.getElem?_eq_none (by simp; omega)]
theorem xapp_R (a b : va_W) : ((List.range b.length).map (fun i => a.length + i)).map (fun i => (a ++ b)[i]?) = b.map some := by
  apply List.ext_getElem?
  intro i
  by_cases h : i < b.length
  · rw [List.getElem?_map, List.getElem?_map, List.getElem?_map, List.getElem?_range h]
    show some ((a ++ b)[a.length + i]?) = _
    rw [List.getElem?_append_right (by omega), Nat.add_sub_cancel_left, List.getElem?_eq_getElem h]
    rfl
  · rw [List.getElem?_eq_none (by simp; omega), List.getElem?_eq_none (by simp; omega)]
section XD
variable {l : Launch} {R : Room} {D : va_G} {tys : List (ClassId × FieldType)} {nL : Nat} {K : xK} {cc : ByteArray} {own : String} {lv : List (Option Value)} {pc : Nat}
variable {y : MethodName} {cc' : ByteArray} {nL' n idx : Nat} {ty : FieldType} {rm' : Room} {b : Nat} {As rest stk : List Value} {wc wr : va_W} {Cn : String}
/-- a call on the first of two worlds: what comes back stands behind the second -/
theorem xr_callAi {post : Int32 → va_W → Prop} (C : xOk R D tys nL K cc own) (hM : xMi l D tys y cc' nL' ty rm' (.ref b :: As) wc post) (cw : xCW R own Cn idx y cc' nL' (some ty) rm' n) (q0 : Nat) {ci N : Nat} {fs : List Value} {T : u_T} (he : wc[q0]? = some (b, .inr (ci, fs))) (hcl : vwCl[ci]? = some (Cn, T, N)) (hn : As.length = n) (hst : stk = As.reverse ++ .ref b :: rest) (hcat : (rest.map fun v => v.category).sum ≤ 8) (hd : decode cc pc = .ok (.invokevirtual idx, 3)) (k : ∀ (r : Int32) (w : va_W), post r w → xW l R D nL K (wr ++ w) lv (pc + 3) (.int r :: rest)) : xW l R D nL K (wc ++ wr) lv pc stk := by
  refine xr_callVi (wc := wc) (wr := wr) C hM cw (List.range wc.length) ((List.range wr.length).map (fun i => wc.length + i)) (xapp_C wc wr) (xapp_R wc wr) (xnd _ List.nodup_range) (xnd _ (List.pairwise_map.mpr (List.nodup_range.imp (fun h e => h (by omega))))) (fun i h h2 => ?_) q0 he hcl hn hst hcat hd k
  obtain ⟨j, -, e⟩ := List.mem_map.mp h
  have := List.mem_range.mp h2
  omega
end XD
theorem nI_sub5 {L i : Nat} (hL : L ≤ 320) (hi : i ≤ 320) : nI L - nI 5 < nI i ↔ L < i + 5 := by
  have e1 : (nI L - nI 5).toInt = (L : Int) - 5 := by
    rw [Int32.toInt_sub, nI_toInt (by omega), nI_toInt (by omega)]
    exact Int.bmod_eq_of_le (by omega) (by omega)
  rw [Int32.lt_iff_toInt_lt, e1, nI_toInt (by omega)]
  omega
end
section
/-! BOTH CLASSES hold the same trees, so they answer alike: what the two contracts of a method say, side by side -/
set_option maxRecDepth 100000
/-- both worlds hold the same trees -/
def jw_W (g g' : Nat → Nat) (cB cI cS : ClassId) (w w1 : va_W) : Prop := ∃ (τ : Nat → Tr) (lc : Nat → Nat) (vs : Nat → Int32) (n : Nat) (fk : Nat → Fk) (sa lf sz : Nat → Nat) (ak nu : Nat → Int32) (lo hi : Nat → Nat), r0 τ lc vs n fk sa ∧ r1 τ sz ak nu ∧ w = x0w g cB cI cS lc vs n fk sa lf ∧ w1 = x1w g' cI sz ak nu lo hi
theorem ag_or {P a b a' b' G : Prop} (h0 : (¬ P ∧ a) ∨ b) (h1 : (¬ P ∧ a') ∨ b') (hb : b → P) (hb' : b' → P) (g1 : a → a' → G) (g2 : b → b' → G) : G := by
  rcases h0 with ⟨x, h0⟩ | h0
  · rcases h1 with ⟨-, h1⟩ | h1
    · exact g1 h0 h1
    · exact absurd (hb' h1) x
  · rcases h1 with ⟨x, -⟩ | h1
    · exact absurd (hb h0) x
    · exact g2 h0 h1
section AG
variable {g g' : Nat → Nat} {cB cI cS : ClassId} {τ : Nat → Tr} {lc : Nat → Nat} {vs : Nat → Int32} {n : Nat} {fk : Nat → Fk} {sa lf sz : Nat → Nat} {ak nu : Nat → Int32} {lo hi : Nat → Nat} {w w1 : va_W} {r r' : Int32}
theorem ag_lf (J0 : r0 τ lc vs n fk sa) (p q : Int32) : xlf lc p q ↔ xlf (fun t => nl (τ t)) p q := by
  constructor
  · rintro ⟨t, i, ht, hi, e1, e2⟩
    exact ⟨t, i, ht, by rw [(J0.1 t ht).1] at hi; exact hi, e1, e2⟩
  · rintro ⟨t, i, ht, hi, e1, e2⟩
    exact ⟨t, i, ht, by rw [(J0.1 t ht).1]; exact hi, e1, e2⟩
theorem jw_same (J0 : r0 τ lc vs n fk sa) (J1 : r1 τ sz ak nu) {lf' lo' hi' : Nat → Nat} : jw_W g g' cB cI cS (x0w g cB cI cS lc vs n fk sa lf') (x1w g' cI sz ak nu lo' hi') := ⟨τ, lc, vs, n, fk, sa, lf', sz, ak, nu, lo', hi', J0, J1, rfl, rfl⟩
theorem ag_split (J0 : r0 τ lc vs n fk sa) (J1 : r1 τ sz ak nu) {p1 p2 p3 p4 : Int32}
    (h0 : (¬ (xlf lc p1 p2 ∧ xin p3 4 ∧ xin p4 16) ∧ r = -1 ∧ w = x0w g cB cI cS lc vs n fk sa lf) ∨ ∃ t i f lim : Nat, t < 4 ∧ i < lc t ∧ f < 4 ∧ lim < 16 ∧ p1 = nI t ∧ p2 = nI i ∧ p3 = nI f ∧ p4 = nI lim ∧ ((lc t = 8 ∧ r = -2 ∧ w = x0w g cB cI cS lc vs n fk sa lf) ∨ (lc t < 8 ∧ r = nI (lc t + 1) ∧ ∃ vs' fk' sa', splR lc vs n fk t i f lim vs' fk' sa' ∧ w = x0w g cB cI cS (va_up lc t (lc t + 1)) vs' (n + 1) fk' sa' lf)))
    (h1 : (¬ (xlf (fun t => nl (τ t)) p1 p2 ∧ xin p3 4 ∧ xin p4 16) ∧ r' = -1 ∧ w1 = x1w g' cI sz ak nu lo hi) ∨ ∃ t i f lim : Nat, t < 4 ∧ i < nl (τ t) ∧ f < 4 ∧ lim < 16 ∧ p1 = nI t ∧ p2 = nI i ∧ p3 = nI f ∧ p4 = nI lim ∧ ((nl (τ t) = 8 ∧ r' = -2 ∧ w1 = x1w g' cI sz ak nu lo hi) ∨ (nl (τ t) < 8 ∧ r' = nI (nl (τ t) + 1) ∧ ∃ sz' ak' nu', r1 (va_up τ t (splT (τ t) i (16 * f + lim))) sz' ak' nu' ∧ w1 = x1w g' cI sz' ak' nu' lo hi))) :
    r = r' ∧ jw_W g g' cB cI cS w w1 := by
  rw [ag_lf J0] at h0
  refine ag_or h0 h1 ?_ ?_ ?_ ?_
  · rintro ⟨t, i, f, lim, ht, hi, hf, hl, e1, e2, e3, e4, -⟩
    rw [(J0.1 t ht).1] at hi
    exact ⟨⟨t, i, ht, hi, e1, e2⟩, ⟨f, hf, e3⟩, ⟨lim, hl, e4⟩⟩
  · rintro ⟨t, i, f, lim, ht, hi, hf, hl, e1, e2, e3, e4, -⟩
    exact ⟨⟨t, i, ht, hi, e1, e2⟩, ⟨f, hf, e3⟩, ⟨lim, hl, e4⟩⟩
  · rintro ⟨rfl, rfl⟩ ⟨rfl, rfl⟩
    exact ⟨rfl, jw_same J0 J1⟩
  · rintro ⟨t, i, f, lim, ht, hi, hf, hl, e1, e2, e3, e4, h0⟩ ⟨t', i', f', lim', ht', hi', hf', hl', e1', e2', e3', e4', h1⟩
    obtain rfl : t = t' := nI_inj (by omega) (by omega) (e1.symm.trans e1')
    obtain ⟨a1, a2, -⟩ := J0.1 t ht
    obtain rfl : i = i' := nI_inj (by omega) (by omega) (e2.symm.trans e2')
    obtain rfl : f = f' := nI_inj (by omega) (by omega) (e3.symm.trans e3')
    obtain rfl : lim = lim' := nI_inj (by omega) (by omega) (e4.symm.trans e4')
    rcases h0 with ⟨b1, rfl, rfl⟩ | ⟨b1, rfl, vs', fk', sa', hs, rfl⟩
    · rcases h1 with ⟨c1, rfl, rfl⟩ | ⟨c1, -⟩
      · exact ⟨rfl, jw_same J0 J1⟩
      · omega
    · rcases h1 with ⟨c1, -⟩ | ⟨c1, rfl, sz', ak', nu', hr, rfl⟩
      · omega
      · exact ⟨by rw [a1], jw_same (r0_split J0 ht hi b1 hf hl hs) hr⟩
theorem ag_setValue (J0 : r0 τ lc vs n fk sa) (J1 : r1 τ sz ak nu) {p1 p2 v : Int32}
    (h0 : (¬ xlf lc p1 p2 ∧ r = 0 ∧ w = x0w g cB cI cS lc vs n fk sa lf) ∨ ∃ t i : Nat, t < 4 ∧ i < lc t ∧ p1 = nI t ∧ p2 = nI i ∧ r = 1 ∧ w = x0w g cB cI cS lc (upd vs (t * 8 + i) v) n fk sa lf)
    (h1 : (¬ xlf (fun t => nl (τ t)) p1 p2 ∧ r' = 0 ∧ w1 = x1w g' cI sz ak nu lo hi) ∨ ∃ t i, t < 4 ∧ i < nl (τ t) ∧ p1 = nI t ∧ p2 = nI i ∧ r' = 1 ∧ ∃ nu', r1 (va_up τ t (setT (τ t) i v)) sz ak nu' ∧ w1 = x1w g' cI sz ak nu' lo hi) :
    r = r' ∧ jw_W g g' cB cI cS w w1 := by
  rw [ag_lf J0] at h0
  refine ag_or h0 h1 ?_ ?_ ?_ ?_
  · rintro ⟨t, i, ht, hi, e1, e2, -⟩
    rw [(J0.1 t ht).1] at hi
    exact ⟨t, i, ht, hi, e1, e2⟩
  · rintro ⟨t, i, ht, hi, e1, e2, -⟩
    exact ⟨t, i, ht, hi, e1, e2⟩
  · rintro ⟨rfl, rfl⟩ ⟨rfl, rfl⟩
    exact ⟨rfl, jw_same J0 J1⟩
  · rintro ⟨t, i, ht, hi, e1, e2, rfl, rfl⟩ ⟨t', i', ht', hi', e1', e2', rfl, nu', hr, rfl⟩
    obtain rfl : t = t' := nI_inj (by omega) (by omega) (e1.symm.trans e1')
    obtain ⟨a1, a2, -⟩ := J0.1 t ht
    obtain rfl : i = i' := nI_inj (by omega) (by omega) (e2.symm.trans e2')
    exact ⟨rfl, jw_same (r0_set J0 v ht hi) hr⟩
theorem ag_clear (J0 : r0 τ lc vs n fk sa) (J1 : r1 τ sz ak nu) {p1 : Int32}
    (h0 : (¬ xin p1 4 ∧ r = 0 ∧ w = x0w g cB cI cS lc vs n fk sa lf) ∨ ∃ t : Nat, t < 4 ∧ p1 = nI t ∧ r = 1 ∧ ∃ (n' : Nat) (fk' : Nat → Fk) (sa' : Nat → Nat), n' ≤ n ∧ (List.range n').map fk' = ((List.range n).map fk).filter (fun q => !(q.1 == t)) ∧ (∀ j, okF (fk' j)) ∧ (∀ f, f < 5 → sa' f = cntF fk' f n') ∧ w = x0w g cB cI cS (va_up lc t 1) (upd vs (t * 8) 0) n' fk' sa' lf)
    (h1 : (¬ xin p1 4 ∧ r' = 0 ∧ w1 = x1w g' cI sz ak nu lo hi) ∨ ∃ t, t < 4 ∧ p1 = nI t ∧ r' = 1 ∧ ∃ sz' ak' nu', r1 (va_up τ t (.leaf 0)) sz' ak' nu' ∧ w1 = x1w g' cI sz' ak' nu' lo hi) :
    r = r' ∧ jw_W g g' cB cI cS w w1 := by
  refine ag_or h0 h1 ?_ ?_ ?_ ?_
  · rintro ⟨t, ht, e1, -⟩
    exact ⟨t, ht, e1⟩
  · rintro ⟨t, ht, e1, -⟩
    exact ⟨t, ht, e1⟩
  · rintro ⟨rfl, rfl⟩ ⟨rfl, rfl⟩
    exact ⟨rfl, jw_same J0 J1⟩
  · rintro ⟨t, ht, e1, rfl, n', fk', sa', -, hl, hf, hsa, rfl⟩ ⟨t', ht', e1', rfl, sz', ak', nu', hr, rfl⟩
    obtain rfl : t = t' := nI_inj (by omega) (by omega) (e1.symm.trans e1')
    have h := r0_clear J0 ht hl hf hsa
    rw [nI_0] at h
    exact ⟨rfl, jw_same h hr⟩
theorem ag_leaves (J0 : r0 τ lc vs n fk sa) (J1 : r1 τ sz ak nu) {p1 : Int32}
    (h0 : w = x0w g cB cI cS lc vs n fk sa lf ∧ ((¬ xin p1 4 ∧ r = -1) ∨ ∃ t, t < 4 ∧ p1 = nI t ∧ r = nI (lc t)))
    (h1 : w1 = x1w g' cI sz ak nu lo hi ∧ ((¬ xin p1 4 ∧ r' = -1) ∨ ∃ t, t < 4 ∧ p1 = nI t ∧ r' = nI (nl (τ t)))) :
    r = r' ∧ jw_W g g' cB cI cS w w1 := by
  obtain ⟨rfl, h0⟩ := h0
  obtain ⟨rfl, h1⟩ := h1
  refine ⟨ag_or h0 h1 ?_ ?_ ?_ ?_, jw_same J0 J1⟩
  · rintro ⟨t, ht, e1, -⟩
    exact ⟨t, ht, e1⟩
  · rintro ⟨t, ht, e1, -⟩
    exact ⟨t, ht, e1⟩
  · rintro rfl rfl
    rfl
  · rintro ⟨t, ht, e1, rfl⟩ ⟨t', ht', e1', rfl⟩
    obtain rfl : t = t' := nI_inj (by omega) (by omega) (e1.symm.trans e1')
    rw [(J0.1 t ht).1]
theorem ag_value (J0 : r0 τ lc vs n fk sa) (J1 : r1 τ sz ak nu) {p1 p2 : Int32}
    (h0 : w = x0w g cB cI cS lc vs n fk sa lf ∧ ((¬ xlf lc p1 p2 ∧ r = nI 0) ∨ ∃ t i, t < 4 ∧ i < lc t ∧ p1 = nI t ∧ p2 = nI i ∧ r = vs (t * 8 + i)))
    (h1 : w1 = x1w g' cI sz ak nu lo hi ∧ ((¬ xlf (fun t => nl (τ t)) p1 p2 ∧ r' = nI 0) ∨ ∃ t i, t < 4 ∧ i < nl (τ t) ∧ p1 = nI t ∧ p2 = nI i ∧ r' = valT (τ t) i)) :
    r = r' ∧ jw_W g g' cB cI cS w w1 := by
  obtain ⟨rfl, h0⟩ := h0
  obtain ⟨rfl, h1⟩ := h1
  rw [ag_lf J0] at h0
  refine ⟨ag_or h0 h1 ?_ ?_ ?_ ?_, jw_same J0 J1⟩
  · rintro ⟨t, i, ht, hi, e1, e2, -⟩
    rw [(J0.1 t ht).1] at hi
    exact ⟨t, i, ht, hi, e1, e2⟩
  · rintro ⟨t, i, ht, hi, e1, e2, -⟩
    exact ⟨t, i, ht, hi, e1, e2⟩
  · rintro rfl rfl
    rfl
  · rintro ⟨t, i, ht, hi, e1, e2, rfl⟩ ⟨t', i', ht', hi', e1', e2', rfl⟩
    obtain rfl : t = t' := nI_inj (by omega) (by omega) (e1.symm.trans e1')
    obtain ⟨a1, a2, -, a4⟩ := J0.1 t ht
    obtain rfl : i = i' := nI_inj (by omega) (by omega) (e2.symm.trans e2')
    exact a4 i hi'
theorem ag_leafOf (J0 : r0 τ lc vs n fk sa) (J1 : r1 τ sz ak nu) {p1 p2 : Int32}
    (h0 : (∃ lf', w = x0w g cB cI cS lc vs n fk sa lf') ∧ ((¬ (xin p1 4 ∧ xin p2 65536) ∧ r = -1) ∨ ∃ t, t < 4 ∧ p1 = nI t ∧ xin p2 65536 ∧ r = nI (exT p2 (τ t))))
    (h1 : w1 = x1w g' cI sz ak nu lo hi ∧ ((¬ (xin p1 4 ∧ xin p2 65536) ∧ r' = -1) ∨ ∃ t, t < 4 ∧ p1 = nI t ∧ xin p2 65536 ∧ r' = nI (exT p2 (τ t)))) :
    r = r' ∧ jw_W g g' cB cI cS w w1 := by
  obtain ⟨⟨lf', rfl⟩, h0⟩ := h0
  obtain ⟨rfl, h1⟩ := h1
  refine ⟨ag_or h0 h1 ?_ ?_ ?_ ?_, jw_same J0 J1⟩
  · rintro ⟨t, ht, e1, hp, -⟩
    exact ⟨⟨t, ht, e1⟩, hp⟩
  · rintro ⟨t, ht, e1, hp, -⟩
    exact ⟨⟨t, ht, e1⟩, hp⟩
  · rintro rfl rfl
    rfl
  · rintro ⟨t, ht, e1, -, rfl⟩ ⟨t', ht', e1', -, rfl⟩
    obtain rfl : t = t' := nI_inj (by omega) (by omega) (e1.symm.trans e1')
    rfl
theorem ag_score (J0 : r0 τ lc vs n fk sa) (J1 : r1 τ sz ak nu) {p1 : Int32}
    (h0 : (∃ lf', w = x0w g cB cI cS lc vs n fk sa lf') ∧ ((¬ xin p1 65536 ∧ r = nI 0) ∨ (xin p1 65536 ∧ r = scV vs (fun p t => exT p (τ t)) p1 4)))
    (h1 : w1 = x1w g' cI sz ak nu lo hi ∧ ((¬ xin p1 65536 ∧ r' = nI 0) ∨ (xin p1 65536 ∧ r' = smT (fun t i => valT (τ t) i) (fun p t => exT p (τ t)) p1 4))) :
    r = r' ∧ jw_W g g' cB cI cS w w1 := by
  obtain ⟨⟨lf', rfl⟩, h0⟩ := h0
  obtain ⟨rfl, h1⟩ := h1
  refine ⟨ag_or h0 h1 (fun h => h.1) (fun h => h.1) ?_ ?_, jw_same J0 J1⟩
  · rintro rfl rfl
    rfl
  · rintro ⟨-, rfl⟩ ⟨-, rfl⟩
    exact r0_val J0 p1 4 (Nat.le_refl 4)
theorem ag_depth (J0 : r0 τ lc vs n fk sa) (J1 : r1 τ sz ak nu) {p1 : Int32}
    (h0 : (∃ lf', w = x0w g cB cI cS lc vs n fk sa lf') ∧ ((¬ xin p1 65536 ∧ r = -1) ∨ (xin p1 65536 ∧ r = nI (dpC fk (fun p t => exT p (τ t)) p1 n))))
    (h1 : w1 = x1w g' cI sz ak nu lo hi ∧ ((¬ xin p1 65536 ∧ r' = -1) ∨ (xin p1 65536 ∧ r' = nI (dmT τ p1 4)))) :
    r = r' ∧ jw_W g g' cB cI cS w w1 := by
  obtain ⟨⟨lf', rfl⟩, h0⟩ := h0
  obtain ⟨rfl, h1⟩ := h1
  refine ⟨ag_or h0 h1 (fun h => h.1) (fun h => h.1) ?_ ?_, jw_same J0 J1⟩
  · rintro rfl rfl
    rfl
  · rintro ⟨-, rfl⟩ ⟨-, rfl⟩
    exact congrArg nI (r0_depth J0 p1)
theorem ag_leavesAlong (J0 : r0 τ lc vs n fk sa) (J1 : r1 τ sz ak nu) {p1 p2 p3 : Int32}
    (h0 : (∃ lf', w = x0w g cB cI cS lc vs n fk sa lf') ∧ ((¬ (xin p1 4 ∧ xin p2 65536 ∧ xin p3 4) ∧ r = nI 0) ∨ ∃ t f, t < 4 ∧ f < 4 ∧ p1 = nI t ∧ p3 = nI f ∧ xin p2 65536 ∧ r = laF (fun p t => exT p (τ t)) p2 f t 16))
    (h1 : w1 = x1w g' cI sz ak nu lo hi ∧ ((¬ (xin p1 4 ∧ xin p2 65536 ∧ xin p3 4) ∧ r' = nI 0) ∨ ∃ t f, t < 4 ∧ f < 4 ∧ p1 = nI t ∧ p3 = nI f ∧ xin p2 65536 ∧ r' = laF (fun p t => exT p (τ t)) p2 f t 16)) :
    r = r' ∧ jw_W g g' cB cI cS w w1 := by
  obtain ⟨⟨lf', rfl⟩, h0⟩ := h0
  obtain ⟨rfl, h1⟩ := h1
  refine ⟨ag_or h0 h1 ?_ ?_ ?_ ?_, jw_same J0 J1⟩
  · rintro ⟨t, f, ht, hf, e1, e3, hp, -⟩
    exact ⟨⟨t, ht, e1⟩, hp, ⟨f, hf, e3⟩⟩
  · rintro ⟨t, f, ht, hf, e1, e3, hp, -⟩
    exact ⟨⟨t, ht, e1⟩, hp, ⟨f, hf, e3⟩⟩
  · rintro rfl rfl
    rfl
  · rintro ⟨t, f, ht, hf, e1, e3, -, rfl⟩ ⟨t', f', ht', hf', e1', e3', -, rfl⟩
    obtain rfl : t = t' := nI_inj (by omega) (by omega) (e1.symm.trans e1')
    obtain rfl : f = f' := nI_inj (by omega) (by omega) (e3.symm.trans e3')
    rfl
theorem ag_bestValue (J0 : r0 τ lc vs n fk sa) (J1 : r1 τ sz ak nu) {p1 p2 : Int32}
    (h0 : (∃ lf', w = x0w g cB cI cS lc vs n fk sa lf') ∧ ((¬ (xin p1 65536 ∧ xin p2 4) ∧ r = -1) ∨ ∃ f, f < 4 ∧ p2 = nI f ∧ xin p1 65536 ∧ r = nI (bvF (fun v => scV vs (fun p t => exT p (τ t)) (wfI p1 f v) 4) 16).1))
    (h1 : w1 = x1w g' cI sz ak nu lo hi ∧ ((¬ (xin p1 65536 ∧ xin p2 4) ∧ r' = -1) ∨ ∃ f, f < 4 ∧ p2 = nI f ∧ xin p1 65536 ∧ r' = nI (bvF (fun v => smT (fun t i => valT (τ t) i) (fun p t => exT p (τ t)) (wfI p1 f v) 4) 16).1)) :
    r = r' ∧ jw_W g g' cB cI cS w w1 := by
  obtain ⟨⟨lf', rfl⟩, h0⟩ := h0
  obtain ⟨rfl, h1⟩ := h1
  refine ⟨ag_or h0 h1 ?_ ?_ ?_ ?_, jw_same J0 J1⟩
  · rintro ⟨f, hf, e3, hp, -⟩
    exact ⟨hp, ⟨f, hf, e3⟩⟩
  · rintro ⟨f, hf, e3, hp, -⟩
    exact ⟨hp, ⟨f, hf, e3⟩⟩
  · rintro rfl rfl
    rfl
  · rintro ⟨f, hf, e3, -, rfl⟩ ⟨f', hf', e3', -, rfl⟩
    obtain rfl : f = f' := nI_inj (by omega) (by omega) (e3.symm.trans e3')
    have e : (fun v => scV vs (fun p t => exT p (τ t)) (wfI p1 f v) 4) = (fun v => smT (fun t i => valT (τ t) i) (fun p t => exT p (τ t)) (wfI p1 f v) 4) := funext (fun v => r0_val J0 (wfI p1 f v) 4 (Nat.le_refl 4))
    rw [e]
theorem ag_reachable (J0 : r0 τ lc vs n fk sa) (J1 : r1 τ sz ak nu) {p1 : Int32}
    (h0 : w = x0w g cB cI cS lc vs n fk sa lf ∧ ((¬ xin p1 4 ∧ r = nI 0) ∨ ∃ t, t < 4 ∧ p1 = nI t ∧ r = rcF (crT (LO τ) (HI τ) t) (lc t)))
    (h1 : (∃ lo' hi', w1 = x1w g' cI sz ak nu lo' hi') ∧ ((¬ xin p1 4 ∧ r' = nI 0) ∨ ∃ t, t < 4 ∧ p1 = nI t ∧ r' = rcF (fun i => i < nl (τ t) ∧ crT (LO τ) (HI τ) t i) 8)) :
    r = r' ∧ jw_W g g' cB cI cS w w1 := by
  obtain ⟨rfl, h0⟩ := h0
  obtain ⟨⟨lo', hi', rfl⟩, h1⟩ := h1
  refine ⟨ag_or h0 h1 ?_ ?_ ?_ ?_, jw_same J0 J1⟩
  · rintro ⟨t, ht, e1, -⟩
    exact ⟨t, ht, e1⟩
  · rintro ⟨t, ht, e1, -⟩
    exact ⟨t, ht, e1⟩
  · rintro rfl rfl
    rfl
  · rintro ⟨t, ht, e1, rfl⟩ ⟨t', ht', e1', rfl⟩
    obtain rfl : t = t' := nI_inj (by omega) (by omega) (e1.symm.trans e1')
    obtain ⟨a1, a2, -⟩ := J0.1 t ht
    have h := rcF_cut (crT (LO τ) (HI τ) t) (nl (τ t)) (8 - nl (τ t))
    rw [show nl (τ t) + (8 - nl (τ t)) = 8 by omega] at h
    rw [a1, h]
theorem ag_range (J0 : r0 τ lc vs n fk sa) (J1 : r1 τ sz ak nu) {p1 p2 p3 p4 : Int32}
    (h0 : w = x0w g cB cI cS lc vs n fk sa lf ∧ ((¬ (xlf lc p1 p2 ∧ xin p3 4 ∧ xin p4 2) ∧ r = -1) ∨ ∃ t i f z, t < 4 ∧ i < lc t ∧ f < 4 ∧ z < 2 ∧ p1 = nI t ∧ p2 = nI i ∧ p3 = nI f ∧ p4 = nI z ∧ ((¬ crT (LO τ) (HI τ) t i ∧ r = -1) ∨ (crT (LO τ) (HI τ) t i ∧ r = nI (if z = 0 then LO τ t i f else HI τ t i f)))))
    (h1 : (∃ lo' hi', w1 = x1w g' cI sz ak nu lo' hi') ∧ ((¬ (xlf (fun t => nl (τ t)) p1 p2 ∧ xin p3 4 ∧ xin p4 2) ∧ r' = -1) ∨ ∃ t i f z, t < 4 ∧ i < nl (τ t) ∧ f < 4 ∧ z < 2 ∧ p1 = nI t ∧ p2 = nI i ∧ p3 = nI f ∧ p4 = nI z ∧ ((¬ crT (LO τ) (HI τ) t i ∧ r' = -1) ∨ (crT (LO τ) (HI τ) t i ∧ r' = nI (if z = 0 then LO τ t i f else HI τ t i f))))) :
    r = r' ∧ jw_W g g' cB cI cS w w1 := by
  obtain ⟨rfl, h0⟩ := h0
  obtain ⟨⟨lo', hi', rfl⟩, h1⟩ := h1
  rw [ag_lf J0] at h0
  refine ⟨ag_or h0 h1 ?_ ?_ ?_ ?_, jw_same J0 J1⟩
  · rintro ⟨t, i, f, z, ht, hi, hf, hl, e1, e2, e3, e4, -⟩
    rw [(J0.1 t ht).1] at hi
    exact ⟨⟨t, i, ht, hi, e1, e2⟩, ⟨f, hf, e3⟩, ⟨z, hl, e4⟩⟩
  · rintro ⟨t, i, f, z, ht, hi, hf, hl, e1, e2, e3, e4, -⟩
    exact ⟨⟨t, i, ht, hi, e1, e2⟩, ⟨f, hf, e3⟩, ⟨z, hl, e4⟩⟩
  · rintro rfl rfl
    rfl
  · rintro ⟨t, i, f, z, ht, hi, hf, hl, e1, e2, e3, e4, h0⟩ ⟨t', i', f', z', ht', hi', hf', hl', e1', e2', e3', e4', h1⟩
    obtain rfl : t = t' := nI_inj (by omega) (by omega) (e1.symm.trans e1')
    obtain ⟨a1, a2, -⟩ := J0.1 t ht
    obtain rfl : i = i' := nI_inj (by omega) (by omega) (e2.symm.trans e2')
    obtain rfl : f = f' := nI_inj (by omega) (by omega) (e3.symm.trans e3')
    obtain rfl : z = z' := nI_inj (by omega) (by omega) (e4.symm.trans e4')
    refine ag_or h0 h1 (fun h => h.1) (fun h => h.1) ?_ ?_
    · rintro rfl rfl
      rfl
    · rintro ⟨-, rfl⟩ ⟨-, rfl⟩
      rfl
theorem ag_asks (J0 : r0 τ lc vs n fk sa) (J1 : r1 τ sz ak nu) {p1 : Int32}
    (h0 : w = x0w g cB cI cS lc vs n fk sa lf ∧ ((¬ xin p1 4 ∧ r = -1) ∨ ∃ f, f < 4 ∧ p1 = nI f ∧ r = nI (cntF fk (f + 1) n - cntF fk f n)))
    (h1 : w1 = x1w g' cI sz ak nu lo hi ∧ ((¬ xin p1 4 ∧ r' = -1) ∨ (xin p1 4 ∧ r' = nI (akC sz ak p1 60)))) :
    r = r' ∧ jw_W g g' cB cI cS w w1 := by
  obtain ⟨rfl, h0⟩ := h0
  obtain ⟨rfl, h1⟩ := h1
  refine ⟨ag_or h0 h1 ?_ (fun h => h.1) ?_ ?_, jw_same J0 J1⟩
  · rintro ⟨t, ht, e1, -⟩
    exact ⟨t, ht, e1⟩
  · rintro rfl rfl
    rfl
  · rintro ⟨f, hf, rfl, rfl⟩ ⟨-, rfl⟩
    rw [r0_asks J0 f, r1_asks J1 hf]
end AG
end
section
/-! THE LAW: a theorem a case of its switch, its loop, its start -/
set_option maxRecDepth 100000
abbrev jw_l (b a0 a1 i : Nat) : List (Option Value) := [some (.ref b), some (.ref a0), some (.ref a1), some (.int (nI i))]
/-- at pc, with i ints read: whatever the trees are that both classes hold, the law comes to its end -/
def jw_k (l : Launch) (D : va_G) (K : xK) (g g' : Nat → Nat) (cB cI cS : ClassId) (b i pc : Nat) : Prop := ∀ w w1 : va_W, jw_W g g' cB cI cS w w1 → xW l room_1 D 4 K (w ++ w1) (jw_l b (g 0) (g' 0) i) pc []
section LWS
variable {l : Launch} {D : va_G} {K : xK} {g g' : Nat → Nat} {cB cI cS : ClassId} {b L : Nat} {xs : Nat → Int32}
theorem jw_0 (C : xOk room_1 D (xT cB cI cS) 4 K code "TreeScorerLaw") (X : xScr K b L xs) (hL : L ≤ 320) {i : Nat} (hi : i + 5 ≤ L) (k : jw_k l D K g g' cB cI cS b i 529) : jw_k l D K g g' cB cI cS b i 100 := by
  rintro _ _ ⟨τ, lc, vs, n, fk, sa, lf, sz, ak, nu, lo, hi', J0, J1, rfl, rfl⟩
  have hw := r0_wf J0
  refine xr_aload_n C dL_law_100 rfl ?_
  refine xr_aload_n C dL_law_101 rfl ?_
  refine xr_iload_n C dL_law_102 rfl ?_
  refine xr_iconst (v := nI 1) C dL_law_103 (by decide) ?_
  refine xr_iaddN C dL_law_104 ?_
  refine xr_sld C X (by omega) (by omega) dL_law_105 ?_
  refine xr_aload_n C dL_law_106 rfl ?_
  refine xr_iload_n C dL_law_107 rfl ?_
  refine xr_iconst (v := nI 2) C dL_law_108 (by decide) ?_
  refine xr_iaddN C dL_law_109 ?_
  refine xr_sld C X (by omega) (by omega) dL_law_110 ?_
  refine xr_aload_n C dL_law_111 rfl ?_
  refine xr_iload_n C dL_law_112 rfl ?_
  refine xr_iconst (v := nI 3) C dL_law_113 (by decide) ?_
  refine xr_iaddN C dL_law_114 ?_
  refine xr_sld C X (by omega) (by omega) dL_law_115 ?_
  refine xr_aload_n C dL_law_116 rfl ?_
  refine xr_iload_n C dL_law_117 rfl ?_
  refine xr_iconst (v := nI 4) C dL_law_118 (by decide) ?_
  refine xr_iaddN C dL_law_119 ?_
  refine xr_sld C X (by omega) (by omega) dL_law_120 ?_
  refine xr_callAi C (m0_split hw (xs (i + 1)) (xs (i + 2)) (xs (i + 3)) (xs (i + 4))) (cwL0_split ⟨by decide, by decide⟩) 0 rfl rfl rfl rfl (Nat.le_of_ble_eq_true rfl) dL_law_121 (fun r w h0 => ?_)
  refine xr_aload_n C dL_law_124 rfl ?_
  refine xr_aload_n C dL_law_125 rfl ?_
  refine xr_iload_n C dL_law_126 rfl ?_
  refine xr_iconst (v := nI 1) C dL_law_127 (by decide) ?_
  refine xr_iaddN C dL_law_128 ?_
  refine xr_sld C X (by omega) (by omega) dL_law_129 ?_
  refine xr_aload_n C dL_law_130 rfl ?_
  refine xr_iload_n C dL_law_131 rfl ?_
  refine xr_iconst (v := nI 2) C dL_law_132 (by decide) ?_
  refine xr_iaddN C dL_law_133 ?_
  refine xr_sld C X (by omega) (by omega) dL_law_134 ?_
  refine xr_aload_n C dL_law_135 rfl ?_
  refine xr_iload_n C dL_law_136 rfl ?_
  refine xr_iconst (v := nI 3) C dL_law_137 (by decide) ?_
  refine xr_iaddN C dL_law_138 ?_
  refine xr_sld C X (by omega) (by omega) dL_law_139 ?_
  refine xr_aload_n C dL_law_140 rfl ?_
  refine xr_iload_n C dL_law_141 rfl ?_
  refine xr_iconst (v := nI 4) C dL_law_142 (by decide) ?_
  refine xr_iaddN C dL_law_143 ?_
  refine xr_sld C X (by omega) (by omega) dL_law_144 ?_
  refine xr_callAi C (m1_split J1 (xs (i + 1)) (xs (i + 2)) (xs (i + 3)) (xs (i + 4))) (cwL1_split ⟨by decide, by decide⟩) 0 rfl rfl rfl rfl (Nat.le_of_ble_eq_true rfl) dL_law_145 (fun r' w1 h1 => ?_)
  obtain ⟨e, hJ⟩ := ag_split J0 J1 h0 h1
  exact xr_icmp_eq (tgt := 529) C dL_law_148 (by decide) (fun _ => k _ _ hJ) (fun h => absurd e h)
theorem jw_1 (C : xOk room_1 D (xT cB cI cS) 4 K code "TreeScorerLaw") (X : xScr K b L xs) (hL : L ≤ 320) {i : Nat} (hi : i + 5 ≤ L) (k : jw_k l D K g g' cB cI cS b i 529) : jw_k l D K g g' cB cI cS b i 153 := by
  rintro _ _ ⟨τ, lc, vs, n, fk, sa, lf, sz, ak, nu, lo, hi', J0, J1, rfl, rfl⟩
  have hw := r0_wf J0
  refine xr_aload_n C dL_law_153 rfl ?_
  refine xr_aload_n C dL_law_154 rfl ?_
  refine xr_iload_n C dL_law_155 rfl ?_
  refine xr_iconst (v := nI 1) C dL_law_156 (by decide) ?_
  refine xr_iaddN C dL_law_157 ?_
  refine xr_sld C X (by omega) (by omega) dL_law_158 ?_
  refine xr_aload_n C dL_law_159 rfl ?_
  refine xr_iload_n C dL_law_160 rfl ?_
  refine xr_iconst (v := nI 2) C dL_law_161 (by decide) ?_
  refine xr_iaddN C dL_law_162 ?_
  refine xr_sld C X (by omega) (by omega) dL_law_163 ?_
  refine xr_aload_n C dL_law_164 rfl ?_
  refine xr_iload_n C dL_law_165 rfl ?_
  refine xr_iconst (v := nI 3) C dL_law_166 (by decide) ?_
  refine xr_iaddN C dL_law_167 ?_
  refine xr_sld C X (by omega) (by omega) dL_law_168 ?_
  refine xr_callAi C (m0_setValue hw (xs (i + 1)) (xs (i + 2)) (xs (i + 3))) (cwL0_setValue ⟨by decide, by decide⟩) 0 rfl rfl rfl rfl (Nat.le_of_ble_eq_true rfl) dL_law_169 (fun r w h0 => ?_)
  refine xr_aload_n C dL_law_172 rfl ?_
  refine xr_aload_n C dL_law_173 rfl ?_
  refine xr_iload_n C dL_law_174 rfl ?_
  refine xr_iconst (v := nI 1) C dL_law_175 (by decide) ?_
  refine xr_iaddN C dL_law_176 ?_
  refine xr_sld C X (by omega) (by omega) dL_law_177 ?_
  refine xr_aload_n C dL_law_178 rfl ?_
  refine xr_iload_n C dL_law_179 rfl ?_
  refine xr_iconst (v := nI 2) C dL_law_180 (by decide) ?_
  refine xr_iaddN C dL_law_181 ?_
  refine xr_sld C X (by omega) (by omega) dL_law_182 ?_
  refine xr_aload_n C dL_law_183 rfl ?_
  refine xr_iload_n C dL_law_184 rfl ?_
  refine xr_iconst (v := nI 3) C dL_law_185 (by decide) ?_
  refine xr_iaddN C dL_law_186 ?_
  refine xr_sld C X (by omega) (by omega) dL_law_187 ?_
  refine xr_callAi C (m1_setValue J1 (xs (i + 1)) (xs (i + 2)) (xs (i + 3))) (cwL1_setValue ⟨by decide, by decide⟩) 0 rfl rfl rfl rfl (Nat.le_of_ble_eq_true rfl) dL_law_188 (fun r' w1 h1 => ?_)
  obtain ⟨e, hJ⟩ := ag_setValue J0 J1 h0 h1
  exact xr_icmp_eq (tgt := 529) C dL_law_191 (by decide) (fun _ => k _ _ hJ) (fun h => absurd e h)
theorem jw_2 (C : xOk room_1 D (xT cB cI cS) 4 K code "TreeScorerLaw") (X : xScr K b L xs) (hL : L ≤ 320) {i : Nat} (hi : i + 5 ≤ L) (k : jw_k l D K g g' cB cI cS b i 529) : jw_k l D K g g' cB cI cS b i 196 := by
  rintro _ _ ⟨τ, lc, vs, n, fk, sa, lf, sz, ak, nu, lo, hi', J0, J1, rfl, rfl⟩
  have hw := r0_wf J0
  refine xr_aload_n C dL_law_196 rfl ?_
  refine xr_aload_n C dL_law_197 rfl ?_
  refine xr_iload_n C dL_law_198 rfl ?_
  refine xr_iconst (v := nI 1) C dL_law_199 (by decide) ?_
  refine xr_iaddN C dL_law_200 ?_
  refine xr_sld C X (by omega) (by omega) dL_law_201 ?_
  refine xr_callAi C (m0_clear hw (xs (i + 1))) (cwL0_clear ⟨by decide, by decide⟩) 0 rfl rfl rfl rfl (Nat.le_of_ble_eq_true rfl) dL_law_202 (fun r w h0 => ?_)
  refine xr_aload_n C dL_law_205 rfl ?_
  refine xr_aload_n C dL_law_206 rfl ?_
  refine xr_iload_n C dL_law_207 rfl ?_
  refine xr_iconst (v := nI 1) C dL_law_208 (by decide) ?_
  refine xr_iaddN C dL_law_209 ?_
  refine xr_sld C X (by omega) (by omega) dL_law_210 ?_
  refine xr_callAi C (m1_clear J1 (xs (i + 1))) (cwL1_clear ⟨by decide, by decide⟩) 0 rfl rfl rfl rfl (Nat.le_of_ble_eq_true rfl) dL_law_211 (fun r' w1 h1 => ?_)
  obtain ⟨e, hJ⟩ := ag_clear J0 J1 h0 h1
  exact xr_icmp_eq (tgt := 529) C dL_law_214 (by decide) (fun _ => k _ _ hJ) (fun h => absurd e h)
theorem jw_3 (C : xOk room_1 D (xT cB cI cS) 4 K code "TreeScorerLaw") (X : xScr K b L xs) (hL : L ≤ 320) {i : Nat} (hi : i + 5 ≤ L) (k : jw_k l D K g g' cB cI cS b i 529) : jw_k l D K g g' cB cI cS b i 219 := by
  rintro _ _ ⟨τ, lc, vs, n, fk, sa, lf, sz, ak, nu, lo, hi', J0, J1, rfl, rfl⟩
  have hw := r0_wf J0
  refine xr_aload_n C dL_law_219 rfl ?_
  refine xr_aload_n C dL_law_220 rfl ?_
  refine xr_iload_n C dL_law_221 rfl ?_
  refine xr_iconst (v := nI 1) C dL_law_222 (by decide) ?_
  refine xr_iaddN C dL_law_223 ?_
  refine xr_sld C X (by omega) (by omega) dL_law_224 ?_
  refine xr_callAi C (m0_leaves hw (xs (i + 1))) (cwL0_leaves ⟨by decide, by decide⟩) 0 rfl rfl rfl rfl (Nat.le_of_ble_eq_true rfl) dL_law_225 (fun r w h0 => ?_)
  refine xr_aload_n C dL_law_228 rfl ?_
  refine xr_aload_n C dL_law_229 rfl ?_
  refine xr_iload_n C dL_law_230 rfl ?_
  refine xr_iconst (v := nI 1) C dL_law_231 (by decide) ?_
  refine xr_iaddN C dL_law_232 ?_
  refine xr_sld C X (by omega) (by omega) dL_law_233 ?_
  refine xr_callAi C (m1_leaves J1 (xs (i + 1))) (cwL1_leaves ⟨by decide, by decide⟩) 0 rfl rfl rfl rfl (Nat.le_of_ble_eq_true rfl) dL_law_234 (fun r' w1 h1 => ?_)
  obtain ⟨e, hJ⟩ := ag_leaves J0 J1 h0 h1
  exact xr_icmp_eq (tgt := 529) C dL_law_237 (by decide) (fun _ => k _ _ hJ) (fun h => absurd e h)
theorem jw_4 (C : xOk room_1 D (xT cB cI cS) 4 K code "TreeScorerLaw") (X : xScr K b L xs) (hL : L ≤ 320) {i : Nat} (hi : i + 5 ≤ L) (k : jw_k l D K g g' cB cI cS b i 529) : jw_k l D K g g' cB cI cS b i 242 := by
  rintro _ _ ⟨τ, lc, vs, n, fk, sa, lf, sz, ak, nu, lo, hi', J0, J1, rfl, rfl⟩
  have hw := r0_wf J0
  refine xr_aload_n C dL_law_242 rfl ?_
  refine xr_aload_n C dL_law_243 rfl ?_
  refine xr_iload_n C dL_law_244 rfl ?_
  refine xr_iconst (v := nI 1) C dL_law_245 (by decide) ?_
  refine xr_iaddN C dL_law_246 ?_
  refine xr_sld C X (by omega) (by omega) dL_law_247 ?_
  refine xr_aload_n C dL_law_248 rfl ?_
  refine xr_iload_n C dL_law_249 rfl ?_
  refine xr_iconst (v := nI 2) C dL_law_250 (by decide) ?_
  refine xr_iaddN C dL_law_251 ?_
  refine xr_sld C X (by omega) (by omega) dL_law_252 ?_
  refine xr_callAi C (m0_value hw (xs (i + 1)) (xs (i + 2))) (cwL0_value ⟨by decide, by decide⟩) 0 rfl rfl rfl rfl (Nat.le_of_ble_eq_true rfl) dL_law_253 (fun r w h0 => ?_)
  refine xr_aload_n C dL_law_256 rfl ?_
  refine xr_aload_n C dL_law_257 rfl ?_
  refine xr_iload_n C dL_law_258 rfl ?_
  refine xr_iconst (v := nI 1) C dL_law_259 (by decide) ?_
  refine xr_iaddN C dL_law_260 ?_
  refine xr_sld C X (by omega) (by omega) dL_law_261 ?_
  refine xr_aload_n C dL_law_262 rfl ?_
  refine xr_iload_n C dL_law_263 rfl ?_
  refine xr_iconst (v := nI 2) C dL_law_264 (by decide) ?_
  refine xr_iaddN C dL_law_265 ?_
  refine xr_sld C X (by omega) (by omega) dL_law_266 ?_
  refine xr_callAi C (m1_value J1 (xs (i + 1)) (xs (i + 2))) (cwL1_value ⟨by decide, by decide⟩) 0 rfl rfl rfl rfl (Nat.le_of_ble_eq_true rfl) dL_law_267 (fun r' w1 h1 => ?_)
  obtain ⟨e, hJ⟩ := ag_value J0 J1 h0 h1
  exact xr_icmp_eq (tgt := 529) C dL_law_270 (by decide) (fun _ => k _ _ hJ) (fun h => absurd e h)
theorem jw_5 (C : xOk room_1 D (xT cB cI cS) 4 K code "TreeScorerLaw") (X : xScr K b L xs) (hL : L ≤ 320) {i : Nat} (hi : i + 5 ≤ L) (k : jw_k l D K g g' cB cI cS b i 529) : jw_k l D K g g' cB cI cS b i 275 := by
  rintro _ _ ⟨τ, lc, vs, n, fk, sa, lf, sz, ak, nu, lo, hi', J0, J1, rfl, rfl⟩
  have hw := r0_wf J0
  refine xr_aload_n C dL_law_275 rfl ?_
  refine xr_aload_n C dL_law_276 rfl ?_
  refine xr_iload_n C dL_law_277 rfl ?_
  refine xr_iconst (v := nI 1) C dL_law_278 (by decide) ?_
  refine xr_iaddN C dL_law_279 ?_
  refine xr_sld C X (by omega) (by omega) dL_law_280 ?_
  refine xr_aload_n C dL_law_281 rfl ?_
  refine xr_iload_n C dL_law_282 rfl ?_
  refine xr_iconst (v := nI 2) C dL_law_283 (by decide) ?_
  refine xr_iaddN C dL_law_284 ?_
  refine xr_sld C X (by omega) (by omega) dL_law_285 ?_
  refine xr_callAi C (m0_leafOf hw (r0_ex J0) (xs (i + 1)) (xs (i + 2))) (cwL0_leafOf ⟨by decide, by decide⟩) 0 rfl rfl rfl rfl (Nat.le_of_ble_eq_true rfl) dL_law_286 (fun r w h0 => ?_)
  refine xr_aload_n C dL_law_289 rfl ?_
  refine xr_aload_n C dL_law_290 rfl ?_
  refine xr_iload_n C dL_law_291 rfl ?_
  refine xr_iconst (v := nI 1) C dL_law_292 (by decide) ?_
  refine xr_iaddN C dL_law_293 ?_
  refine xr_sld C X (by omega) (by omega) dL_law_294 ?_
  refine xr_aload_n C dL_law_295 rfl ?_
  refine xr_iload_n C dL_law_296 rfl ?_
  refine xr_iconst (v := nI 2) C dL_law_297 (by decide) ?_
  refine xr_iaddN C dL_law_298 ?_
  refine xr_sld C X (by omega) (by omega) dL_law_299 ?_
  refine xr_callAi C (m1_leafOf J1 (xs (i + 1)) (xs (i + 2))) (cwL1_leafOf ⟨by decide, by decide⟩) 0 rfl rfl rfl rfl (Nat.le_of_ble_eq_true rfl) dL_law_300 (fun r' w1 h1 => ?_)
  obtain ⟨e, hJ⟩ := ag_leafOf J0 J1 h0 h1
  exact xr_icmp_eq (tgt := 529) C dL_law_303 (by decide) (fun _ => k _ _ hJ) (fun h => absurd e h)
theorem jw_6 (C : xOk room_1 D (xT cB cI cS) 4 K code "TreeScorerLaw") (X : xScr K b L xs) (hL : L ≤ 320) {i : Nat} (hi : i + 5 ≤ L) (k : jw_k l D K g g' cB cI cS b i 529) : jw_k l D K g g' cB cI cS b i 308 := by
  rintro _ _ ⟨τ, lc, vs, n, fk, sa, lf, sz, ak, nu, lo, hi', J0, J1, rfl, rfl⟩
  have hw := r0_wf J0
  refine xr_aload_n C dL_law_308 rfl ?_
  refine xr_aload_n C dL_law_309 rfl ?_
  refine xr_iload_n C dL_law_310 rfl ?_
  refine xr_iconst (v := nI 1) C dL_law_311 (by decide) ?_
  refine xr_iaddN C dL_law_312 ?_
  refine xr_sld C X (by omega) (by omega) dL_law_313 ?_
  refine xr_callAi C (m0_score hw (r0_ex J0) (xs (i + 1))) (cwL0_score ⟨by decide, by decide⟩) 0 rfl rfl rfl rfl (Nat.le_of_ble_eq_true rfl) dL_law_314 (fun r w h0 => ?_)
  refine xr_aload_n C dL_law_317 rfl ?_
  refine xr_aload_n C dL_law_318 rfl ?_
  refine xr_iload_n C dL_law_319 rfl ?_
  refine xr_iconst (v := nI 1) C dL_law_320 (by decide) ?_
  refine xr_iaddN C dL_law_321 ?_
  refine xr_sld C X (by omega) (by omega) dL_law_322 ?_
  refine xr_callAi C (m1_score J1 (xs (i + 1))) (cwL1_score ⟨by decide, by decide⟩) 0 rfl rfl rfl rfl (Nat.le_of_ble_eq_true rfl) dL_law_323 (fun r' w1 h1 => ?_)
  obtain ⟨e, hJ⟩ := ag_score J0 J1 h0 h1
  exact xr_icmp_eq (tgt := 529) C dL_law_326 (by decide) (fun _ => k _ _ hJ) (fun h => absurd e h)
theorem jw_7 (C : xOk room_1 D (xT cB cI cS) 4 K code "TreeScorerLaw") (X : xScr K b L xs) (hL : L ≤ 320) {i : Nat} (hi : i + 5 ≤ L) (k : jw_k l D K g g' cB cI cS b i 529) : jw_k l D K g g' cB cI cS b i 331 := by
  rintro _ _ ⟨τ, lc, vs, n, fk, sa, lf, sz, ak, nu, lo, hi', J0, J1, rfl, rfl⟩
  have hw := r0_wf J0
  refine xr_aload_n C dL_law_331 rfl ?_
  refine xr_aload_n C dL_law_332 rfl ?_
  refine xr_iload_n C dL_law_333 rfl ?_
  refine xr_iconst (v := nI 1) C dL_law_334 (by decide) ?_
  refine xr_iaddN C dL_law_335 ?_
  refine xr_sld C X (by omega) (by omega) dL_law_336 ?_
  refine xr_callAi C (m0_depth hw (r0_ex J0) (xs (i + 1))) (cwL0_depth ⟨by decide, by decide⟩) 0 rfl rfl rfl rfl (Nat.le_of_ble_eq_true rfl) dL_law_337 (fun r w h0 => ?_)
  refine xr_aload_n C dL_law_340 rfl ?_
  refine xr_aload_n C dL_law_341 rfl ?_
  refine xr_iload_n C dL_law_342 rfl ?_
  refine xr_iconst (v := nI 1) C dL_law_343 (by decide) ?_
  refine xr_iaddN C dL_law_344 ?_
  refine xr_sld C X (by omega) (by omega) dL_law_345 ?_
  refine xr_callAi C (m1_depth J1 (xs (i + 1))) (cwL1_depth ⟨by decide, by decide⟩) 0 rfl rfl rfl rfl (Nat.le_of_ble_eq_true rfl) dL_law_346 (fun r' w1 h1 => ?_)
  obtain ⟨e, hJ⟩ := ag_depth J0 J1 h0 h1
  exact xr_icmp_eq (tgt := 529) C dL_law_349 (by decide) (fun _ => k _ _ hJ) (fun h => absurd e h)
theorem jw_8 (C : xOk room_1 D (xT cB cI cS) 4 K code "TreeScorerLaw") (X : xScr K b L xs) (hL : L ≤ 320) {i : Nat} (hi : i + 5 ≤ L) (k : jw_k l D K g g' cB cI cS b i 529) : jw_k l D K g g' cB cI cS b i 354 := by
  rintro _ _ ⟨τ, lc, vs, n, fk, sa, lf, sz, ak, nu, lo, hi', J0, J1, rfl, rfl⟩
  have hw := r0_wf J0
  refine xr_aload_n C dL_law_354 rfl ?_
  refine xr_aload_n C dL_law_355 rfl ?_
  refine xr_iload_n C dL_law_356 rfl ?_
  refine xr_iconst (v := nI 1) C dL_law_357 (by decide) ?_
  refine xr_iaddN C dL_law_358 ?_
  refine xr_sld C X (by omega) (by omega) dL_law_359 ?_
  refine xr_aload_n C dL_law_360 rfl ?_
  refine xr_iload_n C dL_law_361 rfl ?_
  refine xr_iconst (v := nI 2) C dL_law_362 (by decide) ?_
  refine xr_iaddN C dL_law_363 ?_
  refine xr_sld C X (by omega) (by omega) dL_law_364 ?_
  refine xr_aload_n C dL_law_365 rfl ?_
  refine xr_iload_n C dL_law_366 rfl ?_
  refine xr_iconst (v := nI 3) C dL_law_367 (by decide) ?_
  refine xr_iaddN C dL_law_368 ?_
  refine xr_sld C X (by omega) (by omega) dL_law_369 ?_
  refine xr_callAi C (m0_leavesAlong hw (r0_ex J0) (xs (i + 1)) (xs (i + 2)) (xs (i + 3))) (cwL0_leavesAlong ⟨by decide, by decide⟩) 0 rfl rfl rfl rfl (Nat.le_of_ble_eq_true rfl) dL_law_370 (fun r w h0 => ?_)
  refine xr_aload_n C dL_law_373 rfl ?_
  refine xr_aload_n C dL_law_374 rfl ?_
  refine xr_iload_n C dL_law_375 rfl ?_
  refine xr_iconst (v := nI 1) C dL_law_376 (by decide) ?_
  refine xr_iaddN C dL_law_377 ?_
  refine xr_sld C X (by omega) (by omega) dL_law_378 ?_
  refine xr_aload_n C dL_law_379 rfl ?_
  refine xr_iload_n C dL_law_380 rfl ?_
  refine xr_iconst (v := nI 2) C dL_law_381 (by decide) ?_
  refine xr_iaddN C dL_law_382 ?_
  refine xr_sld C X (by omega) (by omega) dL_law_383 ?_
  refine xr_aload_n C dL_law_384 rfl ?_
  refine xr_iload_n C dL_law_385 rfl ?_
  refine xr_iconst (v := nI 3) C dL_law_386 (by decide) ?_
  refine xr_iaddN C dL_law_387 ?_
  refine xr_sld C X (by omega) (by omega) dL_law_388 ?_
  refine xr_callAi C (m1_leavesAlong J1 (xs (i + 1)) (xs (i + 2)) (xs (i + 3))) (cwL1_leavesAlong ⟨by decide, by decide⟩) 0 rfl rfl rfl rfl (Nat.le_of_ble_eq_true rfl) dL_law_389 (fun r' w1 h1 => ?_)
  obtain ⟨e, hJ⟩ := ag_leavesAlong J0 J1 h0 h1
  exact xr_icmp_eq (tgt := 529) C dL_law_392 (by decide) (fun _ => k _ _ hJ) (fun h => absurd e h)
theorem jw_9 (C : xOk room_1 D (xT cB cI cS) 4 K code "TreeScorerLaw") (X : xScr K b L xs) (hL : L ≤ 320) {i : Nat} (hi : i + 5 ≤ L) (k : jw_k l D K g g' cB cI cS b i 529) : jw_k l D K g g' cB cI cS b i 397 := by
  rintro _ _ ⟨τ, lc, vs, n, fk, sa, lf, sz, ak, nu, lo, hi', J0, J1, rfl, rfl⟩
  have hw := r0_wf J0
  refine xr_aload_n C dL_law_397 rfl ?_
  refine xr_aload_n C dL_law_398 rfl ?_
  refine xr_iload_n C dL_law_399 rfl ?_
  refine xr_iconst (v := nI 1) C dL_law_400 (by decide) ?_
  refine xr_iaddN C dL_law_401 ?_
  refine xr_sld C X (by omega) (by omega) dL_law_402 ?_
  refine xr_aload_n C dL_law_403 rfl ?_
  refine xr_iload_n C dL_law_404 rfl ?_
  refine xr_iconst (v := nI 2) C dL_law_405 (by decide) ?_
  refine xr_iaddN C dL_law_406 ?_
  refine xr_sld C X (by omega) (by omega) dL_law_407 ?_
  refine xr_callAi C (m0_bestValue hw (r0_ex J0) (xs (i + 1)) (xs (i + 2))) (cwL0_bestValue ⟨by decide, by decide⟩) 0 rfl rfl rfl rfl (Nat.le_of_ble_eq_true rfl) dL_law_408 (fun r w h0 => ?_)
  refine xr_aload_n C dL_law_411 rfl ?_
  refine xr_aload_n C dL_law_412 rfl ?_
  refine xr_iload_n C dL_law_413 rfl ?_
  refine xr_iconst (v := nI 1) C dL_law_414 (by decide) ?_
  refine xr_iaddN C dL_law_415 ?_
  refine xr_sld C X (by omega) (by omega) dL_law_416 ?_
  refine xr_aload_n C dL_law_417 rfl ?_
  refine xr_iload_n C dL_law_418 rfl ?_
  refine xr_iconst (v := nI 2) C dL_law_419 (by decide) ?_
  refine xr_iaddN C dL_law_420 ?_
  refine xr_sld C X (by omega) (by omega) dL_law_421 ?_
  refine xr_callAi C (m1_bestValue J1 (xs (i + 1)) (xs (i + 2))) (cwL1_bestValue ⟨by decide, by decide⟩) 0 rfl rfl rfl rfl (Nat.le_of_ble_eq_true rfl) dL_law_422 (fun r' w1 h1 => ?_)
  obtain ⟨e, hJ⟩ := ag_bestValue J0 J1 h0 h1
  exact xr_icmp_eq (tgt := 529) C dL_law_425 (by decide) (fun _ => k _ _ hJ) (fun h => absurd e h)
theorem jw_10 (C : xOk room_1 D (xT cB cI cS) 4 K code "TreeScorerLaw") (X : xScr K b L xs) (hL : L ≤ 320) {i : Nat} (hi : i + 5 ≤ L) (k : jw_k l D K g g' cB cI cS b i 529) : jw_k l D K g g' cB cI cS b i 430 := by
  rintro _ _ ⟨τ, lc, vs, n, fk, sa, lf, sz, ak, nu, lo, hi', J0, J1, rfl, rfl⟩
  have hw := r0_wf J0
  refine xr_aload_n C dL_law_430 rfl ?_
  refine xr_aload_n C dL_law_431 rfl ?_
  refine xr_iload_n C dL_law_432 rfl ?_
  refine xr_iconst (v := nI 1) C dL_law_433 (by decide) ?_
  refine xr_iaddN C dL_law_434 ?_
  refine xr_sld C X (by omega) (by omega) dL_law_435 ?_
  refine xr_callAi C (m0_reachable hw (r0_bx J0) (xs (i + 1))) (cwL0_reachable ⟨by decide, by decide⟩) 0 rfl rfl rfl rfl (Nat.le_of_ble_eq_true rfl) dL_law_436 (fun r w h0 => ?_)
  refine xr_aload_n C dL_law_439 rfl ?_
  refine xr_aload_n C dL_law_440 rfl ?_
  refine xr_iload_n C dL_law_441 rfl ?_
  refine xr_iconst (v := nI 1) C dL_law_442 (by decide) ?_
  refine xr_iaddN C dL_law_443 ?_
  refine xr_sld C X (by omega) (by omega) dL_law_444 ?_
  refine xr_callAi C (m1_reachable J1 (xs (i + 1))) (cwL1_reachable ⟨by decide, by decide⟩) 0 rfl rfl rfl rfl (Nat.le_of_ble_eq_true rfl) dL_law_445 (fun r' w1 h1 => ?_)
  obtain ⟨e, hJ⟩ := ag_reachable J0 J1 h0 h1
  exact xr_icmp_eq (tgt := 529) C dL_law_448 (by decide) (fun _ => k _ _ hJ) (fun h => absurd e h)
theorem jw_11 (C : xOk room_1 D (xT cB cI cS) 4 K code "TreeScorerLaw") (X : xScr K b L xs) (hL : L ≤ 320) {i : Nat} (hi : i + 5 ≤ L) (k : jw_k l D K g g' cB cI cS b i 529) : jw_k l D K g g' cB cI cS b i 453 := by
  rintro _ _ ⟨τ, lc, vs, n, fk, sa, lf, sz, ak, nu, lo, hi', J0, J1, rfl, rfl⟩
  have hw := r0_wf J0
  refine xr_aload_n C dL_law_453 rfl ?_
  refine xr_aload_n C dL_law_454 rfl ?_
  refine xr_iload_n C dL_law_455 rfl ?_
  refine xr_iconst (v := nI 1) C dL_law_456 (by decide) ?_
  refine xr_iaddN C dL_law_457 ?_
  refine xr_sld C X (by omega) (by omega) dL_law_458 ?_
  refine xr_aload_n C dL_law_459 rfl ?_
  refine xr_iload_n C dL_law_460 rfl ?_
  refine xr_iconst (v := nI 2) C dL_law_461 (by decide) ?_
  refine xr_iaddN C dL_law_462 ?_
  refine xr_sld C X (by omega) (by omega) dL_law_463 ?_
  refine xr_aload_n C dL_law_464 rfl ?_
  refine xr_iload_n C dL_law_465 rfl ?_
  refine xr_iconst (v := nI 3) C dL_law_466 (by decide) ?_
  refine xr_iaddN C dL_law_467 ?_
  refine xr_sld C X (by omega) (by omega) dL_law_468 ?_
  refine xr_aload_n C dL_law_469 rfl ?_
  refine xr_iload_n C dL_law_470 rfl ?_
  refine xr_iconst (v := nI 4) C dL_law_471 (by decide) ?_
  refine xr_iaddN C dL_law_472 ?_
  refine xr_sld C X (by omega) (by omega) dL_law_473 ?_
  refine xr_callAi C (m0_range hw (r0_bx J0) (xs (i + 1)) (xs (i + 2)) (xs (i + 3)) (xs (i + 4))) (cwL0_range ⟨by decide, by decide⟩) 0 rfl rfl rfl rfl (Nat.le_of_ble_eq_true rfl) dL_law_474 (fun r w h0 => ?_)
  refine xr_aload_n C dL_law_477 rfl ?_
  refine xr_aload_n C dL_law_478 rfl ?_
  refine xr_iload_n C dL_law_479 rfl ?_
  refine xr_iconst (v := nI 1) C dL_law_480 (by decide) ?_
  refine xr_iaddN C dL_law_481 ?_
  refine xr_sld C X (by omega) (by omega) dL_law_482 ?_
  refine xr_aload_n C dL_law_483 rfl ?_
  refine xr_iload_n C dL_law_484 rfl ?_
  refine xr_iconst (v := nI 2) C dL_law_485 (by decide) ?_
  refine xr_iaddN C dL_law_486 ?_
  refine xr_sld C X (by omega) (by omega) dL_law_487 ?_
  refine xr_aload_n C dL_law_488 rfl ?_
  refine xr_iload_n C dL_law_489 rfl ?_
  refine xr_iconst (v := nI 3) C dL_law_490 (by decide) ?_
  refine xr_iaddN C dL_law_491 ?_
  refine xr_sld C X (by omega) (by omega) dL_law_492 ?_
  refine xr_aload_n C dL_law_493 rfl ?_
  refine xr_iload_n C dL_law_494 rfl ?_
  refine xr_iconst (v := nI 4) C dL_law_495 (by decide) ?_
  refine xr_iaddN C dL_law_496 ?_
  refine xr_sld C X (by omega) (by omega) dL_law_497 ?_
  refine xr_callAi C (m1_range J1 (xs (i + 1)) (xs (i + 2)) (xs (i + 3)) (xs (i + 4))) (cwL1_range ⟨by decide, by decide⟩) 0 rfl rfl rfl rfl (Nat.le_of_ble_eq_true rfl) dL_law_498 (fun r' w1 h1 => ?_)
  obtain ⟨e, hJ⟩ := ag_range J0 J1 h0 h1
  exact xr_icmp_eq (tgt := 529) C dL_law_501 (by decide) (fun _ => k _ _ hJ) (fun h => absurd e h)
theorem jw_12 (C : xOk room_1 D (xT cB cI cS) 4 K code "TreeScorerLaw") (X : xScr K b L xs) (hL : L ≤ 320) {i : Nat} (hi : i + 5 ≤ L) (k : jw_k l D K g g' cB cI cS b i 529) : jw_k l D K g g' cB cI cS b i 506 := by
  rintro _ _ ⟨τ, lc, vs, n, fk, sa, lf, sz, ak, nu, lo, hi', J0, J1, rfl, rfl⟩
  have hw := r0_wf J0
  refine xr_aload_n C dL_law_506 rfl ?_
  refine xr_aload_n C dL_law_507 rfl ?_
  refine xr_iload_n C dL_law_508 rfl ?_
  refine xr_iconst (v := nI 1) C dL_law_509 (by decide) ?_
  refine xr_iaddN C dL_law_510 ?_
  refine xr_sld C X (by omega) (by omega) dL_law_511 ?_
  refine xr_callAi C (m0_asks hw (xs (i + 1))) (cwL0_asks ⟨by decide, by decide⟩) 0 rfl rfl rfl rfl (Nat.le_of_ble_eq_true rfl) dL_law_512 (fun r w h0 => ?_)
  refine xr_aload_n C dL_law_515 rfl ?_
  refine xr_aload_n C dL_law_516 rfl ?_
  refine xr_iload_n C dL_law_517 rfl ?_
  refine xr_iconst (v := nI 1) C dL_law_518 (by decide) ?_
  refine xr_iaddN C dL_law_519 ?_
  refine xr_sld C X (by omega) (by omega) dL_law_520 ?_
  refine xr_callAi C (m1_asks J1 (xs (i + 1))) (cwL1_asks ⟨by decide, by decide⟩) 0 rfl rfl rfl rfl (Nat.le_of_ble_eq_true rfl) dL_law_521 (fun r' w1 h1 => ?_)
  obtain ⟨e, hJ⟩ := ag_asks J0 J1 h0 h1
  exact xr_icmp_eq (tgt := 529) C dL_law_524 (by decide) (fun _ => k _ _ hJ) (fun h => absurd e h)
theorem jw_next (C : xOk room_1 D (xT cB cI cS) 4 K code "TreeScorerLaw") {i : Nat} (k : jw_k l D K g g' cB cI cS b (i + 5) 18) : jw_k l D K g g' cB cI cS b i 529 := by
  intro w w1 hJ
  refine xr_iincN (b := i + 5) C dL_law_529 rfl (by rw [show Int32.ofInt 5 = nI 5 by decide, nI_add]) (by decide) rfl ?_
  refine xr_goto (tgt := 18) C dL_law_532 (by decide) ?_
  exact k w w1 hJ
theorem jw_switch (C : xOk room_1 D (xT cB cI cS) 4 K code "TreeScorerLaw") (X : xScr K b L xs) (hL : L ≤ 320) {i : Nat} (hi : i + 5 ≤ L) (k : jw_k l D K g g' cB cI cS b i 529) {z : Nat} (hz : z < 16) {w w1 : va_W} (hJ : jw_W g g' cB cI cS w w1) : xW l room_1 D 4 K (w ++ w1) (jw_l b (g 0) (g' 0) i) 32 [.int (nI z)] := by
  match z, hz with
  | 0, _ => exact xr_tableIn (off := 68) (tgt := 100) C dL_law_32 (by decide) (by decide) (by decide) (by decide) (jw_0 C X hL hi k w w1 hJ)
  | 1, _ => exact xr_tableIn (off := 121) (tgt := 153) C dL_law_32 (by decide) (by decide) (by decide) (by decide) (jw_1 C X hL hi k w w1 hJ)
  | 2, _ => exact xr_tableIn (off := 164) (tgt := 196) C dL_law_32 (by decide) (by decide) (by decide) (by decide) (jw_2 C X hL hi k w w1 hJ)
  | 3, _ => exact xr_tableIn (off := 187) (tgt := 219) C dL_law_32 (by decide) (by decide) (by decide) (by decide) (jw_3 C X hL hi k w w1 hJ)
  | 4, _ => exact xr_tableIn (off := 210) (tgt := 242) C dL_law_32 (by decide) (by decide) (by decide) (by decide) (jw_4 C X hL hi k w w1 hJ)
  | 5, _ => exact xr_tableIn (off := 243) (tgt := 275) C dL_law_32 (by decide) (by decide) (by decide) (by decide) (jw_5 C X hL hi k w w1 hJ)
  | 6, _ => exact xr_tableIn (off := 276) (tgt := 308) C dL_law_32 (by decide) (by decide) (by decide) (by decide) (jw_6 C X hL hi k w w1 hJ)
  | 7, _ => exact xr_tableIn (off := 299) (tgt := 331) C dL_law_32 (by decide) (by decide) (by decide) (by decide) (jw_7 C X hL hi k w w1 hJ)
  | 8, _ => exact xr_tableIn (off := 322) (tgt := 354) C dL_law_32 (by decide) (by decide) (by decide) (by decide) (jw_8 C X hL hi k w w1 hJ)
  | 9, _ => exact xr_tableIn (off := 365) (tgt := 397) C dL_law_32 (by decide) (by decide) (by decide) (by decide) (jw_9 C X hL hi k w w1 hJ)
  | 10, _ => exact xr_tableIn (off := 398) (tgt := 430) C dL_law_32 (by decide) (by decide) (by decide) (by decide) (jw_10 C X hL hi k w w1 hJ)
  | 11, _ => exact xr_tableIn (off := 421) (tgt := 453) C dL_law_32 (by decide) (by decide) (by decide) (by decide) (jw_11 C X hL hi k w w1 hJ)
  | 12, _ => exact xr_tableIn (off := 474) (tgt := 506) C dL_law_32 (by decide) (by decide) (by decide) (by decide) (jw_12 C X hL hi k w w1 hJ)
  | 13, _ => exact xr_tableOut (tgt := 529) C dL_law_32 (by decide) (by decide) (k w w1 hJ)
  | 14, _ => exact xr_tableOut (tgt := 529) C dL_law_32 (by decide) (by decide) (k w w1 hJ)
  | 15, _ => exact xr_tableOut (tgt := 529) C dL_law_32 (by decide) (by decide) (k w w1 hJ)
  | z + 16, h => exact absurd h (by omega)
theorem jw_loop (C : xOk room_1 D (xT cB cI cS) 4 K code "TreeScorerLaw") (X : xScr K b L xs) (hL : L ≤ 320) (hend : ∀ (ws : va_W) (lv : List (Option Value)), xW l room_1 D 4 K ws lv 536 [.int 1]) : ∀ n i : Nat, i ≤ L → L + 1 ≤ i + n → jw_k l D K g g' cB cI cS b i 18 := by
  intro n
  induction n with
  | zero =>
    intro i h1 h2
    exact absurd h2 (by omega)
  | succ n ih =>
    intro i h1 h2 w w1 hJ
    refine xr_iload_n C dL_law_18 rfl ?_
    refine xr_aload_n C dL_law_19 rfl ?_
    refine xr_slen C X dL_law_20 ?_
    refine xr_iconst (v := nI 5) C dL_law_21 (by decide) ?_
    refine xr_isub C dL_law_22 ?_
    refine xr_icmp_gt (tgt := 535) C dL_law_23 (by decide) (fun hc => ?_) (fun hc => ?_)
    · refine xr_iconst (v := 1) C dL_law_535 (by decide) ?_
      exact hend _ _
    · rw [nI_sub5 hL (by omega)] at hc
      refine xr_aload_n C dL_law_26 rfl ?_
      refine xr_iload_n C dL_law_27 rfl ?_
      refine xr_sld C X (by omega) (by omega) dL_law_28 ?_
      refine xr_bipush (v := nI 15) C dL_law_29 (by decide) ?_
      refine xr_iand C dL_law_31 ?_
      obtain ⟨z, hz, e⟩ := pk_andE (xs i) (m := nI 15) 4 (by decide)
      refine xr_top e ?_
      exact jw_switch C X hL (by omega) (jw_next C (ih (i + 5) (by omega) (by omega))) hz hJ
end LWS
theorem jw_arr {s : State} {args : Array Value} {ty : FieldType} (h : (Cond.arrayClass ty).before args s = true) : ∃ cA : ClassId, ArrOfT s cA ty ∧ s.vm.findClass ("[" ++ ty.toString) = some cA := by
  obtain ⟨cA, kA, comp, h1, h2, h3⟩ := Cond.arrayClass_spec h
  exact ⟨cA, fun n z => ⟨fun k h => (by cases h), kA, h2, comp, h3⟩, h1⟩
set_option maxHeartbeats 4000000 in
/-- THE LAW, from its entry -/
theorem whole_start {p : Program} {e : Env} {s : State} {m : MethodId} {below : List Frame} {meth : Method} {c : Code} (l : Launch) {b L : Nat} {xs : Nat → Int32} (hL : L ≤ 320) (C0 : lw_At p s m meth c b L xs) : W p l e room_1 s m #[Value.ref b] below meth c s.heap [] 0 0 (lw_Z below #[Value.ref b] s) (entryFrame m ([Value.ref b] : List Value).toArray 4) := by
  obtain ⟨hx, hb, hr, hml, hown, hts0, hX, hbl, hlocks, hgv⟩ := C0
  have hts : ∀ w ∈ lw_all, w.before #[Value.ref b] s = true := fun w h => hts0 w (lw_all_tbl h)
  obtain ⟨c0, iS0, hKn0⟩ := u_known (C := RX0) (T := TX0) (N := 11) (n := 11) hts in_X0 (hts _ q22)
  obtain ⟨c1, iS1, hKn1⟩ := u_known (C := RX1) (T := TX1) (N := 5) (n := 5) hts in_X1 (hts _ q182)
  obtain ⟨cB, hB1, hB2⟩ := jw_arr (hts _ q63)
  obtain ⟨cI, hI1, hI2⟩ := jw_arr (hts _ q64)
  obtain ⟨cS, hS1, hS2⟩ := jw_arr (hts _ q65)
  obtain ⟨D, hKc⟩ : ∃ D : va_G, ∀ (k : Nat) (q : vw_C), vwCl[k]? = some q → u_Kn s q.1 q.2.1 q.2.2 (D.1 k) (D.2 k) := by
    refine ⟨(fun k => if k = 0 then c0 else c1, fun k => if k = 0 then iS0 else iS1), ?_⟩
    intro k q hq
    match k, hq with
    | 0, hq => cases hq; exact hKn0
    | 1, hq => cases hq; exact hKn1
    | k + 2, hq => simp [vwCl] at hq
  have hK : va_K D vwCl (xT cB cI cS) s := by
    refine ⟨hKc, ?_⟩
    intro k q hq
    match k, hq with
    | 0, hq => cases hq; exact ⟨hB1, hB2⟩
    | 1, hq => cases hq; exact ⟨hI1, hI2⟩
    | 2, hq => cases hq; exact ⟨hS1, hS2⟩
    | k + 3, hq => simp [xT] at hq
  have C : xOk room_1 D (xT cB cI cS) 4 (p, e, s, m, #[Value.ref b], below, meth, c, lw_Z below #[Value.ref b] s, (fun q : Nat => s.heap.size ≤ q), 0, 0) code "TreeScorerLaw" := ⟨hx, hb, hml, hown, hts, hK, fun _ h => h, hlocks, Nat.zero_le _, Nat.zero_le _⟩
  have main : xW l room_1 D 4 (p, e, s, m, #[Value.ref b], below, meth, c, lw_Z below #[Value.ref b] s, (fun q : Nat => s.heap.size ≤ q), 0, 0) [] [some (.ref b), none, none, none] 0 [] := by
    refine xr_new (ci := 0) (fs := [.null, .null, .int 0, .null, .null, .null, .null, .null, .null, .null, .null]) C in_X0 tyX0 tyX0_ok q21 q22 q19 rfl (fun j hj => by
      rcases (show j = 0 ∨ j = 1 ∨ j = 2 ∨ j = 3 ∨ j = 4 ∨ j = 5 ∨ j = 6 ∨ j = 7 ∨ j = 8 ∨ j = 9 ∨ j = 10 by omega) with rfl | rfl | rfl | rfl | rfl | rfl | rfl | rfl | rfl | rfl | rfl <;> rfl) (by decide) (by decide) dL_law_0 (fun h0 => ?_)
    replace C := xOk_cs (c2 := 1) (s2 := 11) C (by decide) (by decide)
    refine xr_dup C dL_law_3 rfl ?_
    refine xr_callIv (wr := []) C (m0_init h0) q25 q19 q23 q24 rfl rfl rfl (by decide +kernel) (by decide) [0] [] rfl rfl rfl rfl (by decide) (n := 0) rfl rfl (Nat.le_of_ble_eq_true rfl) dL_law_4 (by decide) (fun w hw => ?_)
    obtain ⟨g, lc, rfl, hlc, rfl⟩ := hw
    replace C := xOk_cs (c2 := 11) (s2 := 224) C (by decide) (by decide)
    refine xr_astore_n C dL_law_7 (by decide) rfl ?_
    refine xr_new (ci := 1) (fs := [.null, .null, .null, .null, .null]) C in_X1 tyX1 tyX1_ok q181 q182 q20 rfl (fun j hj => by
      rcases (show j = 0 ∨ j = 1 ∨ j = 2 ∨ j = 3 ∨ j = 4 by omega) with rfl | rfl | rfl | rfl | rfl <;> rfl) (by decide) (by decide) dL_law_8 (fun h1 => ?_)
    replace C := xOk_cs (c2 := 12) (s2 := 229) C (by decide) (by decide)
    refine xr_dup C dL_law_11 rfl ?_
    refine xr_callIv (wr := x0w g cB cI cS lc (fun _ => nI 0) 0 (fun _ => (0, 0, 0, 0, 0, 0)) (fun _ => 0) (fun _ => 0)) C (m1_init h1) q185 q20 q183 q184 rfl rfl rfl (by decide +kernel) (by decide) [11] [0, 1, 2, 3, 4, 5, 6, 7, 8, 9, 10] rfl rfl rfl rfl (by decide) (n := 0) rfl rfl (Nat.le_of_ble_eq_true rfl) dL_law_12 (by decide) (fun w hw => ?_)
    obtain ⟨g', sz, ak, rfl, hsz, rfl⟩ := hw
    replace C := xOk_cs (c2 := 17) (s2 := 361) C (by decide) (by decide)
    refine xr_astore_n C dL_law_15 (by decide) rfl ?_
    refine xr_iconst (v := nI 0) C dL_law_16 (by decide) ?_
    refine xr_istore_n C dL_law_17 (by decide) rfl ?_
    have X : xScr (p, e, s, m, #[Value.ref b], below, meth, c, lw_Z below #[Value.ref b] s, (fun q : Nat => s.heap.size ≤ q), 17, 361) b L xs := ⟨hX, hbl, Nat.not_le.mpr hbl⟩
    refine jw_loop C X hL (fun ws lv => ?_) (L + 1) 0 (Nat.zero_le L) (by omega) _ _ ⟨fun _ => .leaf 0, lc, fun _ => nI 0, 0, fun _ => (0, 0, 0, 0, 0, 0), fun _ => 0, fun _ => 0, sz, ak, fun _ => nI 0, fun _ => 0, fun _ => 0, r0_init hlc, r1_init (fun t ht => ⟨(hsz t ht).1, (hsz t ht).2, nI_0⟩), rfl, rfl⟩
    intro H locs ls hP hD hS hl
    refine va_forget (fun q hq => hS.2.2 q hq) ?_
    refine W.widen (k := 600000) (n := 7290000) (by decide) (by decide) ?_
    exact lw_ret hx hb hr hlocks dL_law_536
  rw [lg_entry_eq]
  exact main s.heap [] _ (fun k q h => by simp at h) ⟨fun i j p q h => by simp at h, fun k q h => by simp at h⟩ va_S.rf (xL_entry [.ref b] (fun v hv => by rw [List.mem_singleton.mp hv]; rfl) (Nat.le_of_ble_eq_true rfl) _ 3 rfl)
end
section
set_option maxHeartbeats 4000000 in
theorem lw_walk (l : Launch) (b : Addr) (xs : List Int32) : MetFree l x (headSpec (Jvm.Cond.code x code maxLocals ret :: tables_1) room_1) (lw_P b xs) (fun _ _ _ _ _ => True) lw_Q := by
  refine MetFree.of_bodyS (code := code) (maxLocals := maxLocals) (ret := ret) (by decide) ?_ ?_
  · intro args s m h hn
    obtain ⟨meth, c, h1, h2, h3, h4, h5, h6, -, -⟩ := Cond.code_spec hn (atoms_spec (ws := Jvm.Cond.code x code maxLocals ret :: tables_1) h _ List.mem_cons_self)
    exact ⟨meth, c, h1, h2, h3, h4, h5, h6⟩
  · intro p e s m args below meth c s₁ B hml0 hP _
    obtain ⟨rfl, hx, hbd, hgv⟩ := hP
    obtain ⟨scr, harrAt, hlist, hof, hsmall⟩ := hx
    obtain ⟨hcb, hkn, -, -⟩ := State.arrayAt?_spec harrAt
    have hown : s.vm.findClass R_law = some m.cls := findClass_of_methodNamed B.named
    have hts0 : ∀ c ∈ (Jvm.Cond.code x code maxLocals ret :: tables_1), c.before #[Value.ref b] s = true := atoms_spec (ws := Jvm.Cond.code x code maxLocals ret :: tables_1) B.pre
    have hts : ∀ w ∈ lw_tbl, w.before #[Value.ref b] s = true := k2_hts_sels lw_privs (fun w hw => hts0 w (List.mem_cons_of_mem _ hw)) lw_privs_ok
    have hml : c.maxLocals = 4 := B.maxLocals_eq (hts0 _ List.mem_cons_self)
    have X₀ : Stand p l e room_1 s m #[Value.ref b] below meth c s₁ [] 0 0 := Stand.of_body B
    have hh0 : s₁.heap = s.heap := by rw [B.state]; rfl
    have hsz : scr.slots.size = xs.length := by rw [← Array.length_toList, hlist, List.length_map]
    have hval : ∀ j : Nat, j < xs.length → scr.slots[j]? = some (.int (xs.getD j 0)) := fun j hj => by
      rw [← Array.getElem?_toList, hlist]
      simp [hj]
    have hbl : b < s.heap.size := (Array.getElem?_eq_some_iff.mp hcb).1
    have hX : va_X b xs.length (fun j => xs.getD j 0) s s.heap := ⟨scr, hcb, hof, hkn, hsz, hval⟩
    have K : W p l e room_1 s m #[Value.ref b] below meth c s₁.heap [] 0 0 (lw_Z below #[Value.ref b] s) (entryFrame m ([Value.ref b] : List Value).toArray 4) := by
      rw [hh0]
      exact whole_start l hbd ⟨B.exec, B.bytes, B.returns, hml, hown, hts, hX, hbl, B.notSynchronized, hgv⟩
    obtain ⟨t, a1, o, b1, b2, b3⟩ := K s₁ rfl X₀
    exact ⟨t, o, a1, b1, b2, b3⟩
theorem lw_pre_spec {args : Array Value} {s : State} (h : (Jvm.Cond.and given_1 narrow_1).before args s = true) (hr : rest_1_c.before args s = true) : ∃ (b : Addr) (xs : List Int32), lw_P b xs args s := by
  have hs := flat_of_before _ h
  have hq := flat_of_before _ hr
  have hc : (Cond.count 1).before args s = true := hs _ (by decide +kernel)
  have harr : (Cond.arrayOf (.arg 0) .int).before args s = true := hs _ (by decide +kernel)
  have hle : (Cond.le (.length (.arg 0)) (.int 320)).before args s = true := hs _ (by decide +kernel)
  have hlen : (Cond.isInt (.length (.arg 0))).before args s = true := hq _ (by decide +kernel)
  have hall : (Cond.all (.arg 0) (.isInt (.elem (.arg 0) (.index 0)))).before args s = true := hq _ (by decide +kernel)
  obtain ⟨b, xs, hb, hx⟩ := State.ints_of_pre rfl harr hlen hall
  have hsm : xs.length < 2 ^ 31 := hx.choose_spec.2.2.2
  have hev : (Term.length (.arg 0)).eval args s none [] s = some (.int xs.length.toInt32) := hx.length_eval hb
  have hv := Cond.le_ints hev (show (Term.int 320).eval args s none [] s = some (.int 320) from rfl)
  have hd : xs.length.toInt32 ≤ 320 := by
    simpa [Cond.before, Cond.holds, hv] using hle
  have hN : xs.length ≤ 320 := (Int32.ofNat_le_ofNat hsm (by decide)).mp (show Int32.ofNat xs.length ≤ Int32.ofNat 320 from hd)
  exact ⟨b, xs, Cond.one_arg hc (show args[0]? = some (.ref b) from hb), hx, hN, h⟩
theorem lw_comes (l : Launch) : Comes l x (Jvm.Cond.code x code maxLocals ret :: tables_1) room_1 (fun tb e args s => Calls_1 tb e args s ∧ rest_1 tb e args s ∧ Pre_1 tb e args s)
    (fun _ _ args s o t => lw_Q args s o t) := by
  intro p e ha hc hk s m args below hf hfit hheap happ hpre
  obtain ⟨b, xs, hP⟩ := lw_pre_spec hpre.2.2 hpre.2.1
  obtain ⟨k, o, h1, h2, h3, hQ⟩ := lw_walk l b xs p e ha hc hk s m args below hf ((Spec.applies_iff_loose hf).mp happ).1 hP trivial
  exact ⟨k, o, h1, h2, h3, hQ⟩
theorem lw_frame {s t : State} {o : Outcome} {args : Array Value} (h : Framed s o t [] 600000 7290000) :
    Framed s o t (fieldLocs frame_1_writes args s ++ arrayLocs frame_1_arrays args s ++ staticLocs frame_1_statics s) 600000 7290000 := h
theorem lw_limb (L : Cond) (hL : ∀ (args : Array Value) (s t : State), L.after args s (.returned (some (.int 1))) t = true) :
    ArmFor flags0 classFile x code maxLocals ret World_1 tables_1 room_1 Calls_1 rest_1 Pre_1
      (fun tb e a s o t => postC L tb e a s o t ∧ Framed s o t (fieldLocs frame_1_writes a s ++ arrayLocs frame_1_arrays a s ++ staticLocs frame_1_statics s) 600000 7290000) := by
  intro l _ _ _ p e ha hc hk s m args below hf hfit hheap happ hpre
  obtain ⟨k, o, h1, h2, h3, rfl, hF⟩ := lw_comes l p e ha hc hk s m args below hf hfit hheap happ hpre
  exact ⟨k, _, h1, h2, h3, hL args s _, lw_frame hF⟩
theorem i_vc : Claimed_1_1 ∧ Claimed_1_2 := ⟨lw_limb limb_1_1 (fun args s t => by simp [limb_1_1, Cond.after, Cond.holds, Cond.value]), lw_limb limb_1_2 (fun args s t => Cond.after_iff.mpr (by
  first | (rw [show limb_1_2 = Cond.eq .result (.int 1) from rfl, Cond.eq_ints (x := 1) (y := 1) rfl rfl]; simp; done) | (simp [limb_1_2, Cond.value, Term.eval]; done)))⟩
end
