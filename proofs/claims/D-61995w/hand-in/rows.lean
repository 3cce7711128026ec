section
-- ===== PART A: goes FIRST, ahead of the names: the tables' words, and 'selects' of the private methods out of them =====
/-- a private method of a class that the tables say can be made, by its rows of tables_1 -/
def lw_okq (q : MethodName × Nat) : Prop := (q.1.cls ≠ "java/lang/invoke/MethodHandle" ∧ q.1.cls ≠ "java/lang/invoke/VarHandle") ∧ Cond.instantiable q.1.cls q.2 ∈ tables_1 ∧ Cond.privateMethod q.1 ∈ tables_1 ∧ Cond.instanceMethod q.1 ∈ tables_1
set_option maxRecDepth 100000
theorem lw_t1 {w : Cond} (h : w ∈ tables_1_1) : w ∈ tables_1 := List.mem_append_left _ h
theorem lw_t2 {w : Cond} (h : w ∈ tables_1_2) : w ∈ tables_1 := List.mem_append_right _ h
theorem lw_p0 : lw_okq (⟨"Percolator", "file", "(I)V"⟩, 17) := ⟨⟨by decide +kernel, by decide +kernel⟩, lw_t1 (List.mem_of_getElem? (i := 4) rfl), lw_t1 (List.mem_of_getElem? (i := 70) rfl), lw_t1 (List.mem_of_getElem? (i := 71) rfl)⟩
theorem lw_p1 : lw_okq (⟨"Percolator", "count", "(II)V"⟩, 17) := ⟨⟨by decide +kernel, by decide +kernel⟩, lw_t1 (List.mem_of_getElem? (i := 4) rfl), lw_t1 (List.mem_of_getElem? (i := 74) rfl), lw_t1 (List.mem_of_getElem? (i := 75) rfl)⟩
theorem lw_p2 : lw_okq (⟨"Percolator", "sure", "(I)Z"⟩, 17) := ⟨⟨by decide +kernel, by decide +kernel⟩, lw_t1 (List.mem_of_getElem? (i := 4) rfl), lw_t1 (List.mem_of_getElem? (i := 78) rfl), lw_t1 (List.mem_of_getElem? (i := 79) rfl)⟩
theorem lw_p3 : lw_okq (⟨"Percolator", "rarest", "(I)I"⟩, 17) := ⟨⟨by decide +kernel, by decide +kernel⟩, lw_t1 (List.mem_of_getElem? (i := 4) rfl), lw_t1 (List.mem_of_getElem? (i := 82) rfl), lw_t1 (List.mem_of_getElem? (i := 83) rfl)⟩
theorem lw_p4 : lw_okq (⟨"Percolator", "addTerm", "(III)I"⟩, 17) := ⟨⟨by decide +kernel, by decide +kernel⟩, lw_t1 (List.mem_of_getElem? (i := 4) rfl), lw_t1 (List.mem_of_getElem? (i := 90) rfl), lw_t1 (List.mem_of_getElem? (i := 91) rfl)⟩
theorem lw_p5 : lw_okq (⟨"Percolator", "noQuery", "(I)Z"⟩, 17) := ⟨⟨by decide +kernel, by decide +kernel⟩, lw_t1 (List.mem_of_getElem? (i := 4) rfl), lw_t1 (List.mem_of_getElem? (i := 94) rfl), lw_t1 (List.mem_of_getElem? (i := 95) rfl)⟩
theorem lw_p6 : lw_okq (⟨"Percolator", "add", "(IIII)I"⟩, 17) := ⟨⟨by decide +kernel, by decide +kernel⟩, lw_t1 (List.mem_of_getElem? (i := 4) rfl), lw_t1 (List.mem_of_getElem? (i := 101) rfl), lw_t1 (List.mem_of_getElem? (i := 102) rfl)⟩
theorem lw_p7 : lw_okq (⟨"Percolator", "unfile", "(I)V"⟩, 17) := ⟨⟨by decide +kernel, by decide +kernel⟩, lw_t1 (List.mem_of_getElem? (i := 4) rfl), lw_t1 (List.mem_of_getElem? (i := 105) rfl), lw_t1 (List.mem_of_getElem? (i := 106) rfl)⟩
theorem lw_p8 : lw_okq (⟨"Percolator", "percolate", "()V"⟩, 17) := ⟨⟨by decide +kernel, by decide +kernel⟩, lw_t1 (List.mem_of_getElem? (i := 4) rfl), lw_t1 (List.mem_of_getElem? (i := 141) rfl), lw_t1 (List.mem_of_getElem? (i := 142) rfl)⟩
theorem lw_p9 : lw_okq (⟨"Percolator", "check", "(I)Z"⟩, 17) := ⟨⟨by decide +kernel, by decide +kernel⟩, lw_t1 (List.mem_of_getElem? (i := 4) rfl), lw_t1 (List.mem_of_getElem? (i := 145) rfl), lw_t1 (List.mem_of_getElem? (i := 146) rfl)⟩
theorem lw_p10 : lw_okq (⟨"Percolator", "holds", "(I)Z"⟩, 17) := ⟨⟨by decide +kernel, by decide +kernel⟩, lw_t1 (List.mem_of_getElem? (i := 4) rfl), lw_t1 (List.mem_of_getElem? (i := 149) rfl), lw_t1 (List.mem_of_getElem? (i := 150) rfl)⟩
theorem lw_p11 : lw_okq (⟨"Percolator", "keep", "(I)V"⟩, 17) := ⟨⟨by decide +kernel, by decide +kernel⟩, lw_t1 (List.mem_of_getElem? (i := 4) rfl), lw_t1 (List.mem_of_getElem? (i := 153) rfl), lw_t1 (List.mem_of_getElem? (i := 154) rfl)⟩
theorem lw_p12 : lw_okq (⟨"Percolator", "scoreOf", "(I)I"⟩, 17) := ⟨⟨by decide +kernel, by decide +kernel⟩, lw_t1 (List.mem_of_getElem? (i := 4) rfl), lw_t1 (List.mem_of_getElem? (i := 157) rfl), lw_t1 (List.mem_of_getElem? (i := 158) rfl)⟩
theorem lw_p13 : lw_okq (⟨"PercolatorModel", "add", "(IIII)I"⟩, 9) := ⟨⟨by decide +kernel, by decide +kernel⟩, lw_t1 (List.mem_of_getElem? (i := 173) rfl), lw_t1 (List.mem_of_getElem? (i := 215) rfl), lw_t1 (List.mem_of_getElem? (i := 216) rfl)⟩
theorem lw_p14 : lw_okq (⟨"PercolatorModel", "isQuery", "(I)Z"⟩, 9) := ⟨⟨by decide +kernel, by decide +kernel⟩, lw_t1 (List.mem_of_getElem? (i := 173) rfl), lw_t1 (List.mem_of_getElem? (i := 219) rfl), lw_t1 (List.mem_of_getElem? (i := 220) rfl)⟩
theorem lw_p15 : lw_okq (⟨"PercolatorModel", "isTerm", "(I)Z"⟩, 9) := ⟨⟨by decide +kernel, by decide +kernel⟩, lw_t1 (List.mem_of_getElem? (i := 173) rfl), lw_t1 (List.mem_of_getElem? (i := 223) rfl), lw_t1 (List.mem_of_getElem? (i := 224) rfl)⟩
def lw_privs_1 : List (MethodName × Nat) := [(⟨"Percolator", "file", "(I)V"⟩, 17), (⟨"Percolator", "count", "(II)V"⟩, 17), (⟨"Percolator", "sure", "(I)Z"⟩, 17), (⟨"Percolator", "rarest", "(I)I"⟩, 17), (⟨"Percolator", "addTerm", "(III)I"⟩, 17), (⟨"Percolator", "noQuery", "(I)Z"⟩, 17), (⟨"Percolator", "add", "(IIII)I"⟩, 17), (⟨"Percolator", "unfile", "(I)V"⟩, 17), (⟨"Percolator", "percolate", "()V"⟩, 17), (⟨"Percolator", "check", "(I)Z"⟩, 17), (⟨"Percolator", "holds", "(I)Z"⟩, 17), (⟨"Percolator", "keep", "(I)V"⟩, 17), (⟨"Percolator", "scoreOf", "(I)I"⟩, 17), (⟨"PercolatorModel", "add", "(IIII)I"⟩, 9), (⟨"PercolatorModel", "isQuery", "(I)Z"⟩, 9), (⟨"PercolatorModel", "isTerm", "(I)Z"⟩, 9)]
theorem lw_r1 : ∀ q ∈ lw_privs_1, lw_okq q := List.forall_mem_cons.mpr ⟨lw_p0, List.forall_mem_cons.mpr ⟨lw_p1, List.forall_mem_cons.mpr ⟨lw_p2, List.forall_mem_cons.mpr ⟨lw_p3, List.forall_mem_cons.mpr ⟨lw_p4, List.forall_mem_cons.mpr ⟨lw_p5, List.forall_mem_cons.mpr ⟨lw_p6, List.forall_mem_cons.mpr ⟨lw_p7, List.forall_mem_cons.mpr ⟨lw_p8, List.forall_mem_cons.mpr ⟨lw_p9, List.forall_mem_cons.mpr ⟨lw_p10, List.forall_mem_cons.mpr ⟨lw_p11, List.forall_mem_cons.mpr ⟨lw_p12, List.forall_mem_cons.mpr ⟨lw_p13, List.forall_mem_cons.mpr ⟨lw_p14, List.forall_mem_cons.mpr ⟨lw_p15, fun _ h => absurd h List.not_mem_nil⟩⟩⟩⟩⟩⟩⟩⟩⟩⟩⟩⟩⟩⟩⟩⟩
theorem lw_p16 : lw_okq (⟨"PercolatorModel", "holds", "(I)Z"⟩, 9) := ⟨⟨by decide +kernel, by decide +kernel⟩, lw_t1 (List.mem_of_getElem? (i := 173) rfl), lw_t2 (List.mem_of_getElem? (i := 23) rfl), lw_t2 (List.mem_of_getElem? (i := 24) rfl)⟩
theorem lw_p17 : lw_okq (⟨"PercolatorModel", "often", "(I)I"⟩, 9) := ⟨⟨by decide +kernel, by decide +kernel⟩, lw_t1 (List.mem_of_getElem? (i := 173) rfl), lw_t2 (List.mem_of_getElem? (i := 27) rfl), lw_t2 (List.mem_of_getElem? (i := 28) rfl)⟩
theorem lw_p18 : lw_okq (⟨"PercolatorModel", "beside", "(II)Z"⟩, 9) := ⟨⟨by decide +kernel, by decide +kernel⟩, lw_t1 (List.mem_of_getElem? (i := 173) rfl), lw_t2 (List.mem_of_getElem? (i := 31) rfl), lw_t2 (List.mem_of_getElem? (i := 32) rfl)⟩
theorem lw_p19 : lw_okq (⟨"PercolatorModel", "before", "(I)I"⟩, 9) := ⟨⟨by decide +kernel, by decide +kernel⟩, lw_t1 (List.mem_of_getElem? (i := 173) rfl), lw_t2 (List.mem_of_getElem? (i := 39) rfl), lw_t2 (List.mem_of_getElem? (i := 40) rfl)⟩
theorem lw_p20 : lw_okq (⟨"PercolatorModel", "scoreOf", "(I)I"⟩, 9) := ⟨⟨by decide +kernel, by decide +kernel⟩, lw_t1 (List.mem_of_getElem? (i := 173) rfl), lw_t2 (List.mem_of_getElem? (i := 43) rfl), lw_t2 (List.mem_of_getElem? (i := 44) rfl)⟩
def lw_privs_2 : List (MethodName × Nat) := [(⟨"PercolatorModel", "holds", "(I)Z"⟩, 9), (⟨"PercolatorModel", "often", "(I)I"⟩, 9), (⟨"PercolatorModel", "beside", "(II)Z"⟩, 9), (⟨"PercolatorModel", "before", "(I)I"⟩, 9), (⟨"PercolatorModel", "scoreOf", "(I)I"⟩, 9)]
theorem lw_r2 : ∀ q ∈ lw_privs_2, lw_okq q := List.forall_mem_cons.mpr ⟨lw_p16, List.forall_mem_cons.mpr ⟨lw_p17, List.forall_mem_cons.mpr ⟨lw_p18, List.forall_mem_cons.mpr ⟨lw_p19, List.forall_mem_cons.mpr ⟨lw_p20, fun _ h => absurd h List.not_mem_nil⟩⟩⟩⟩⟩
def lw_privs : List (MethodName × Nat) := lw_privs_1 ++ (lw_privs_2)
def lw_tbl : List Cond := k2_sels lw_privs ++ tables_1
theorem lw_privs_ok : ∀ q ∈ lw_privs, lw_okq q := by
  show ∀ q ∈ lw_privs_1 ++ (lw_privs_2), lw_okq q
  exact List.forall_mem_append.mpr ⟨lw_r1, lw_r2⟩
-- ===== ONE list of words for every method: the tables' words that hold all through a run =====
def lw_all : List Cond := lw_tbl.filter goodWord
/-- a word of the tables by its place: claim/WORDS.tsv -/
theorem lw_w {w : Cond} (i : Nat) (h : lw_tbl[i]? = some w) (g : goodWord w = true) : w ∈ lw_all := List.mem_filter.mpr ⟨List.mem_of_getElem? h, g⟩
theorem lw_all_tbl {w : Cond} (h : w ∈ lw_all) : w ∈ lw_tbl := (List.mem_filter.mp h).1
theorem lw_self : GoodIn lw_all lw_all := fun w h => ⟨h, good_of_word (List.mem_filter.mp h).2⟩
/-- a class's field words, by their places -/
theorem lw_in (ws : List Cond) (ps : List Nat) (hp : ws = ps.filterMap (fun i => lw_tbl[i]?)) (hg : ws.all goodWord = true) : ∀ w ∈ ws, w ∈ lw_all := by
  intro w h
  have h1 := List.all_eq_true.mp hg w h
  rw [hp] at h
  obtain ⟨i, -, hi⟩ := List.mem_filterMap.mp h
  exact lw_w i hi h1
/-- the words of a contract for the method y with code b, L locals, answer r -/
abbrev ws_ (y : MethodName) (b : ByteArray) (L : Nat) (r : Option FieldType) : List Cond := Cond.code y b L r :: lw_all
theorem lw_meth {y : MethodName} {b : ByteArray} {L : Nat} {r : Option FieldType} (h : Cond.code y b L r ∈ lw_all) : GoodIn lw_all (ws_ y b L r) := by
  intro w hw
  rcases List.mem_cons.mp hw with e | e
  · rw [e]
    exact lw_self _ h
  · exact lw_self _ e
theorem lw_app {a c : List Cond} (ha : ∀ w ∈ a, w ∈ lw_all) (hc : GoodIn lw_all c) : GoodIn lw_all (a ++ c) := by
  intro w hw
  rcases List.mem_append.mp hw with e | e
  · exact lw_self w (ha w e)
  · exact hc w e
/-- what a call through an object asks: cwV n hts (lw_V ..) -/
theorem lw_V {own : String} {idx : Nat} {C : String} {y : MethodName} {b : ByteArray} {L : Nat} {r : Option FieldType} (h1 : Cond.methodLink own idx y ∈ lw_all) (h2 : Cond.instanceMethod y ∈ lw_all) (h3 : Cond.selects C y y ∈ lw_all) (h4 : Cond.initialized C ∈ lw_all) (h5 : Cond.code y b L r ∈ lw_all) : GoodIn lw_all (wsV own idx C y (ws_ y b L r)) := by
  refine lw_app ?_ (lw_meth h5)
  intro w hw
  simp only [List.mem_cons, List.not_mem_nil, or_false] at hw
  rcases hw with e | e | e | e
  · rw [e]; exact h1
  · rw [e]; exact h2
  · rw [e]; exact h3
  · rw [e]; exact h4
/-- what a static call asks: va_cwS n hts (lw_S ..) -/
theorem lw_S {own : String} {idx : Nat} {y : MethodName} {b : ByteArray} {L : Nat} {r : Option FieldType} (h1 : Cond.methodLink own idx y ∈ lw_all) (h2 : Cond.static y ∈ lw_all) (h3 : Cond.initialized y.cls ∈ lw_all) (h4 : Cond.code y b L r ∈ lw_all) : GoodIn lw_all (va_wsS own idx y (ws_ y b L r)) := by
  refine lw_app ?_ (lw_meth h4)
  intro w hw
  simp only [List.mem_cons, List.not_mem_nil, or_false] at hw
  rcases hw with e | e | e
  · rw [e]; exact h1
  · rw [e]; exact h2
  · rw [e]; exact h3
/-- the words of a contract for a method WITH HANDLERS (hh: its table) -/
abbrev wsW_ (y : MethodName) (b : ByteArray) (L : Nat) (r : Option FieldType) (hh : List (Nat × Nat × Nat × Nat)) : List Cond := Cond.codeWith y b L r hh :: lw_all
theorem lw_methW {y : MethodName} {b : ByteArray} {L : Nat} {r : Option FieldType} {hh : List (Nat × Nat × Nat × Nat)} (h : Cond.codeWith y b L r hh ∈ lw_all) : GoodIn lw_all (wsW_ y b L r hh) := by
  intro w hw
  rcases List.mem_cons.mp hw with e | e
  · rw [e]
    exact lw_self _ h
  · exact lw_self _ e
/-- any list of words by their places (lw_in), good -/
theorem lw_good {ws : List Cond} (h : ∀ w ∈ ws, w ∈ lw_all) : GoodIn lw_all ws := fun w hw => lw_self w (h w hw)
/-- what a call of a method with handlers asks: vx_cwVW n hts (lw_VW ..), vx_cwSW n hts (lw_SW ..) -/
theorem lw_VW {own : String} {idx : Nat} {C : String} {y : MethodName} {b : ByteArray} {L : Nat} {r : Option FieldType} {hh : List (Nat × Nat × Nat × Nat)} (h1 : Cond.methodLink own idx y ∈ lw_all) (h2 : Cond.instanceMethod y ∈ lw_all) (h3 : Cond.selects C y y ∈ lw_all) (h4 : Cond.initialized C ∈ lw_all) (h5 : Cond.codeWith y b L r hh ∈ lw_all) : GoodIn lw_all (wsV own idx C y (wsW_ y b L r hh)) := by
  refine lw_app ?_ (lw_methW h5)
  intro w hw
  simp only [List.mem_cons, List.not_mem_nil, or_false] at hw
  rcases hw with e | e | e | e
  · rw [e]; exact h1
  · rw [e]; exact h2
  · rw [e]; exact h3
  · rw [e]; exact h4
theorem lw_SW {own : String} {idx : Nat} {y : MethodName} {b : ByteArray} {L : Nat} {r : Option FieldType} {hh : List (Nat × Nat × Nat × Nat)} (h1 : Cond.methodLink own idx y ∈ lw_all) (h2 : Cond.static y ∈ lw_all) (h3 : Cond.initialized y.cls ∈ lw_all) (h4 : Cond.codeWith y b L r hh ∈ lw_all) : GoodIn lw_all (va_wsS own idx y (wsW_ y b L r hh)) := by
  refine lw_app ?_ (lw_methW h4)
  intro w hw
  simp only [List.mem_cons, List.not_mem_nil, or_false] at hw
  rcases hw with e | e | e
  · rw [e]; exact h1
  · rw [e]; exact h2
  · rw [e]; exact h3
/-- a word by its place in its run of the tables -/
theorem lw_at {r : List Cond} (hr : ∀ w ∈ r, w ∈ lw_tbl) {w : Cond} (i : Nat) (h : r[i]? = some w) : w ∈ lw_tbl := hr w (List.mem_of_getElem? h)
theorem lw_g {w : Cond} (h : w ∈ lw_tbl) (g : goodWord w = true) : w ∈ lw_all := List.mem_filter.mpr ⟨h, g⟩
theorem lw_ms : ∀ w ∈ k2_sels lw_privs, w ∈ lw_tbl := fun w h => show w ∈ k2_sels lw_privs ++ tables_1 from List.mem_append_left _ h
theorem lw_m1 : ∀ w ∈ tables_1_1, w ∈ lw_tbl := fun w h => show w ∈ k2_sels lw_privs ++ tables_1 from List.mem_append_right (k2_sels lw_privs) (show w ∈ tables_1 from List.mem_append_left _ h)
theorem lw_m2 : ∀ w ∈ tables_1_2, w ∈ lw_tbl := fun w h => show w ∈ k2_sels lw_privs ++ tables_1 from List.mem_append_right (k2_sels lw_privs) (show w ∈ tables_1 from List.mem_append_right _ h)
theorem qs0 : (Cond.selects "Percolator" ⟨"Percolator", "file", "(I)V"⟩ ⟨"Percolator", "file", "(I)V"⟩) ∈ lw_all := lw_g (lw_at lw_ms 0 rfl) rfl
theorem qs1 : (Cond.selects "Percolator" ⟨"Percolator", "count", "(II)V"⟩ ⟨"Percolator", "count", "(II)V"⟩) ∈ lw_all := lw_g (lw_at lw_ms 1 rfl) rfl
theorem qs2 : (Cond.selects "Percolator" ⟨"Percolator", "sure", "(I)Z"⟩ ⟨"Percolator", "sure", "(I)Z"⟩) ∈ lw_all := lw_g (lw_at lw_ms 2 rfl) rfl
theorem qs3 : (Cond.selects "Percolator" ⟨"Percolator", "rarest", "(I)I"⟩ ⟨"Percolator", "rarest", "(I)I"⟩) ∈ lw_all := lw_g (lw_at lw_ms 3 rfl) rfl
theorem qs4 : (Cond.selects "Percolator" ⟨"Percolator", "addTerm", "(III)I"⟩ ⟨"Percolator", "addTerm", "(III)I"⟩) ∈ lw_all := lw_g (lw_at lw_ms 4 rfl) rfl
theorem qs5 : (Cond.selects "Percolator" ⟨"Percolator", "noQuery", "(I)Z"⟩ ⟨"Percolator", "noQuery", "(I)Z"⟩) ∈ lw_all := lw_g (lw_at lw_ms 5 rfl) rfl
theorem qs6 : (Cond.selects "Percolator" ⟨"Percolator", "add", "(IIII)I"⟩ ⟨"Percolator", "add", "(IIII)I"⟩) ∈ lw_all := lw_g (lw_at lw_ms 6 rfl) rfl
theorem qs7 : (Cond.selects "Percolator" ⟨"Percolator", "unfile", "(I)V"⟩ ⟨"Percolator", "unfile", "(I)V"⟩) ∈ lw_all := lw_g (lw_at lw_ms 7 rfl) rfl
theorem qs8 : (Cond.selects "Percolator" ⟨"Percolator", "percolate", "()V"⟩ ⟨"Percolator", "percolate", "()V"⟩) ∈ lw_all := lw_g (lw_at lw_ms 8 rfl) rfl
theorem qs9 : (Cond.selects "Percolator" ⟨"Percolator", "check", "(I)Z"⟩ ⟨"Percolator", "check", "(I)Z"⟩) ∈ lw_all := lw_g (lw_at lw_ms 9 rfl) rfl
theorem qs10 : (Cond.selects "Percolator" ⟨"Percolator", "holds", "(I)Z"⟩ ⟨"Percolator", "holds", "(I)Z"⟩) ∈ lw_all := lw_g (lw_at lw_ms 10 rfl) rfl
theorem qs11 : (Cond.selects "Percolator" ⟨"Percolator", "keep", "(I)V"⟩ ⟨"Percolator", "keep", "(I)V"⟩) ∈ lw_all := lw_g (lw_at lw_ms 11 rfl) rfl
theorem qs12 : (Cond.selects "Percolator" ⟨"Percolator", "scoreOf", "(I)I"⟩ ⟨"Percolator", "scoreOf", "(I)I"⟩) ∈ lw_all := lw_g (lw_at lw_ms 12 rfl) rfl
theorem qs13 : (Cond.selects "PercolatorModel" ⟨"PercolatorModel", "add", "(IIII)I"⟩ ⟨"PercolatorModel", "add", "(IIII)I"⟩) ∈ lw_all := lw_g (lw_at lw_ms 13 rfl) rfl
theorem qs14 : (Cond.selects "PercolatorModel" ⟨"PercolatorModel", "isQuery", "(I)Z"⟩ ⟨"PercolatorModel", "isQuery", "(I)Z"⟩) ∈ lw_all := lw_g (lw_at lw_ms 14 rfl) rfl
theorem qs15 : (Cond.selects "PercolatorModel" ⟨"PercolatorModel", "isTerm", "(I)Z"⟩ ⟨"PercolatorModel", "isTerm", "(I)Z"⟩) ∈ lw_all := lw_g (lw_at lw_ms 15 rfl) rfl
theorem qs16 : (Cond.selects "PercolatorModel" ⟨"PercolatorModel", "holds", "(I)Z"⟩ ⟨"PercolatorModel", "holds", "(I)Z"⟩) ∈ lw_all := lw_g (lw_at lw_ms 16 rfl) rfl
theorem qs17 : (Cond.selects "PercolatorModel" ⟨"PercolatorModel", "often", "(I)I"⟩ ⟨"PercolatorModel", "often", "(I)I"⟩) ∈ lw_all := lw_g (lw_at lw_ms 17 rfl) rfl
theorem qs18 : (Cond.selects "PercolatorModel" ⟨"PercolatorModel", "beside", "(II)Z"⟩ ⟨"PercolatorModel", "beside", "(II)Z"⟩) ∈ lw_all := lw_g (lw_at lw_ms 18 rfl) rfl
theorem qs19 : (Cond.selects "PercolatorModel" ⟨"PercolatorModel", "before", "(I)I"⟩ ⟨"PercolatorModel", "before", "(I)I"⟩) ∈ lw_all := lw_g (lw_at lw_ms 19 rfl) rfl
theorem qs20 : (Cond.selects "PercolatorModel" ⟨"PercolatorModel", "scoreOf", "(I)I"⟩ ⟨"PercolatorModel", "scoreOf", "(I)I"⟩) ∈ lw_all := lw_g (lw_at lw_ms 20 rfl) rfl
end
section
/-! java/lang/Object -/
set_option maxRecDepth 100000
def RJ0 : String := "java/lang/Object"
abbrev cJ0_init : ByteArray := object_method_1_code
def yJ0_init : MethodName := ⟨RJ0, "<init>", "()V"⟩
theorem dJ0_init_0 : decode cJ0_init 0 = .ok (.return_, 1) := by decide +kernel
theorem q30 : (Jvm.Cond.instanceMethod ({ cls := "java/lang/Object", name := "<init>", desc := "()V" } : Jvm.MethodName)) ∈ lw_all := lw_g (lw_at lw_m1 9 rfl) rfl
theorem q31 : (Jvm.Cond.code ({ cls := "java/lang/Object", name := "<init>", desc := "()V" } : Jvm.MethodName) object_method_1_code (1 : Nat) (Option.none : Option Jvm.ClassFile.FieldType)) ∈ lw_all := lw_g (lw_at lw_m1 10 rfl) rfl
/-! Percolator -/
set_option maxRecDepth 100000
def RX0 : String := "Percolator"
def TX0 : u_T := fun k => match k with
  | 0 => ("Percolator", "used", "[Z", true)
  | 1 => ("Percolator", "least", "[I", true)
  | 2 => ("Percolator", "clauses", "[I", true)
  | 3 => ("Percolator", "kind", "[I", true)
  | 4 => ("Percolator", "first", "[I", true)
  | 5 => ("Percolator", "second", "[I", true)
  | 6 => ("Percolator", "filed", "[I", true)
  | 7 => ("Percolator", "always", "I", false)
  | 8 => ("Percolator", "askedFor", "[I", true)
  | 9 => ("Percolator", "words", "I", false)
  | 10 => ("Percolator", "number", "I", false)
  | 11 => ("Percolator", "lastWord", "I", false)
  | 12 => ("Percolator", "counts", "[I", true)
  | 13 => ("Percolator", "behind", "[I", true)
  | 14 => ("Percolator", "found", "I", false)
  | 15 => ("Percolator", "foundQuery", "[I", true)
  | _ => ("Percolator", "foundScore", "[I", true)
def tyX0 : Nat → FieldType := fun k => match k with
  | 0 => .array .boolean
  | 1 => .array .int
  | 2 => .array .int
  | 3 => .array .int
  | 4 => .array .int
  | 5 => .array .int
  | 6 => .array .int
  | 7 => .int
  | 8 => .array .int
  | 9 => .int
  | 10 => .int
  | 11 => .int
  | 12 => .array .int
  | 13 => .array .int
  | 14 => .int
  | 15 => .array .int
  | _ => .array .int
abbrev wsX00 : List Cond := u_ws RX0 TX0 17
set_option maxRecDepth 100000 in
theorem nmX0 : ∀ a, a < 17 → ∀ b, b < 17 → a ≠ b → (TX0 a).2.1 ≠ (TX0 b).2.1 := by decide +kernel
set_option maxRecDepth 100000 in
theorem tyX0_ok : ∀ k, k < 17 → parseFieldDescriptor (TX0 k).2.2.1 = some (tyX0 k) := by decide +kernel
abbrev cX0_init : ByteArray := prog_1_method_1_code
def yX0_init : MethodName := ⟨RX0, "<init>", "()V"⟩
theorem dX0_init_0 : decode cX0_init 0 = .ok (.aload_n 0, 1) := by decide +kernel
theorem dX0_init_1 : decode cX0_init 1 = .ok (.invokespecial 1, 3) := by decide +kernel
theorem dX0_init_4 : decode cX0_init 4 = .ok (.aload_n 0, 1) := by decide +kernel
theorem dX0_init_5 : decode cX0_init 5 = .ok (.bipush 12, 2) := by decide +kernel
theorem dX0_init_7 : decode cX0_init 7 = .ok (.newarray .boolean, 2) := by decide +kernel
theorem dX0_init_9 : decode cX0_init 9 = .ok (.putfield 7, 3) := by decide +kernel
theorem dX0_init_12 : decode cX0_init 12 = .ok (.aload_n 0, 1) := by decide +kernel
theorem dX0_init_13 : decode cX0_init 13 = .ok (.bipush 12, 2) := by decide +kernel
theorem dX0_init_15 : decode cX0_init 15 = .ok (.newarray .int, 2) := by decide +kernel
theorem dX0_init_17 : decode cX0_init 17 = .ok (.putfield 13, 3) := by decide +kernel
theorem dX0_init_20 : decode cX0_init 20 = .ok (.aload_n 0, 1) := by decide +kernel
theorem dX0_init_21 : decode cX0_init 21 = .ok (.bipush 12, 2) := by decide +kernel
theorem dX0_init_23 : decode cX0_init 23 = .ok (.newarray .int, 2) := by decide +kernel
theorem dX0_init_25 : decode cX0_init 25 = .ok (.putfield 17, 3) := by decide +kernel
theorem dX0_init_28 : decode cX0_init 28 = .ok (.aload_n 0, 1) := by decide +kernel
theorem dX0_init_29 : decode cX0_init 29 = .ok (.bipush 72, 2) := by decide +kernel
theorem dX0_init_31 : decode cX0_init 31 = .ok (.newarray .int, 2) := by decide +kernel
theorem dX0_init_33 : decode cX0_init 33 = .ok (.putfield 20, 3) := by decide +kernel
theorem dX0_init_36 : decode cX0_init 36 = .ok (.aload_n 0, 1) := by decide +kernel
theorem dX0_init_37 : decode cX0_init 37 = .ok (.bipush 72, 2) := by decide +kernel
theorem dX0_init_39 : decode cX0_init 39 = .ok (.newarray .int, 2) := by decide +kernel
theorem dX0_init_41 : decode cX0_init 41 = .ok (.putfield 23, 3) := by decide +kernel
theorem dX0_init_44 : decode cX0_init 44 = .ok (.aload_n 0, 1) := by decide +kernel
theorem dX0_init_45 : decode cX0_init 45 = .ok (.bipush 72, 2) := by decide +kernel
theorem dX0_init_47 : decode cX0_init 47 = .ok (.newarray .int, 2) := by decide +kernel
theorem dX0_init_49 : decode cX0_init 49 = .ok (.putfield 26, 3) := by decide +kernel
theorem dX0_init_52 : decode cX0_init 52 = .ok (.aload_n 0, 1) := by decide +kernel
theorem dX0_init_53 : decode cX0_init 53 = .ok (.bipush 24, 2) := by decide +kernel
theorem dX0_init_55 : decode cX0_init 55 = .ok (.newarray .int, 2) := by decide +kernel
theorem dX0_init_57 : decode cX0_init 57 = .ok (.putfield 29, 3) := by decide +kernel
theorem dX0_init_60 : decode cX0_init 60 = .ok (.aload_n 0, 1) := by decide +kernel
theorem dX0_init_61 : decode cX0_init 61 = .ok (.bipush 24, 2) := by decide +kernel
theorem dX0_init_63 : decode cX0_init 63 = .ok (.newarray .int, 2) := by decide +kernel
theorem dX0_init_65 : decode cX0_init 65 = .ok (.putfield 32, 3) := by decide +kernel
theorem dX0_init_68 : decode cX0_init 68 = .ok (.aload_n 0, 1) := by decide +kernel
theorem dX0_init_69 : decode cX0_init 69 = .ok (.bipush 24, 2) := by decide +kernel
theorem dX0_init_71 : decode cX0_init 71 = .ok (.newarray .int, 2) := by decide +kernel
theorem dX0_init_73 : decode cX0_init 73 = .ok (.putfield 35, 3) := by decide +kernel
theorem dX0_init_76 : decode cX0_init 76 = .ok (.aload_n 0, 1) := by decide +kernel
theorem dX0_init_77 : decode cX0_init 77 = .ok (.bipush 24, 2) := by decide +kernel
theorem dX0_init_79 : decode cX0_init 79 = .ok (.newarray .int, 2) := by decide +kernel
theorem dX0_init_81 : decode cX0_init 81 = .ok (.putfield 38, 3) := by decide +kernel
theorem dX0_init_84 : decode cX0_init 84 = .ok (.aload_n 0, 1) := by decide +kernel
theorem dX0_init_85 : decode cX0_init 85 = .ok (.bipush 12, 2) := by decide +kernel
theorem dX0_init_87 : decode cX0_init 87 = .ok (.newarray .int, 2) := by decide +kernel
theorem dX0_init_89 : decode cX0_init 89 = .ok (.putfield 41, 3) := by decide +kernel
theorem dX0_init_92 : decode cX0_init 92 = .ok (.aload_n 0, 1) := by decide +kernel
theorem dX0_init_93 : decode cX0_init 93 = .ok (.bipush 12, 2) := by decide +kernel
theorem dX0_init_95 : decode cX0_init 95 = .ok (.newarray .int, 2) := by decide +kernel
theorem dX0_init_97 : decode cX0_init 97 = .ok (.putfield 44, 3) := by decide +kernel
theorem dX0_init_100 : decode cX0_init 100 = .ok (.aload_n 0, 1) := by decide +kernel
theorem dX0_init_101 : decode cX0_init 101 = .ok (.iconst (-1), 1) := by decide +kernel
theorem dX0_init_102 : decode cX0_init 102 = .ok (.putfield 47, 3) := by decide +kernel
theorem dX0_init_105 : decode cX0_init 105 = .ok (.return_, 1) := by decide +kernel
abbrev cX0_create : ByteArray := prog_1_method_9_code
def yX0_create : MethodName := ⟨RX0, "create", "(I)I"⟩
theorem dX0_create_0 : decode cX0_create 0 = .ok (.iload_n 1, 1) := by decide +kernel
theorem dX0_create_1 : decode cX0_create 1 = .ok (.ifCond .lt 9, 3) := by decide +kernel
theorem dX0_create_4 : decode cX0_create 4 = .ok (.iload_n 1, 1) := by decide +kernel
theorem dX0_create_5 : decode cX0_create 5 = .ok (.bipush 6, 2) := by decide +kernel
theorem dX0_create_7 : decode cX0_create 7 = .ok (.if_icmp .le 6, 3) := by decide +kernel
theorem dX0_create_10 : decode cX0_create 10 = .ok (.bipush (-4), 2) := by decide +kernel
theorem dX0_create_12 : decode cX0_create 12 = .ok (.ireturn, 1) := by decide +kernel
theorem dX0_create_13 : decode cX0_create 13 = .ok (.iconst 0, 1) := by decide +kernel
theorem dX0_create_14 : decode cX0_create 14 = .ok (.istore_n 2, 1) := by decide +kernel
theorem dX0_create_15 : decode cX0_create 15 = .ok (.iload_n 2, 1) := by decide +kernel
theorem dX0_create_16 : decode cX0_create 16 = .ok (.bipush 12, 2) := by decide +kernel
theorem dX0_create_18 : decode cX0_create 18 = .ok (.if_icmp .ge 18, 3) := by decide +kernel
theorem dX0_create_21 : decode cX0_create 21 = .ok (.aload_n 0, 1) := by decide +kernel
theorem dX0_create_22 : decode cX0_create 22 = .ok (.getfield 7, 3) := by decide +kernel
theorem dX0_create_25 : decode cX0_create 25 = .ok (.iload_n 2, 1) := by decide +kernel
theorem dX0_create_26 : decode cX0_create 26 = .ok (.baload, 1) := by decide +kernel
theorem dX0_create_27 : decode cX0_create 27 = .ok (.ifCond .eq 9, 3) := by decide +kernel
theorem dX0_create_30 : decode cX0_create 30 = .ok (.iinc 2 1, 3) := by decide +kernel
theorem dX0_create_33 : decode cX0_create 33 = .ok (.goto (-18), 3) := by decide +kernel
theorem dX0_create_36 : decode cX0_create 36 = .ok (.iload_n 2, 1) := by decide +kernel
theorem dX0_create_37 : decode cX0_create 37 = .ok (.bipush 12, 2) := by decide +kernel
theorem dX0_create_39 : decode cX0_create 39 = .ok (.if_icmp .ne 6, 3) := by decide +kernel
theorem dX0_create_42 : decode cX0_create 42 = .ok (.bipush (-3), 2) := by decide +kernel
theorem dX0_create_44 : decode cX0_create 44 = .ok (.ireturn, 1) := by decide +kernel
theorem dX0_create_45 : decode cX0_create 45 = .ok (.aload_n 0, 1) := by decide +kernel
theorem dX0_create_46 : decode cX0_create 46 = .ok (.getfield 7, 3) := by decide +kernel
theorem dX0_create_49 : decode cX0_create 49 = .ok (.iload_n 2, 1) := by decide +kernel
theorem dX0_create_50 : decode cX0_create 50 = .ok (.iconst 1, 1) := by decide +kernel
theorem dX0_create_51 : decode cX0_create 51 = .ok (.bastore, 1) := by decide +kernel
theorem dX0_create_52 : decode cX0_create 52 = .ok (.aload_n 0, 1) := by decide +kernel
theorem dX0_create_53 : decode cX0_create 53 = .ok (.getfield 13, 3) := by decide +kernel
theorem dX0_create_56 : decode cX0_create 56 = .ok (.iload_n 2, 1) := by decide +kernel
theorem dX0_create_57 : decode cX0_create 57 = .ok (.iload_n 1, 1) := by decide +kernel
theorem dX0_create_58 : decode cX0_create 58 = .ok (.iastore, 1) := by decide +kernel
theorem dX0_create_59 : decode cX0_create 59 = .ok (.aload_n 0, 1) := by decide +kernel
theorem dX0_create_60 : decode cX0_create 60 = .ok (.getfield 17, 3) := by decide +kernel
theorem dX0_create_63 : decode cX0_create 63 = .ok (.iload_n 2, 1) := by decide +kernel
theorem dX0_create_64 : decode cX0_create 64 = .ok (.iconst 0, 1) := by decide +kernel
theorem dX0_create_65 : decode cX0_create 65 = .ok (.iastore, 1) := by decide +kernel
theorem dX0_create_66 : decode cX0_create 66 = .ok (.aload_n 0, 1) := by decide +kernel
theorem dX0_create_67 : decode cX0_create 67 = .ok (.iload_n 2, 1) := by decide +kernel
theorem dX0_create_68 : decode cX0_create 68 = .ok (.invokevirtual 66, 3) := by decide +kernel
theorem dX0_create_71 : decode cX0_create 71 = .ok (.iload_n 2, 1) := by decide +kernel
theorem dX0_create_72 : decode cX0_create 72 = .ok (.ireturn, 1) := by decide +kernel
abbrev cX0_file : ByteArray := prog_1_method_8_code
def yX0_file : MethodName := ⟨RX0, "file", "(I)V"⟩
theorem dX0_file_0 : decode cX0_file 0 = .ok (.aload_n 0, 1) := by decide +kernel
theorem dX0_file_1 : decode cX0_file 1 = .ok (.iload_n 1, 1) := by decide +kernel
theorem dX0_file_2 : decode cX0_file 2 = .ok (.iconst 1, 1) := by decide +kernel
theorem dX0_file_3 : decode cX0_file 3 = .ok (.invokevirtual 54, 3) := by decide +kernel
theorem dX0_file_6 : decode cX0_file 6 = .ok (.aload_n 0, 1) := by decide +kernel
theorem dX0_file_7 : decode cX0_file 7 = .ok (.iload_n 1, 1) := by decide +kernel
theorem dX0_file_8 : decode cX0_file 8 = .ok (.invokevirtual 62, 3) := by decide +kernel
theorem dX0_file_11 : decode cX0_file 11 = .ok (.istore_n 2, 1) := by decide +kernel
theorem dX0_file_12 : decode cX0_file 12 = .ok (.iload_n 2, 1) := by decide +kernel
theorem dX0_file_13 : decode cX0_file 13 = .ok (.ifCond .lt 16, 3) := by decide +kernel
theorem dX0_file_16 : decode cX0_file 16 = .ok (.aload_n 0, 1) := by decide +kernel
theorem dX0_file_17 : decode cX0_file 17 = .ok (.getfield 29, 3) := by decide +kernel
theorem dX0_file_20 : decode cX0_file 20 = .ok (.iload_n 2, 1) := by decide +kernel
theorem dX0_file_21 : decode cX0_file 21 = .ok (.dup2, 1) := by decide +kernel
theorem dX0_file_22 : decode cX0_file 22 = .ok (.iaload, 1) := by decide +kernel
theorem dX0_file_23 : decode cX0_file 23 = .ok (.iconst 1, 1) := by decide +kernel
theorem dX0_file_24 : decode cX0_file 24 = .ok (.iload_n 1, 1) := by decide +kernel
theorem dX0_file_25 : decode cX0_file 25 = .ok (.ishl, 1) := by decide +kernel
theorem dX0_file_26 : decode cX0_file 26 = .ok (.ior, 1) := by decide +kernel
theorem dX0_file_27 : decode cX0_file 27 = .ok (.iastore, 1) := by decide +kernel
theorem dX0_file_28 : decode cX0_file 28 = .ok (.return_, 1) := by decide +kernel
theorem dX0_file_29 : decode cX0_file 29 = .ok (.aload_n 0, 1) := by decide +kernel
theorem dX0_file_30 : decode cX0_file 30 = .ok (.getfield 13, 3) := by decide +kernel
theorem dX0_file_33 : decode cX0_file 33 = .ok (.iload_n 1, 1) := by decide +kernel
theorem dX0_file_34 : decode cX0_file 34 = .ok (.iaload, 1) := by decide +kernel
theorem dX0_file_35 : decode cX0_file 35 = .ok (.ifCond .ne 16, 3) := by decide +kernel
theorem dX0_file_38 : decode cX0_file 38 = .ok (.aload_n 0, 1) := by decide +kernel
theorem dX0_file_39 : decode cX0_file 39 = .ok (.dup, 1) := by decide +kernel
theorem dX0_file_40 : decode cX0_file 40 = .ok (.getfield 51, 3) := by decide +kernel
theorem dX0_file_43 : decode cX0_file 43 = .ok (.iconst 1, 1) := by decide +kernel
theorem dX0_file_44 : decode cX0_file 44 = .ok (.iload_n 1, 1) := by decide +kernel
theorem dX0_file_45 : decode cX0_file 45 = .ok (.ishl, 1) := by decide +kernel
theorem dX0_file_46 : decode cX0_file 46 = .ok (.ior, 1) := by decide +kernel
theorem dX0_file_47 : decode cX0_file 47 = .ok (.putfield 51, 3) := by decide +kernel
theorem dX0_file_50 : decode cX0_file 50 = .ok (.return_, 1) := by decide +kernel
theorem dX0_file_51 : decode cX0_file 51 = .ok (.iload_n 1, 1) := by decide +kernel
theorem dX0_file_52 : decode cX0_file 52 = .ok (.bipush 6, 2) := by decide +kernel
theorem dX0_file_54 : decode cX0_file 54 = .ok (.imul, 1) := by decide +kernel
theorem dX0_file_55 : decode cX0_file 55 = .ok (.istore_n 3, 1) := by decide +kernel
theorem dX0_file_56 : decode cX0_file 56 = .ok (.iload_n 3, 1) := by decide +kernel
theorem dX0_file_57 : decode cX0_file 57 = .ok (.iload_n 1, 1) := by decide +kernel
theorem dX0_file_58 : decode cX0_file 58 = .ok (.bipush 6, 2) := by decide +kernel
theorem dX0_file_60 : decode cX0_file 60 = .ok (.imul, 1) := by decide +kernel
theorem dX0_file_61 : decode cX0_file 61 = .ok (.aload_n 0, 1) := by decide +kernel
theorem dX0_file_62 : decode cX0_file 62 = .ok (.getfield 17, 3) := by decide +kernel
theorem dX0_file_65 : decode cX0_file 65 = .ok (.iload_n 1, 1) := by decide +kernel
theorem dX0_file_66 : decode cX0_file 66 = .ok (.iaload, 1) := by decide +kernel
theorem dX0_file_67 : decode cX0_file 67 = .ok (.iadd, 1) := by decide +kernel
theorem dX0_file_68 : decode cX0_file 68 = .ok (.if_icmp .ge 36, 3) := by decide +kernel
theorem dX0_file_71 : decode cX0_file 71 = .ok (.aload_n 0, 1) := by decide +kernel
theorem dX0_file_72 : decode cX0_file 72 = .ok (.getfield 20, 3) := by decide +kernel
theorem dX0_file_75 : decode cX0_file 75 = .ok (.iload_n 3, 1) := by decide +kernel
theorem dX0_file_76 : decode cX0_file 76 = .ok (.iaload, 1) := by decide +kernel
theorem dX0_file_77 : decode cX0_file 77 = .ok (.iconst 2, 1) := by decide +kernel
theorem dX0_file_78 : decode cX0_file 78 = .ok (.if_icmp .ne 20, 3) := by decide +kernel
theorem dX0_file_81 : decode cX0_file 81 = .ok (.aload_n 0, 1) := by decide +kernel
theorem dX0_file_82 : decode cX0_file 82 = .ok (.getfield 29, 3) := by decide +kernel
theorem dX0_file_85 : decode cX0_file 85 = .ok (.aload_n 0, 1) := by decide +kernel
theorem dX0_file_86 : decode cX0_file 86 = .ok (.getfield 23, 3) := by decide +kernel
theorem dX0_file_89 : decode cX0_file 89 = .ok (.iload_n 3, 1) := by decide +kernel
theorem dX0_file_90 : decode cX0_file 90 = .ok (.iaload, 1) := by decide +kernel
theorem dX0_file_91 : decode cX0_file 91 = .ok (.dup2, 1) := by decide +kernel
theorem dX0_file_92 : decode cX0_file 92 = .ok (.iaload, 1) := by decide +kernel
theorem dX0_file_93 : decode cX0_file 93 = .ok (.iconst 1, 1) := by decide +kernel
theorem dX0_file_94 : decode cX0_file 94 = .ok (.iload_n 1, 1) := by decide +kernel
theorem dX0_file_95 : decode cX0_file 95 = .ok (.ishl, 1) := by decide +kernel
theorem dX0_file_96 : decode cX0_file 96 = .ok (.ior, 1) := by decide +kernel
theorem dX0_file_97 : decode cX0_file 97 = .ok (.iastore, 1) := by decide +kernel
theorem dX0_file_98 : decode cX0_file 98 = .ok (.iinc 3 1, 3) := by decide +kernel
theorem dX0_file_101 : decode cX0_file 101 = .ok (.goto (-45), 3) := by decide +kernel
theorem dX0_file_104 : decode cX0_file 104 = .ok (.return_, 1) := by decide +kernel
abbrev cX0_count : ByteArray := prog_1_method_6_code
def yX0_count : MethodName := ⟨RX0, "count", "(II)V"⟩
theorem dX0_count_0 : decode cX0_count 0 = .ok (.iload_n 1, 1) := by decide +kernel
theorem dX0_count_1 : decode cX0_count 1 = .ok (.bipush 6, 2) := by decide +kernel
theorem dX0_count_3 : decode cX0_count 3 = .ok (.imul, 1) := by decide +kernel
theorem dX0_count_4 : decode cX0_count 4 = .ok (.istore_n 3, 1) := by decide +kernel
theorem dX0_count_5 : decode cX0_count 5 = .ok (.iload_n 3, 1) := by decide +kernel
theorem dX0_count_6 : decode cX0_count 6 = .ok (.iload_n 1, 1) := by decide +kernel
theorem dX0_count_7 : decode cX0_count 7 = .ok (.bipush 6, 2) := by decide +kernel
theorem dX0_count_9 : decode cX0_count 9 = .ok (.imul, 1) := by decide +kernel
theorem dX0_count_10 : decode cX0_count 10 = .ok (.aload_n 0, 1) := by decide +kernel
theorem dX0_count_11 : decode cX0_count 11 = .ok (.getfield 17, 3) := by decide +kernel
theorem dX0_count_14 : decode cX0_count 14 = .ok (.iload_n 1, 1) := by decide +kernel
theorem dX0_count_15 : decode cX0_count 15 = .ok (.iaload, 1) := by decide +kernel
theorem dX0_count_16 : decode cX0_count 16 = .ok (.iadd, 1) := by decide +kernel
theorem dX0_count_17 : decode cX0_count 17 = .ok (.if_icmp .ge 32, 3) := by decide +kernel
theorem dX0_count_20 : decode cX0_count 20 = .ok (.aload_n 0, 1) := by decide +kernel
theorem dX0_count_21 : decode cX0_count 21 = .ok (.iload_n 3, 1) := by decide +kernel
theorem dX0_count_22 : decode cX0_count 22 = .ok (.invokevirtual 58, 3) := by decide +kernel
theorem dX0_count_25 : decode cX0_count 25 = .ok (.ifCond .eq 18, 3) := by decide +kernel
theorem dX0_count_28 : decode cX0_count 28 = .ok (.aload_n 0, 1) := by decide +kernel
theorem dX0_count_29 : decode cX0_count 29 = .ok (.getfield 32, 3) := by decide +kernel
theorem dX0_count_32 : decode cX0_count 32 = .ok (.aload_n 0, 1) := by decide +kernel
theorem dX0_count_33 : decode cX0_count 33 = .ok (.getfield 23, 3) := by decide +kernel
theorem dX0_count_36 : decode cX0_count 36 = .ok (.iload_n 3, 1) := by decide +kernel
theorem dX0_count_37 : decode cX0_count 37 = .ok (.iaload, 1) := by decide +kernel
theorem dX0_count_38 : decode cX0_count 38 = .ok (.dup2, 1) := by decide +kernel
theorem dX0_count_39 : decode cX0_count 39 = .ok (.iaload, 1) := by decide +kernel
theorem dX0_count_40 : decode cX0_count 40 = .ok (.iload_n 2, 1) := by decide +kernel
theorem dX0_count_41 : decode cX0_count 41 = .ok (.iadd, 1) := by decide +kernel
theorem dX0_count_42 : decode cX0_count 42 = .ok (.iastore, 1) := by decide +kernel
theorem dX0_count_43 : decode cX0_count 43 = .ok (.iinc 3 1, 3) := by decide +kernel
theorem dX0_count_46 : decode cX0_count 46 = .ok (.goto (-41), 3) := by decide +kernel
theorem dX0_count_49 : decode cX0_count 49 = .ok (.return_, 1) := by decide +kernel
abbrev cX0_sure : ByteArray := prog_1_method_4_code
def yX0_sure : MethodName := ⟨RX0, "sure", "(I)Z"⟩
theorem dX0_sure_0 : decode cX0_sure 0 = .ok (.aload_n 0, 1) := by decide +kernel
theorem dX0_sure_1 : decode cX0_sure 1 = .ok (.getfield 20, 3) := by decide +kernel
theorem dX0_sure_4 : decode cX0_sure 4 = .ok (.iload_n 1, 1) := by decide +kernel
theorem dX0_sure_5 : decode cX0_sure 5 = .ok (.iaload, 1) := by decide +kernel
theorem dX0_sure_6 : decode cX0_sure 6 = .ok (.ifCond .eq 13, 3) := by decide +kernel
theorem dX0_sure_9 : decode cX0_sure 9 = .ok (.aload_n 0, 1) := by decide +kernel
theorem dX0_sure_10 : decode cX0_sure 10 = .ok (.getfield 20, 3) := by decide +kernel
theorem dX0_sure_13 : decode cX0_sure 13 = .ok (.iload_n 1, 1) := by decide +kernel
theorem dX0_sure_14 : decode cX0_sure 14 = .ok (.iaload, 1) := by decide +kernel
theorem dX0_sure_15 : decode cX0_sure 15 = .ok (.iconst 3, 1) := by decide +kernel
theorem dX0_sure_16 : decode cX0_sure 16 = .ok (.if_icmp .ne 7, 3) := by decide +kernel
theorem dX0_sure_19 : decode cX0_sure 19 = .ok (.iconst 1, 1) := by decide +kernel
theorem dX0_sure_20 : decode cX0_sure 20 = .ok (.goto 4, 3) := by decide +kernel
theorem dX0_sure_23 : decode cX0_sure 23 = .ok (.iconst 0, 1) := by decide +kernel
theorem dX0_sure_24 : decode cX0_sure 24 = .ok (.ireturn, 1) := by decide +kernel
abbrev cX0_rarest : ByteArray := prog_1_method_7_code
def yX0_rarest : MethodName := ⟨RX0, "rarest", "(I)I"⟩
theorem dX0_rarest_0 : decode cX0_rarest 0 = .ok (.iconst (-1), 1) := by decide +kernel
theorem dX0_rarest_1 : decode cX0_rarest 1 = .ok (.istore_n 2, 1) := by decide +kernel
theorem dX0_rarest_2 : decode cX0_rarest 2 = .ok (.iload_n 1, 1) := by decide +kernel
theorem dX0_rarest_3 : decode cX0_rarest 3 = .ok (.bipush 6, 2) := by decide +kernel
theorem dX0_rarest_5 : decode cX0_rarest 5 = .ok (.imul, 1) := by decide +kernel
theorem dX0_rarest_6 : decode cX0_rarest 6 = .ok (.istore_n 3, 1) := by decide +kernel
theorem dX0_rarest_7 : decode cX0_rarest 7 = .ok (.iload_n 3, 1) := by decide +kernel
theorem dX0_rarest_8 : decode cX0_rarest 8 = .ok (.iload_n 1, 1) := by decide +kernel
theorem dX0_rarest_9 : decode cX0_rarest 9 = .ok (.bipush 6, 2) := by decide +kernel
theorem dX0_rarest_11 : decode cX0_rarest 11 = .ok (.imul, 1) := by decide +kernel
theorem dX0_rarest_12 : decode cX0_rarest 12 = .ok (.aload_n 0, 1) := by decide +kernel
theorem dX0_rarest_13 : decode cX0_rarest 13 = .ok (.getfield 17, 3) := by decide +kernel
theorem dX0_rarest_16 : decode cX0_rarest 16 = .ok (.iload_n 1, 1) := by decide +kernel
theorem dX0_rarest_17 : decode cX0_rarest 17 = .ok (.iaload, 1) := by decide +kernel
theorem dX0_rarest_18 : decode cX0_rarest 18 = .ok (.iadd, 1) := by decide +kernel
theorem dX0_rarest_19 : decode cX0_rarest 19 = .ok (.if_icmp .ge 48, 3) := by decide +kernel
theorem dX0_rarest_22 : decode cX0_rarest 22 = .ok (.aload_n 0, 1) := by decide +kernel
theorem dX0_rarest_23 : decode cX0_rarest 23 = .ok (.iload_n 3, 1) := by decide +kernel
theorem dX0_rarest_24 : decode cX0_rarest 24 = .ok (.invokevirtual 58, 3) := by decide +kernel
theorem dX0_rarest_27 : decode cX0_rarest 27 = .ok (.ifCond .eq 34, 3) := by decide +kernel
theorem dX0_rarest_30 : decode cX0_rarest 30 = .ok (.iload_n 2, 1) := by decide +kernel
theorem dX0_rarest_31 : decode cX0_rarest 31 = .ok (.ifCond .lt 23, 3) := by decide +kernel
theorem dX0_rarest_34 : decode cX0_rarest 34 = .ok (.aload_n 0, 1) := by decide +kernel
theorem dX0_rarest_35 : decode cX0_rarest 35 = .ok (.getfield 32, 3) := by decide +kernel
theorem dX0_rarest_38 : decode cX0_rarest 38 = .ok (.aload_n 0, 1) := by decide +kernel
theorem dX0_rarest_39 : decode cX0_rarest 39 = .ok (.getfield 23, 3) := by decide +kernel
theorem dX0_rarest_42 : decode cX0_rarest 42 = .ok (.iload_n 3, 1) := by decide +kernel
theorem dX0_rarest_43 : decode cX0_rarest 43 = .ok (.iaload, 1) := by decide +kernel
theorem dX0_rarest_44 : decode cX0_rarest 44 = .ok (.iaload, 1) := by decide +kernel
theorem dX0_rarest_45 : decode cX0_rarest 45 = .ok (.aload_n 0, 1) := by decide +kernel
theorem dX0_rarest_46 : decode cX0_rarest 46 = .ok (.getfield 32, 3) := by decide +kernel
theorem dX0_rarest_49 : decode cX0_rarest 49 = .ok (.iload_n 2, 1) := by decide +kernel
theorem dX0_rarest_50 : decode cX0_rarest 50 = .ok (.iaload, 1) := by decide +kernel
theorem dX0_rarest_51 : decode cX0_rarest 51 = .ok (.if_icmp .ge 10, 3) := by decide +kernel
theorem dX0_rarest_54 : decode cX0_rarest 54 = .ok (.aload_n 0, 1) := by decide +kernel
theorem dX0_rarest_55 : decode cX0_rarest 55 = .ok (.getfield 23, 3) := by decide +kernel
theorem dX0_rarest_58 : decode cX0_rarest 58 = .ok (.iload_n 3, 1) := by decide +kernel
theorem dX0_rarest_59 : decode cX0_rarest 59 = .ok (.iaload, 1) := by decide +kernel
theorem dX0_rarest_60 : decode cX0_rarest 60 = .ok (.istore_n 2, 1) := by decide +kernel
theorem dX0_rarest_61 : decode cX0_rarest 61 = .ok (.iinc 3 1, 3) := by decide +kernel
theorem dX0_rarest_64 : decode cX0_rarest 64 = .ok (.goto (-57), 3) := by decide +kernel
theorem dX0_rarest_67 : decode cX0_rarest 67 = .ok (.iload_n 2, 1) := by decide +kernel
theorem dX0_rarest_68 : decode cX0_rarest 68 = .ok (.ireturn, 1) := by decide +kernel
abbrev cX0_must : ByteArray := prog_1_method_12_code
def yX0_must : MethodName := ⟨RX0, "must", "(II)I"⟩
theorem dX0_must_0 : decode cX0_must 0 = .ok (.aload_n 0, 1) := by decide +kernel
theorem dX0_must_1 : decode cX0_must 1 = .ok (.iload_n 1, 1) := by decide +kernel
theorem dX0_must_2 : decode cX0_must 2 = .ok (.iconst 0, 1) := by decide +kernel
theorem dX0_must_3 : decode cX0_must 3 = .ok (.iload_n 2, 1) := by decide +kernel
theorem dX0_must_4 : decode cX0_must 4 = .ok (.invokevirtual 83, 3) := by decide +kernel
theorem dX0_must_7 : decode cX0_must 7 = .ok (.ireturn, 1) := by decide +kernel
abbrev cX0_addTerm : ByteArray := prog_1_method_11_code
def yX0_addTerm : MethodName := ⟨RX0, "addTerm", "(III)I"⟩
theorem dX0_addTerm_0 : decode cX0_addTerm 0 = .ok (.aload_n 0, 1) := by decide +kernel
theorem dX0_addTerm_1 : decode cX0_addTerm 1 = .ok (.iload_n 1, 1) := by decide +kernel
theorem dX0_addTerm_2 : decode cX0_addTerm 2 = .ok (.invokevirtual 73, 3) := by decide +kernel
theorem dX0_addTerm_5 : decode cX0_addTerm 5 = .ok (.ifCond .eq 5, 3) := by decide +kernel
theorem dX0_addTerm_8 : decode cX0_addTerm 8 = .ok (.iconst (-1), 1) := by decide +kernel
theorem dX0_addTerm_9 : decode cX0_addTerm 9 = .ok (.ireturn, 1) := by decide +kernel
theorem dX0_addTerm_10 : decode cX0_addTerm 10 = .ok (.iload_n 3, 1) := by decide +kernel
theorem dX0_addTerm_11 : decode cX0_addTerm 11 = .ok (.invokestatic 76, 3) := by decide +kernel
theorem dX0_addTerm_14 : decode cX0_addTerm 14 = .ok (.ifCond .eq 6, 3) := by decide +kernel
theorem dX0_addTerm_17 : decode cX0_addTerm 17 = .ok (.bipush (-2), 2) := by decide +kernel
theorem dX0_addTerm_19 : decode cX0_addTerm 19 = .ok (.ireturn, 1) := by decide +kernel
theorem dX0_addTerm_20 : decode cX0_addTerm 20 = .ok (.aload_n 0, 1) := by decide +kernel
theorem dX0_addTerm_21 : decode cX0_addTerm 21 = .ok (.iload_n 1, 1) := by decide +kernel
theorem dX0_addTerm_22 : decode cX0_addTerm 22 = .ok (.iload_n 2, 1) := by decide +kernel
theorem dX0_addTerm_23 : decode cX0_addTerm 23 = .ok (.iload_n 3, 1) := by decide +kernel
theorem dX0_addTerm_24 : decode cX0_addTerm 24 = .ok (.iconst 0, 1) := by decide +kernel
theorem dX0_addTerm_25 : decode cX0_addTerm 25 = .ok (.invokevirtual 79, 3) := by decide +kernel
theorem dX0_addTerm_28 : decode cX0_addTerm 28 = .ok (.ireturn, 1) := by decide +kernel
abbrev cX0_noQuery : ByteArray := prog_1_method_2_code
def yX0_noQuery : MethodName := ⟨RX0, "noQuery", "(I)Z"⟩
theorem dX0_noQuery_0 : decode cX0_noQuery 0 = .ok (.iload_n 1, 1) := by decide +kernel
theorem dX0_noQuery_1 : decode cX0_noQuery 1 = .ok (.ifCond .lt 18, 3) := by decide +kernel
theorem dX0_noQuery_4 : decode cX0_noQuery 4 = .ok (.iload_n 1, 1) := by decide +kernel
theorem dX0_noQuery_5 : decode cX0_noQuery 5 = .ok (.bipush 12, 2) := by decide +kernel
theorem dX0_noQuery_7 : decode cX0_noQuery 7 = .ok (.if_icmp .ge 12, 3) := by decide +kernel
theorem dX0_noQuery_10 : decode cX0_noQuery 10 = .ok (.aload_n 0, 1) := by decide +kernel
theorem dX0_noQuery_11 : decode cX0_noQuery 11 = .ok (.getfield 7, 3) := by decide +kernel
theorem dX0_noQuery_14 : decode cX0_noQuery 14 = .ok (.iload_n 1, 1) := by decide +kernel
theorem dX0_noQuery_15 : decode cX0_noQuery 15 = .ok (.baload, 1) := by decide +kernel
theorem dX0_noQuery_16 : decode cX0_noQuery 16 = .ok (.ifCond .ne 7, 3) := by decide +kernel
theorem dX0_noQuery_19 : decode cX0_noQuery 19 = .ok (.iconst 1, 1) := by decide +kernel
theorem dX0_noQuery_20 : decode cX0_noQuery 20 = .ok (.goto 4, 3) := by decide +kernel
theorem dX0_noQuery_23 : decode cX0_noQuery 23 = .ok (.iconst 0, 1) := by decide +kernel
theorem dX0_noQuery_24 : decode cX0_noQuery 24 = .ok (.ireturn, 1) := by decide +kernel
abbrev cX0_badTerm : ByteArray := prog_1_method_3_code
def yX0_badTerm : MethodName := ⟨RX0, "badTerm", "(I)Z"⟩
theorem dX0_badTerm_0 : decode cX0_badTerm 0 = .ok (.iload_n 0, 1) := by decide +kernel
theorem dX0_badTerm_1 : decode cX0_badTerm 1 = .ok (.ifCond .lt 9, 3) := by decide +kernel
theorem dX0_badTerm_4 : decode cX0_badTerm 4 = .ok (.iload_n 0, 1) := by decide +kernel
theorem dX0_badTerm_5 : decode cX0_badTerm 5 = .ok (.bipush 24, 2) := by decide +kernel
theorem dX0_badTerm_7 : decode cX0_badTerm 7 = .ok (.if_icmp .lt 7, 3) := by decide +kernel
theorem dX0_badTerm_10 : decode cX0_badTerm 10 = .ok (.iconst 1, 1) := by decide +kernel
theorem dX0_badTerm_11 : decode cX0_badTerm 11 = .ok (.goto 4, 3) := by decide +kernel
theorem dX0_badTerm_14 : decode cX0_badTerm 14 = .ok (.iconst 0, 1) := by decide +kernel
theorem dX0_badTerm_15 : decode cX0_badTerm 15 = .ok (.ireturn, 1) := by decide +kernel
abbrev cX0_add : ByteArray := prog_1_method_10_code
def yX0_add : MethodName := ⟨RX0, "add", "(IIII)I"⟩
theorem dX0_add_0 : decode cX0_add 0 = .ok (.aload_n 0, 1) := by decide +kernel
theorem dX0_add_1 : decode cX0_add 1 = .ok (.getfield 17, 3) := by decide +kernel
theorem dX0_add_4 : decode cX0_add 4 = .ok (.iload_n 1, 1) := by decide +kernel
theorem dX0_add_5 : decode cX0_add 5 = .ok (.iaload, 1) := by decide +kernel
theorem dX0_add_6 : decode cX0_add 6 = .ok (.bipush 6, 2) := by decide +kernel
theorem dX0_add_8 : decode cX0_add 8 = .ok (.if_icmp .lt 6, 3) := by decide +kernel
theorem dX0_add_11 : decode cX0_add 11 = .ok (.bipush (-3), 2) := by decide +kernel
theorem dX0_add_13 : decode cX0_add 13 = .ok (.ireturn, 1) := by decide +kernel
theorem dX0_add_14 : decode cX0_add 14 = .ok (.aload_n 0, 1) := by decide +kernel
theorem dX0_add_15 : decode cX0_add 15 = .ok (.iload_n 1, 1) := by decide +kernel
theorem dX0_add_16 : decode cX0_add 16 = .ok (.invokevirtual 70, 3) := by decide +kernel
theorem dX0_add_19 : decode cX0_add 19 = .ok (.iload_n 1, 1) := by decide +kernel
theorem dX0_add_20 : decode cX0_add 20 = .ok (.bipush 6, 2) := by decide +kernel
theorem dX0_add_22 : decode cX0_add 22 = .ok (.imul, 1) := by decide +kernel
theorem dX0_add_23 : decode cX0_add 23 = .ok (.aload_n 0, 1) := by decide +kernel
theorem dX0_add_24 : decode cX0_add 24 = .ok (.getfield 17, 3) := by decide +kernel
theorem dX0_add_27 : decode cX0_add 27 = .ok (.iload_n 1, 1) := by decide +kernel
theorem dX0_add_28 : decode cX0_add 28 = .ok (.iaload, 1) := by decide +kernel
theorem dX0_add_29 : decode cX0_add 29 = .ok (.iadd, 1) := by decide +kernel
theorem dX0_add_30 : decode cX0_add 30 = .ok (.istore 5, 2) := by decide +kernel
theorem dX0_add_32 : decode cX0_add 32 = .ok (.aload_n 0, 1) := by decide +kernel
theorem dX0_add_33 : decode cX0_add 33 = .ok (.getfield 20, 3) := by decide +kernel
theorem dX0_add_36 : decode cX0_add 36 = .ok (.iload 5, 2) := by decide +kernel
theorem dX0_add_38 : decode cX0_add 38 = .ok (.iload_n 2, 1) := by decide +kernel
theorem dX0_add_39 : decode cX0_add 39 = .ok (.iastore, 1) := by decide +kernel
theorem dX0_add_40 : decode cX0_add 40 = .ok (.aload_n 0, 1) := by decide +kernel
theorem dX0_add_41 : decode cX0_add 41 = .ok (.getfield 23, 3) := by decide +kernel
theorem dX0_add_44 : decode cX0_add 44 = .ok (.iload 5, 2) := by decide +kernel
theorem dX0_add_46 : decode cX0_add 46 = .ok (.iload_n 3, 1) := by decide +kernel
theorem dX0_add_47 : decode cX0_add 47 = .ok (.iastore, 1) := by decide +kernel
theorem dX0_add_48 : decode cX0_add 48 = .ok (.aload_n 0, 1) := by decide +kernel
theorem dX0_add_49 : decode cX0_add 49 = .ok (.getfield 26, 3) := by decide +kernel
theorem dX0_add_52 : decode cX0_add 52 = .ok (.iload 5, 2) := by decide +kernel
theorem dX0_add_54 : decode cX0_add 54 = .ok (.iload 4, 2) := by decide +kernel
theorem dX0_add_56 : decode cX0_add 56 = .ok (.iastore, 1) := by decide +kernel
theorem dX0_add_57 : decode cX0_add 57 = .ok (.aload_n 0, 1) := by decide +kernel
theorem dX0_add_58 : decode cX0_add 58 = .ok (.getfield 17, 3) := by decide +kernel
theorem dX0_add_61 : decode cX0_add 61 = .ok (.iload_n 1, 1) := by decide +kernel
theorem dX0_add_62 : decode cX0_add 62 = .ok (.dup2, 1) := by decide +kernel
theorem dX0_add_63 : decode cX0_add 63 = .ok (.iaload, 1) := by decide +kernel
theorem dX0_add_64 : decode cX0_add 64 = .ok (.iconst 1, 1) := by decide +kernel
theorem dX0_add_65 : decode cX0_add 65 = .ok (.iadd, 1) := by decide +kernel
theorem dX0_add_66 : decode cX0_add 66 = .ok (.iastore, 1) := by decide +kernel
theorem dX0_add_67 : decode cX0_add 67 = .ok (.aload_n 0, 1) := by decide +kernel
theorem dX0_add_68 : decode cX0_add 68 = .ok (.iload_n 1, 1) := by decide +kernel
theorem dX0_add_69 : decode cX0_add 69 = .ok (.invokevirtual 66, 3) := by decide +kernel
theorem dX0_add_72 : decode cX0_add 72 = .ok (.aload_n 0, 1) := by decide +kernel
theorem dX0_add_73 : decode cX0_add 73 = .ok (.getfield 17, 3) := by decide +kernel
theorem dX0_add_76 : decode cX0_add 76 = .ok (.iload_n 1, 1) := by decide +kernel
theorem dX0_add_77 : decode cX0_add 77 = .ok (.iaload, 1) := by decide +kernel
theorem dX0_add_78 : decode cX0_add 78 = .ok (.ireturn, 1) := by decide +kernel
abbrev cX0_unfile : ByteArray := prog_1_method_5_code
def yX0_unfile : MethodName := ⟨RX0, "unfile", "(I)V"⟩
theorem dX0_unfile_0 : decode cX0_unfile 0 = .ok (.aload_n 0, 1) := by decide +kernel
theorem dX0_unfile_1 : decode cX0_unfile 1 = .ok (.dup, 1) := by decide +kernel
theorem dX0_unfile_2 : decode cX0_unfile 2 = .ok (.getfield 51, 3) := by decide +kernel
theorem dX0_unfile_5 : decode cX0_unfile 5 = .ok (.iconst 1, 1) := by decide +kernel
theorem dX0_unfile_6 : decode cX0_unfile 6 = .ok (.iload_n 1, 1) := by decide +kernel
theorem dX0_unfile_7 : decode cX0_unfile 7 = .ok (.ishl, 1) := by decide +kernel
theorem dX0_unfile_8 : decode cX0_unfile 8 = .ok (.iconst (-1), 1) := by decide +kernel
theorem dX0_unfile_9 : decode cX0_unfile 9 = .ok (.ixor, 1) := by decide +kernel
theorem dX0_unfile_10 : decode cX0_unfile 10 = .ok (.iand, 1) := by decide +kernel
theorem dX0_unfile_11 : decode cX0_unfile 11 = .ok (.putfield 51, 3) := by decide +kernel
theorem dX0_unfile_14 : decode cX0_unfile 14 = .ok (.iconst 0, 1) := by decide +kernel
theorem dX0_unfile_15 : decode cX0_unfile 15 = .ok (.istore_n 2, 1) := by decide +kernel
theorem dX0_unfile_16 : decode cX0_unfile 16 = .ok (.iload_n 2, 1) := by decide +kernel
theorem dX0_unfile_17 : decode cX0_unfile 17 = .ok (.bipush 24, 2) := by decide +kernel
theorem dX0_unfile_19 : decode cX0_unfile 19 = .ok (.if_icmp .ge 23, 3) := by decide +kernel
theorem dX0_unfile_22 : decode cX0_unfile 22 = .ok (.aload_n 0, 1) := by decide +kernel
theorem dX0_unfile_23 : decode cX0_unfile 23 = .ok (.getfield 29, 3) := by decide +kernel
theorem dX0_unfile_26 : decode cX0_unfile 26 = .ok (.iload_n 2, 1) := by decide +kernel
theorem dX0_unfile_27 : decode cX0_unfile 27 = .ok (.dup2, 1) := by decide +kernel
theorem dX0_unfile_28 : decode cX0_unfile 28 = .ok (.iaload, 1) := by decide +kernel
theorem dX0_unfile_29 : decode cX0_unfile 29 = .ok (.iconst 1, 1) := by decide +kernel
theorem dX0_unfile_30 : decode cX0_unfile 30 = .ok (.iload_n 1, 1) := by decide +kernel
theorem dX0_unfile_31 : decode cX0_unfile 31 = .ok (.ishl, 1) := by decide +kernel
theorem dX0_unfile_32 : decode cX0_unfile 32 = .ok (.iconst (-1), 1) := by decide +kernel
theorem dX0_unfile_33 : decode cX0_unfile 33 = .ok (.ixor, 1) := by decide +kernel
theorem dX0_unfile_34 : decode cX0_unfile 34 = .ok (.iand, 1) := by decide +kernel
theorem dX0_unfile_35 : decode cX0_unfile 35 = .ok (.iastore, 1) := by decide +kernel
theorem dX0_unfile_36 : decode cX0_unfile 36 = .ok (.iinc 2 1, 3) := by decide +kernel
theorem dX0_unfile_39 : decode cX0_unfile 39 = .ok (.goto (-23), 3) := by decide +kernel
theorem dX0_unfile_42 : decode cX0_unfile 42 = .ok (.aload_n 0, 1) := by decide +kernel
theorem dX0_unfile_43 : decode cX0_unfile 43 = .ok (.iload_n 1, 1) := by decide +kernel
theorem dX0_unfile_44 : decode cX0_unfile 44 = .ok (.iconst (-1), 1) := by decide +kernel
theorem dX0_unfile_45 : decode cX0_unfile 45 = .ok (.invokevirtual 54, 3) := by decide +kernel
theorem dX0_unfile_48 : decode cX0_unfile 48 = .ok (.return_, 1) := by decide +kernel
abbrev cX0_not : ByteArray := prog_1_method_13_code
def yX0_not : MethodName := ⟨RX0, "not", "(II)I"⟩
theorem dX0_not_0 : decode cX0_not 0 = .ok (.aload_n 0, 1) := by decide +kernel
theorem dX0_not_1 : decode cX0_not 1 = .ok (.iload_n 1, 1) := by decide +kernel
theorem dX0_not_2 : decode cX0_not 2 = .ok (.iconst 1, 1) := by decide +kernel
theorem dX0_not_3 : decode cX0_not 3 = .ok (.iload_n 2, 1) := by decide +kernel
theorem dX0_not_4 : decode cX0_not 4 = .ok (.invokevirtual 83, 3) := by decide +kernel
theorem dX0_not_7 : decode cX0_not 7 = .ok (.ireturn, 1) := by decide +kernel
abbrev cX0_should : ByteArray := prog_1_method_14_code
def yX0_should : MethodName := ⟨RX0, "should", "(II)I"⟩
theorem dX0_should_0 : decode cX0_should 0 = .ok (.aload_n 0, 1) := by decide +kernel
theorem dX0_should_1 : decode cX0_should 1 = .ok (.iload_n 1, 1) := by decide +kernel
theorem dX0_should_2 : decode cX0_should 2 = .ok (.iconst 2, 1) := by decide +kernel
theorem dX0_should_3 : decode cX0_should 3 = .ok (.iload_n 2, 1) := by decide +kernel
theorem dX0_should_4 : decode cX0_should 4 = .ok (.invokevirtual 83, 3) := by decide +kernel
theorem dX0_should_7 : decode cX0_should 7 = .ok (.ireturn, 1) := by decide +kernel
end
section
set_option maxRecDepth 100000
abbrev cX0_phrase : ByteArray := prog_1_method_15_code
def yX0_phrase : MethodName := ⟨RX0, "phrase", "(III)I"⟩
theorem dX0_phrase_0 : decode cX0_phrase 0 = .ok (.aload_n 0, 1) := by decide +kernel
theorem dX0_phrase_1 : decode cX0_phrase 1 = .ok (.iload_n 1, 1) := by decide +kernel
theorem dX0_phrase_2 : decode cX0_phrase 2 = .ok (.invokevirtual 73, 3) := by decide +kernel
theorem dX0_phrase_5 : decode cX0_phrase 5 = .ok (.ifCond .eq 5, 3) := by decide +kernel
theorem dX0_phrase_8 : decode cX0_phrase 8 = .ok (.iconst (-1), 1) := by decide +kernel
theorem dX0_phrase_9 : decode cX0_phrase 9 = .ok (.ireturn, 1) := by decide +kernel
theorem dX0_phrase_10 : decode cX0_phrase 10 = .ok (.iload_n 2, 1) := by decide +kernel
theorem dX0_phrase_11 : decode cX0_phrase 11 = .ok (.invokestatic 76, 3) := by decide +kernel
theorem dX0_phrase_14 : decode cX0_phrase 14 = .ok (.ifCond .ne 10, 3) := by decide +kernel
theorem dX0_phrase_17 : decode cX0_phrase 17 = .ok (.iload_n 3, 1) := by decide +kernel
theorem dX0_phrase_18 : decode cX0_phrase 18 = .ok (.invokestatic 76, 3) := by decide +kernel
theorem dX0_phrase_21 : decode cX0_phrase 21 = .ok (.ifCond .eq 6, 3) := by decide +kernel
theorem dX0_phrase_24 : decode cX0_phrase 24 = .ok (.bipush (-2), 2) := by decide +kernel
theorem dX0_phrase_26 : decode cX0_phrase 26 = .ok (.ireturn, 1) := by decide +kernel
theorem dX0_phrase_27 : decode cX0_phrase 27 = .ok (.aload_n 0, 1) := by decide +kernel
theorem dX0_phrase_28 : decode cX0_phrase 28 = .ok (.iload_n 1, 1) := by decide +kernel
theorem dX0_phrase_29 : decode cX0_phrase 29 = .ok (.iconst 3, 1) := by decide +kernel
theorem dX0_phrase_30 : decode cX0_phrase 30 = .ok (.iload_n 2, 1) := by decide +kernel
theorem dX0_phrase_31 : decode cX0_phrase 31 = .ok (.iload_n 3, 1) := by decide +kernel
theorem dX0_phrase_32 : decode cX0_phrase 32 = .ok (.invokevirtual 79, 3) := by decide +kernel
theorem dX0_phrase_35 : decode cX0_phrase 35 = .ok (.ireturn, 1) := by decide +kernel
abbrev cX0_range : ByteArray := prog_1_method_16_code
def yX0_range : MethodName := ⟨RX0, "range", "(III)I"⟩
theorem dX0_range_0 : decode cX0_range 0 = .ok (.aload_n 0, 1) := by decide +kernel
theorem dX0_range_1 : decode cX0_range 1 = .ok (.iload_n 1, 1) := by decide +kernel
theorem dX0_range_2 : decode cX0_range 2 = .ok (.invokevirtual 73, 3) := by decide +kernel
theorem dX0_range_5 : decode cX0_range 5 = .ok (.ifCond .eq 5, 3) := by decide +kernel
theorem dX0_range_8 : decode cX0_range 8 = .ok (.iconst (-1), 1) := by decide +kernel
theorem dX0_range_9 : decode cX0_range 9 = .ok (.ireturn, 1) := by decide +kernel
theorem dX0_range_10 : decode cX0_range 10 = .ok (.aload_n 0, 1) := by decide +kernel
theorem dX0_range_11 : decode cX0_range 11 = .ok (.iload_n 1, 1) := by decide +kernel
theorem dX0_range_12 : decode cX0_range 12 = .ok (.iconst 4, 1) := by decide +kernel
theorem dX0_range_13 : decode cX0_range 13 = .ok (.iload_n 2, 1) := by decide +kernel
theorem dX0_range_14 : decode cX0_range 14 = .ok (.iload_n 3, 1) := by decide +kernel
theorem dX0_range_15 : decode cX0_range 15 = .ok (.invokevirtual 79, 3) := by decide +kernel
theorem dX0_range_18 : decode cX0_range 18 = .ok (.ireturn, 1) := by decide +kernel
abbrev cX0_remove : ByteArray := prog_1_method_17_code
def yX0_remove : MethodName := ⟨RX0, "remove", "(I)I"⟩
theorem dX0_remove_0 : decode cX0_remove 0 = .ok (.aload_n 0, 1) := by decide +kernel
theorem dX0_remove_1 : decode cX0_remove 1 = .ok (.iload_n 1, 1) := by decide +kernel
theorem dX0_remove_2 : decode cX0_remove 2 = .ok (.invokevirtual 73, 3) := by decide +kernel
theorem dX0_remove_5 : decode cX0_remove 5 = .ok (.ifCond .eq 5, 3) := by decide +kernel
theorem dX0_remove_8 : decode cX0_remove 8 = .ok (.iconst (-1), 1) := by decide +kernel
theorem dX0_remove_9 : decode cX0_remove 9 = .ok (.ireturn, 1) := by decide +kernel
theorem dX0_remove_10 : decode cX0_remove 10 = .ok (.aload_n 0, 1) := by decide +kernel
theorem dX0_remove_11 : decode cX0_remove 11 = .ok (.iload_n 1, 1) := by decide +kernel
theorem dX0_remove_12 : decode cX0_remove 12 = .ok (.invokevirtual 70, 3) := by decide +kernel
theorem dX0_remove_15 : decode cX0_remove 15 = .ok (.aload_n 0, 1) := by decide +kernel
theorem dX0_remove_16 : decode cX0_remove 16 = .ok (.getfield 7, 3) := by decide +kernel
theorem dX0_remove_19 : decode cX0_remove 19 = .ok (.iload_n 1, 1) := by decide +kernel
theorem dX0_remove_20 : decode cX0_remove 20 = .ok (.iconst 0, 1) := by decide +kernel
theorem dX0_remove_21 : decode cX0_remove 21 = .ok (.bastore, 1) := by decide +kernel
theorem dX0_remove_22 : decode cX0_remove 22 = .ok (.iconst 0, 1) := by decide +kernel
theorem dX0_remove_23 : decode cX0_remove 23 = .ok (.istore_n 2, 1) := by decide +kernel
theorem dX0_remove_24 : decode cX0_remove 24 = .ok (.iconst 0, 1) := by decide +kernel
theorem dX0_remove_25 : decode cX0_remove 25 = .ok (.istore_n 3, 1) := by decide +kernel
theorem dX0_remove_26 : decode cX0_remove 26 = .ok (.iload_n 3, 1) := by decide +kernel
theorem dX0_remove_27 : decode cX0_remove 27 = .ok (.bipush 12, 2) := by decide +kernel
theorem dX0_remove_29 : decode cX0_remove 29 = .ok (.if_icmp .ge 21, 3) := by decide +kernel
theorem dX0_remove_32 : decode cX0_remove 32 = .ok (.aload_n 0, 1) := by decide +kernel
theorem dX0_remove_33 : decode cX0_remove 33 = .ok (.getfield 7, 3) := by decide +kernel
theorem dX0_remove_36 : decode cX0_remove 36 = .ok (.iload_n 3, 1) := by decide +kernel
theorem dX0_remove_37 : decode cX0_remove 37 = .ok (.baload, 1) := by decide +kernel
theorem dX0_remove_38 : decode cX0_remove 38 = .ok (.ifCond .eq 6, 3) := by decide +kernel
theorem dX0_remove_41 : decode cX0_remove 41 = .ok (.iinc 2 1, 3) := by decide +kernel
theorem dX0_remove_44 : decode cX0_remove 44 = .ok (.iinc 3 1, 3) := by decide +kernel
theorem dX0_remove_47 : decode cX0_remove 47 = .ok (.goto (-21), 3) := by decide +kernel
theorem dX0_remove_50 : decode cX0_remove 50 = .ok (.iload_n 2, 1) := by decide +kernel
theorem dX0_remove_51 : decode cX0_remove 51 = .ok (.ireturn, 1) := by decide +kernel
abbrev cX0_word : ByteArray := prog_1_method_18_code
def yX0_word : MethodName := ⟨RX0, "word", "(I)I"⟩
theorem dX0_word_0 : decode cX0_word 0 = .ok (.iload_n 1, 1) := by decide +kernel
theorem dX0_word_1 : decode cX0_word 1 = .ok (.invokestatic 76, 3) := by decide +kernel
theorem dX0_word_4 : decode cX0_word 4 = .ok (.ifCond .eq 6, 3) := by decide +kernel
theorem dX0_word_7 : decode cX0_word 7 = .ok (.bipush (-2), 2) := by decide +kernel
theorem dX0_word_9 : decode cX0_word 9 = .ok (.ireturn, 1) := by decide +kernel
theorem dX0_word_10 : decode cX0_word 10 = .ok (.aload_n 0, 1) := by decide +kernel
theorem dX0_word_11 : decode cX0_word 11 = .ok (.getfield 87, 3) := by decide +kernel
theorem dX0_word_14 : decode cX0_word 14 = .ok (.bipush 16, 2) := by decide +kernel
theorem dX0_word_16 : decode cX0_word 16 = .ok (.if_icmp .lt 6, 3) := by decide +kernel
theorem dX0_word_19 : decode cX0_word 19 = .ok (.bipush (-3), 2) := by decide +kernel
theorem dX0_word_21 : decode cX0_word 21 = .ok (.ireturn, 1) := by decide +kernel
theorem dX0_word_22 : decode cX0_word 22 = .ok (.aload_n 0, 1) := by decide +kernel
theorem dX0_word_23 : decode cX0_word 23 = .ok (.getfield 35, 3) := by decide +kernel
theorem dX0_word_26 : decode cX0_word 26 = .ok (.iload_n 1, 1) := by decide +kernel
theorem dX0_word_27 : decode cX0_word 27 = .ok (.dup2, 1) := by decide +kernel
theorem dX0_word_28 : decode cX0_word 28 = .ok (.iaload, 1) := by decide +kernel
theorem dX0_word_29 : decode cX0_word 29 = .ok (.iconst 1, 1) := by decide +kernel
theorem dX0_word_30 : decode cX0_word 30 = .ok (.iadd, 1) := by decide +kernel
theorem dX0_word_31 : decode cX0_word 31 = .ok (.iastore, 1) := by decide +kernel
theorem dX0_word_32 : decode cX0_word 32 = .ok (.aload_n 0, 1) := by decide +kernel
theorem dX0_word_33 : decode cX0_word 33 = .ok (.getfield 47, 3) := by decide +kernel
theorem dX0_word_36 : decode cX0_word 36 = .ok (.ifCond .lt 18, 3) := by decide +kernel
theorem dX0_word_39 : decode cX0_word 39 = .ok (.aload_n 0, 1) := by decide +kernel
theorem dX0_word_40 : decode cX0_word 40 = .ok (.getfield 38, 3) := by decide +kernel
theorem dX0_word_43 : decode cX0_word 43 = .ok (.aload_n 0, 1) := by decide +kernel
theorem dX0_word_44 : decode cX0_word 44 = .ok (.getfield 47, 3) := by decide +kernel
theorem dX0_word_47 : decode cX0_word 47 = .ok (.dup2, 1) := by decide +kernel
theorem dX0_word_48 : decode cX0_word 48 = .ok (.iaload, 1) := by decide +kernel
theorem dX0_word_49 : decode cX0_word 49 = .ok (.iconst 1, 1) := by decide +kernel
theorem dX0_word_50 : decode cX0_word 50 = .ok (.iload_n 1, 1) := by decide +kernel
theorem dX0_word_51 : decode cX0_word 51 = .ok (.ishl, 1) := by decide +kernel
theorem dX0_word_52 : decode cX0_word 52 = .ok (.ior, 1) := by decide +kernel
theorem dX0_word_53 : decode cX0_word 53 = .ok (.iastore, 1) := by decide +kernel
theorem dX0_word_54 : decode cX0_word 54 = .ok (.aload_n 0, 1) := by decide +kernel
theorem dX0_word_55 : decode cX0_word 55 = .ok (.iload_n 1, 1) := by decide +kernel
theorem dX0_word_56 : decode cX0_word 56 = .ok (.putfield 47, 3) := by decide +kernel
theorem dX0_word_59 : decode cX0_word 59 = .ok (.aload_n 0, 1) := by decide +kernel
theorem dX0_word_60 : decode cX0_word 60 = .ok (.dup, 1) := by decide +kernel
theorem dX0_word_61 : decode cX0_word 61 = .ok (.getfield 87, 3) := by decide +kernel
theorem dX0_word_64 : decode cX0_word 64 = .ok (.iconst 1, 1) := by decide +kernel
theorem dX0_word_65 : decode cX0_word 65 = .ok (.iadd, 1) := by decide +kernel
theorem dX0_word_66 : decode cX0_word 66 = .ok (.putfield 87, 3) := by decide +kernel
theorem dX0_word_69 : decode cX0_word 69 = .ok (.aload_n 0, 1) := by decide +kernel
theorem dX0_word_70 : decode cX0_word 70 = .ok (.getfield 87, 3) := by decide +kernel
theorem dX0_word_73 : decode cX0_word 73 = .ok (.ireturn, 1) := by decide +kernel
abbrev cX0_document : ByteArray := prog_1_method_19_code
def yX0_document : MethodName := ⟨RX0, "document", "(I)V"⟩
theorem dX0_document_0 : decode cX0_document 0 = .ok (.aload_n 0, 1) := by decide +kernel
theorem dX0_document_1 : decode cX0_document 1 = .ok (.iload_n 1, 1) := by decide +kernel
theorem dX0_document_2 : decode cX0_document 2 = .ok (.putfield 90, 3) := by decide +kernel
theorem dX0_document_5 : decode cX0_document 5 = .ok (.aload_n 0, 1) := by decide +kernel
theorem dX0_document_6 : decode cX0_document 6 = .ok (.iconst 0, 1) := by decide +kernel
theorem dX0_document_7 : decode cX0_document 7 = .ok (.putfield 87, 3) := by decide +kernel
theorem dX0_document_10 : decode cX0_document 10 = .ok (.aload_n 0, 1) := by decide +kernel
theorem dX0_document_11 : decode cX0_document 11 = .ok (.iconst (-1), 1) := by decide +kernel
theorem dX0_document_12 : decode cX0_document 12 = .ok (.putfield 47, 3) := by decide +kernel
theorem dX0_document_15 : decode cX0_document 15 = .ok (.iconst 0, 1) := by decide +kernel
theorem dX0_document_16 : decode cX0_document 16 = .ok (.istore_n 2, 1) := by decide +kernel
theorem dX0_document_17 : decode cX0_document 17 = .ok (.iload_n 2, 1) := by decide +kernel
theorem dX0_document_18 : decode cX0_document 18 = .ok (.bipush 24, 2) := by decide +kernel
theorem dX0_document_20 : decode cX0_document 20 = .ok (.if_icmp .ge 23, 3) := by decide +kernel
theorem dX0_document_23 : decode cX0_document 23 = .ok (.aload_n 0, 1) := by decide +kernel
theorem dX0_document_24 : decode cX0_document 24 = .ok (.getfield 35, 3) := by decide +kernel
theorem dX0_document_27 : decode cX0_document 27 = .ok (.iload_n 2, 1) := by decide +kernel
theorem dX0_document_28 : decode cX0_document 28 = .ok (.iconst 0, 1) := by decide +kernel
theorem dX0_document_29 : decode cX0_document 29 = .ok (.iastore, 1) := by decide +kernel
theorem dX0_document_30 : decode cX0_document 30 = .ok (.aload_n 0, 1) := by decide +kernel
theorem dX0_document_31 : decode cX0_document 31 = .ok (.getfield 38, 3) := by decide +kernel
theorem dX0_document_34 : decode cX0_document 34 = .ok (.iload_n 2, 1) := by decide +kernel
theorem dX0_document_35 : decode cX0_document 35 = .ok (.iconst 0, 1) := by decide +kernel
theorem dX0_document_36 : decode cX0_document 36 = .ok (.iastore, 1) := by decide +kernel
theorem dX0_document_37 : decode cX0_document 37 = .ok (.iinc 2 1, 3) := by decide +kernel
theorem dX0_document_40 : decode cX0_document 40 = .ok (.goto (-23), 3) := by decide +kernel
theorem dX0_document_43 : decode cX0_document 43 = .ok (.return_, 1) := by decide +kernel
abbrev cX0_matches : ByteArray := prog_1_method_25_code
def yX0_matches : MethodName := ⟨RX0, "matches", "()I"⟩
theorem dX0_matches_0 : decode cX0_matches 0 = .ok (.aload_n 0, 1) := by decide +kernel
theorem dX0_matches_1 : decode cX0_matches 1 = .ok (.invokevirtual 108, 3) := by decide +kernel
theorem dX0_matches_4 : decode cX0_matches 4 = .ok (.aload_n 0, 1) := by decide +kernel
theorem dX0_matches_5 : decode cX0_matches 5 = .ok (.getfield 99, 3) := by decide +kernel
theorem dX0_matches_8 : decode cX0_matches 8 = .ok (.ireturn, 1) := by decide +kernel
abbrev cX0_percolate : ByteArray := prog_1_method_24_code
def yX0_percolate : MethodName := ⟨RX0, "percolate", "()V"⟩
theorem dX0_percolate_0 : decode cX0_percolate 0 = .ok (.aload_n 0, 1) := by decide +kernel
theorem dX0_percolate_1 : decode cX0_percolate 1 = .ok (.getfield 51, 3) := by decide +kernel
theorem dX0_percolate_4 : decode cX0_percolate 4 = .ok (.istore_n 1, 1) := by decide +kernel
theorem dX0_percolate_5 : decode cX0_percolate 5 = .ok (.iconst 0, 1) := by decide +kernel
theorem dX0_percolate_6 : decode cX0_percolate 6 = .ok (.istore_n 2, 1) := by decide +kernel
theorem dX0_percolate_7 : decode cX0_percolate 7 = .ok (.iload_n 2, 1) := by decide +kernel
theorem dX0_percolate_8 : decode cX0_percolate 8 = .ok (.bipush 24, 2) := by decide +kernel
theorem dX0_percolate_10 : decode cX0_percolate 10 = .ok (.if_icmp .ge 27, 3) := by decide +kernel
theorem dX0_percolate_13 : decode cX0_percolate 13 = .ok (.aload_n 0, 1) := by decide +kernel
theorem dX0_percolate_14 : decode cX0_percolate 14 = .ok (.getfield 35, 3) := by decide +kernel
theorem dX0_percolate_17 : decode cX0_percolate 17 = .ok (.iload_n 2, 1) := by decide +kernel
theorem dX0_percolate_18 : decode cX0_percolate 18 = .ok (.iaload, 1) := by decide +kernel
theorem dX0_percolate_19 : decode cX0_percolate 19 = .ok (.ifCond .le 12, 3) := by decide +kernel
theorem dX0_percolate_22 : decode cX0_percolate 22 = .ok (.iload_n 1, 1) := by decide +kernel
theorem dX0_percolate_23 : decode cX0_percolate 23 = .ok (.aload_n 0, 1) := by decide +kernel
theorem dX0_percolate_24 : decode cX0_percolate 24 = .ok (.getfield 29, 3) := by decide +kernel
theorem dX0_percolate_27 : decode cX0_percolate 27 = .ok (.iload_n 2, 1) := by decide +kernel
theorem dX0_percolate_28 : decode cX0_percolate 28 = .ok (.iaload, 1) := by decide +kernel
theorem dX0_percolate_29 : decode cX0_percolate 29 = .ok (.ior, 1) := by decide +kernel
theorem dX0_percolate_30 : decode cX0_percolate 30 = .ok (.istore_n 1, 1) := by decide +kernel
theorem dX0_percolate_31 : decode cX0_percolate 31 = .ok (.iinc 2 1, 3) := by decide +kernel
theorem dX0_percolate_34 : decode cX0_percolate 34 = .ok (.goto (-27), 3) := by decide +kernel
theorem dX0_percolate_37 : decode cX0_percolate 37 = .ok (.aload_n 0, 1) := by decide +kernel
theorem dX0_percolate_38 : decode cX0_percolate 38 = .ok (.iconst 0, 1) := by decide +kernel
theorem dX0_percolate_39 : decode cX0_percolate 39 = .ok (.putfield 99, 3) := by decide +kernel
theorem dX0_percolate_42 : decode cX0_percolate 42 = .ok (.iconst 0, 1) := by decide +kernel
theorem dX0_percolate_43 : decode cX0_percolate 43 = .ok (.istore_n 2, 1) := by decide +kernel
theorem dX0_percolate_44 : decode cX0_percolate 44 = .ok (.iload_n 2, 1) := by decide +kernel
theorem dX0_percolate_45 : decode cX0_percolate 45 = .ok (.bipush 12, 2) := by decide +kernel
theorem dX0_percolate_47 : decode cX0_percolate 47 = .ok (.if_icmp .ge 33, 3) := by decide +kernel
theorem dX0_percolate_50 : decode cX0_percolate 50 = .ok (.iload_n 1, 1) := by decide +kernel
theorem dX0_percolate_51 : decode cX0_percolate 51 = .ok (.iload_n 2, 1) := by decide +kernel
theorem dX0_percolate_52 : decode cX0_percolate 52 = .ok (.ishr, 1) := by decide +kernel
theorem dX0_percolate_53 : decode cX0_percolate 53 = .ok (.iconst 1, 1) := by decide +kernel
theorem dX0_percolate_54 : decode cX0_percolate 54 = .ok (.iand, 1) := by decide +kernel
theorem dX0_percolate_55 : decode cX0_percolate 55 = .ok (.iconst 1, 1) := by decide +kernel
theorem dX0_percolate_56 : decode cX0_percolate 56 = .ok (.if_icmp .ne 18, 3) := by decide +kernel
theorem dX0_percolate_59 : decode cX0_percolate 59 = .ok (.aload_n 0, 1) := by decide +kernel
theorem dX0_percolate_60 : decode cX0_percolate 60 = .ok (.iload_n 2, 1) := by decide +kernel
theorem dX0_percolate_61 : decode cX0_percolate 61 = .ok (.invokevirtual 102, 3) := by decide +kernel
theorem dX0_percolate_64 : decode cX0_percolate 64 = .ok (.istore_n 3, 1) := by decide +kernel
theorem dX0_percolate_65 : decode cX0_percolate 65 = .ok (.iload_n 3, 1) := by decide +kernel
theorem dX0_percolate_66 : decode cX0_percolate 66 = .ok (.ifCond .eq 8, 3) := by decide +kernel
theorem dX0_percolate_69 : decode cX0_percolate 69 = .ok (.aload_n 0, 1) := by decide +kernel
theorem dX0_percolate_70 : decode cX0_percolate 70 = .ok (.iload_n 2, 1) := by decide +kernel
theorem dX0_percolate_71 : decode cX0_percolate 71 = .ok (.invokevirtual 105, 3) := by decide +kernel
theorem dX0_percolate_74 : decode cX0_percolate 74 = .ok (.iinc 2 1, 3) := by decide +kernel
theorem dX0_percolate_77 : decode cX0_percolate 77 = .ok (.goto (-33), 3) := by decide +kernel
theorem dX0_percolate_80 : decode cX0_percolate 80 = .ok (.return_, 1) := by decide +kernel
abbrev cX0_check : ByteArray := prog_1_method_21_code
def yX0_check : MethodName := ⟨RX0, "check", "(I)Z"⟩
theorem dX0_check_0 : decode cX0_check 0 = .ok (.iconst 0, 1) := by decide +kernel
theorem dX0_check_1 : decode cX0_check 1 = .ok (.istore_n 2, 1) := by decide +kernel
theorem dX0_check_2 : decode cX0_check 2 = .ok (.iload_n 1, 1) := by decide +kernel
theorem dX0_check_3 : decode cX0_check 3 = .ok (.bipush 6, 2) := by decide +kernel
theorem dX0_check_5 : decode cX0_check 5 = .ok (.imul, 1) := by decide +kernel
theorem dX0_check_6 : decode cX0_check 6 = .ok (.istore_n 3, 1) := by decide +kernel
theorem dX0_check_7 : decode cX0_check 7 = .ok (.iload_n 3, 1) := by decide +kernel
theorem dX0_check_8 : decode cX0_check 8 = .ok (.iload_n 1, 1) := by decide +kernel
theorem dX0_check_9 : decode cX0_check 9 = .ok (.bipush 6, 2) := by decide +kernel
theorem dX0_check_11 : decode cX0_check 11 = .ok (.imul, 1) := by decide +kernel
theorem dX0_check_12 : decode cX0_check 12 = .ok (.aload_n 0, 1) := by decide +kernel
theorem dX0_check_13 : decode cX0_check 13 = .ok (.getfield 17, 3) := by decide +kernel
theorem dX0_check_16 : decode cX0_check 16 = .ok (.iload_n 1, 1) := by decide +kernel
theorem dX0_check_17 : decode cX0_check 17 = .ok (.iaload, 1) := by decide +kernel
theorem dX0_check_18 : decode cX0_check 18 = .ok (.iadd, 1) := by decide +kernel
theorem dX0_check_19 : decode cX0_check 19 = .ok (.if_icmp .ge 50, 3) := by decide +kernel
theorem dX0_check_22 : decode cX0_check 22 = .ok (.aload_n 0, 1) := by decide +kernel
theorem dX0_check_23 : decode cX0_check 23 = .ok (.iload_n 3, 1) := by decide +kernel
theorem dX0_check_24 : decode cX0_check 24 = .ok (.invokevirtual 93, 3) := by decide +kernel
theorem dX0_check_27 : decode cX0_check 27 = .ok (.istore 4, 2) := by decide +kernel
theorem dX0_check_29 : decode cX0_check 29 = .ok (.iload 4, 2) := by decide +kernel
theorem dX0_check_31 : decode cX0_check 31 = .ok (.ifCond .ne 5, 3) := by decide +kernel
theorem dX0_check_34 : decode cX0_check 34 = .ok (.iconst 0, 1) := by decide +kernel
theorem dX0_check_35 : decode cX0_check 35 = .ok (.ireturn, 1) := by decide +kernel
theorem dX0_check_36 : decode cX0_check 36 = .ok (.aload_n 0, 1) := by decide +kernel
theorem dX0_check_37 : decode cX0_check 37 = .ok (.getfield 20, 3) := by decide +kernel
theorem dX0_check_40 : decode cX0_check 40 = .ok (.iload_n 3, 1) := by decide +kernel
theorem dX0_check_41 : decode cX0_check 41 = .ok (.iaload, 1) := by decide +kernel
theorem dX0_check_42 : decode cX0_check 42 = .ok (.iconst 2, 1) := by decide +kernel
theorem dX0_check_43 : decode cX0_check 43 = .ok (.if_icmp .ne 20, 3) := by decide +kernel
theorem dX0_check_46 : decode cX0_check 46 = .ok (.aload_n 0, 1) := by decide +kernel
theorem dX0_check_47 : decode cX0_check 47 = .ok (.getfield 35, 3) := by decide +kernel
theorem dX0_check_50 : decode cX0_check 50 = .ok (.aload_n 0, 1) := by decide +kernel
theorem dX0_check_51 : decode cX0_check 51 = .ok (.getfield 23, 3) := by decide +kernel
theorem dX0_check_54 : decode cX0_check 54 = .ok (.iload_n 3, 1) := by decide +kernel
theorem dX0_check_55 : decode cX0_check 55 = .ok (.iaload, 1) := by decide +kernel
theorem dX0_check_56 : decode cX0_check 56 = .ok (.iaload, 1) := by decide +kernel
theorem dX0_check_57 : decode cX0_check 57 = .ok (.ifCond .le 6, 3) := by decide +kernel
theorem dX0_check_60 : decode cX0_check 60 = .ok (.iinc 2 1, 3) := by decide +kernel
theorem dX0_check_63 : decode cX0_check 63 = .ok (.iinc 3 1, 3) := by decide +kernel
theorem dX0_check_66 : decode cX0_check 66 = .ok (.goto (-59), 3) := by decide +kernel
theorem dX0_check_69 : decode cX0_check 69 = .ok (.iload_n 2, 1) := by decide +kernel
theorem dX0_check_70 : decode cX0_check 70 = .ok (.aload_n 0, 1) := by decide +kernel
theorem dX0_check_71 : decode cX0_check 71 = .ok (.getfield 13, 3) := by decide +kernel
theorem dX0_check_74 : decode cX0_check 74 = .ok (.iload_n 1, 1) := by decide +kernel
theorem dX0_check_75 : decode cX0_check 75 = .ok (.iaload, 1) := by decide +kernel
theorem dX0_check_76 : decode cX0_check 76 = .ok (.if_icmp .lt 7, 3) := by decide +kernel
theorem dX0_check_79 : decode cX0_check 79 = .ok (.iconst 1, 1) := by decide +kernel
theorem dX0_check_80 : decode cX0_check 80 = .ok (.goto 4, 3) := by decide +kernel
theorem dX0_check_83 : decode cX0_check 83 = .ok (.iconst 0, 1) := by decide +kernel
theorem dX0_check_84 : decode cX0_check 84 = .ok (.ireturn, 1) := by decide +kernel
abbrev cX0_holds : ByteArray := prog_1_method_20_code
def yX0_holds : MethodName := ⟨RX0, "holds", "(I)Z"⟩
theorem dX0_holds_0 : decode cX0_holds 0 = .ok (.aload_n 0, 1) := by decide +kernel
theorem dX0_holds_1 : decode cX0_holds 1 = .ok (.getfield 20, 3) := by decide +kernel
theorem dX0_holds_4 : decode cX0_holds 4 = .ok (.iload_n 1, 1) := by decide +kernel
theorem dX0_holds_5 : decode cX0_holds 5 = .ok (.iaload, 1) := by decide +kernel
theorem dX0_holds_6 : decode cX0_holds 6 = .ok (.tableswitch 136 0 4 #[34, 54, 136, 74, 104], 34) := by decide +kernel
theorem dX0_holds_40 : decode cX0_holds 40 = .ok (.aload_n 0, 1) := by decide +kernel
theorem dX0_holds_41 : decode cX0_holds 41 = .ok (.getfield 35, 3) := by decide +kernel
theorem dX0_holds_44 : decode cX0_holds 44 = .ok (.aload_n 0, 1) := by decide +kernel
theorem dX0_holds_45 : decode cX0_holds 45 = .ok (.getfield 23, 3) := by decide +kernel
theorem dX0_holds_48 : decode cX0_holds 48 = .ok (.iload_n 1, 1) := by decide +kernel
theorem dX0_holds_49 : decode cX0_holds 49 = .ok (.iaload, 1) := by decide +kernel
theorem dX0_holds_50 : decode cX0_holds 50 = .ok (.iaload, 1) := by decide +kernel
theorem dX0_holds_51 : decode cX0_holds 51 = .ok (.ifCond .le 7, 3) := by decide +kernel
theorem dX0_holds_54 : decode cX0_holds 54 = .ok (.iconst 1, 1) := by decide +kernel
theorem dX0_holds_55 : decode cX0_holds 55 = .ok (.goto 4, 3) := by decide +kernel
theorem dX0_holds_58 : decode cX0_holds 58 = .ok (.iconst 0, 1) := by decide +kernel
theorem dX0_holds_59 : decode cX0_holds 59 = .ok (.ireturn, 1) := by decide +kernel
theorem dX0_holds_60 : decode cX0_holds 60 = .ok (.aload_n 0, 1) := by decide +kernel
theorem dX0_holds_61 : decode cX0_holds 61 = .ok (.getfield 35, 3) := by decide +kernel
theorem dX0_holds_64 : decode cX0_holds 64 = .ok (.aload_n 0, 1) := by decide +kernel
theorem dX0_holds_65 : decode cX0_holds 65 = .ok (.getfield 23, 3) := by decide +kernel
theorem dX0_holds_68 : decode cX0_holds 68 = .ok (.iload_n 1, 1) := by decide +kernel
theorem dX0_holds_69 : decode cX0_holds 69 = .ok (.iaload, 1) := by decide +kernel
theorem dX0_holds_70 : decode cX0_holds 70 = .ok (.iaload, 1) := by decide +kernel
theorem dX0_holds_71 : decode cX0_holds 71 = .ok (.ifCond .ne 7, 3) := by decide +kernel
theorem dX0_holds_74 : decode cX0_holds 74 = .ok (.iconst 1, 1) := by decide +kernel
theorem dX0_holds_75 : decode cX0_holds 75 = .ok (.goto 4, 3) := by decide +kernel
theorem dX0_holds_78 : decode cX0_holds 78 = .ok (.iconst 0, 1) := by decide +kernel
theorem dX0_holds_79 : decode cX0_holds 79 = .ok (.ireturn, 1) := by decide +kernel
theorem dX0_holds_80 : decode cX0_holds 80 = .ok (.aload_n 0, 1) := by decide +kernel
theorem dX0_holds_81 : decode cX0_holds 81 = .ok (.getfield 38, 3) := by decide +kernel
theorem dX0_holds_84 : decode cX0_holds 84 = .ok (.aload_n 0, 1) := by decide +kernel
theorem dX0_holds_85 : decode cX0_holds 85 = .ok (.getfield 23, 3) := by decide +kernel
theorem dX0_holds_88 : decode cX0_holds 88 = .ok (.iload_n 1, 1) := by decide +kernel
theorem dX0_holds_89 : decode cX0_holds 89 = .ok (.iaload, 1) := by decide +kernel
theorem dX0_holds_90 : decode cX0_holds 90 = .ok (.iaload, 1) := by decide +kernel
theorem dX0_holds_91 : decode cX0_holds 91 = .ok (.aload_n 0, 1) := by decide +kernel
theorem dX0_holds_92 : decode cX0_holds 92 = .ok (.getfield 26, 3) := by decide +kernel
theorem dX0_holds_95 : decode cX0_holds 95 = .ok (.iload_n 1, 1) := by decide +kernel
theorem dX0_holds_96 : decode cX0_holds 96 = .ok (.iaload, 1) := by decide +kernel
theorem dX0_holds_97 : decode cX0_holds 97 = .ok (.ishr, 1) := by decide +kernel
theorem dX0_holds_98 : decode cX0_holds 98 = .ok (.iconst 1, 1) := by decide +kernel
theorem dX0_holds_99 : decode cX0_holds 99 = .ok (.iand, 1) := by decide +kernel
theorem dX0_holds_100 : decode cX0_holds 100 = .ok (.iconst 1, 1) := by decide +kernel
theorem dX0_holds_101 : decode cX0_holds 101 = .ok (.if_icmp .ne 7, 3) := by decide +kernel
theorem dX0_holds_104 : decode cX0_holds 104 = .ok (.iconst 1, 1) := by decide +kernel
theorem dX0_holds_105 : decode cX0_holds 105 = .ok (.goto 4, 3) := by decide +kernel
theorem dX0_holds_108 : decode cX0_holds 108 = .ok (.iconst 0, 1) := by decide +kernel
theorem dX0_holds_109 : decode cX0_holds 109 = .ok (.ireturn, 1) := by decide +kernel
theorem dX0_holds_110 : decode cX0_holds 110 = .ok (.aload_n 0, 1) := by decide +kernel
theorem dX0_holds_111 : decode cX0_holds 111 = .ok (.getfield 23, 3) := by decide +kernel
theorem dX0_holds_114 : decode cX0_holds 114 = .ok (.iload_n 1, 1) := by decide +kernel
theorem dX0_holds_115 : decode cX0_holds 115 = .ok (.iaload, 1) := by decide +kernel
theorem dX0_holds_116 : decode cX0_holds 116 = .ok (.aload_n 0, 1) := by decide +kernel
theorem dX0_holds_117 : decode cX0_holds 117 = .ok (.getfield 90, 3) := by decide +kernel
theorem dX0_holds_120 : decode cX0_holds 120 = .ok (.if_icmp .gt 20, 3) := by decide +kernel
theorem dX0_holds_123 : decode cX0_holds 123 = .ok (.aload_n 0, 1) := by decide +kernel
theorem dX0_holds_124 : decode cX0_holds 124 = .ok (.getfield 90, 3) := by decide +kernel
theorem dX0_holds_127 : decode cX0_holds 127 = .ok (.aload_n 0, 1) := by decide +kernel
theorem dX0_holds_128 : decode cX0_holds 128 = .ok (.getfield 26, 3) := by decide +kernel
theorem dX0_holds_131 : decode cX0_holds 131 = .ok (.iload_n 1, 1) := by decide +kernel
theorem dX0_holds_132 : decode cX0_holds 132 = .ok (.iaload, 1) := by decide +kernel
theorem dX0_holds_133 : decode cX0_holds 133 = .ok (.if_icmp .gt 7, 3) := by decide +kernel
theorem dX0_holds_136 : decode cX0_holds 136 = .ok (.iconst 1, 1) := by decide +kernel
theorem dX0_holds_137 : decode cX0_holds 137 = .ok (.goto 4, 3) := by decide +kernel
theorem dX0_holds_140 : decode cX0_holds 140 = .ok (.iconst 0, 1) := by decide +kernel
theorem dX0_holds_141 : decode cX0_holds 141 = .ok (.ireturn, 1) := by decide +kernel
theorem dX0_holds_142 : decode cX0_holds 142 = .ok (.iconst 1, 1) := by decide +kernel
theorem dX0_holds_143 : decode cX0_holds 143 = .ok (.ireturn, 1) := by decide +kernel
abbrev cX0_keep : ByteArray := prog_1_method_23_code
def yX0_keep : MethodName := ⟨RX0, "keep", "(I)V"⟩
theorem dX0_keep_0 : decode cX0_keep 0 = .ok (.aload_n 0, 1) := by decide +kernel
theorem dX0_keep_1 : decode cX0_keep 1 = .ok (.iload_n 1, 1) := by decide +kernel
theorem dX0_keep_2 : decode cX0_keep 2 = .ok (.invokevirtual 96, 3) := by decide +kernel
theorem dX0_keep_5 : decode cX0_keep 5 = .ok (.istore_n 2, 1) := by decide +kernel
theorem dX0_keep_6 : decode cX0_keep 6 = .ok (.aload_n 0, 1) := by decide +kernel
theorem dX0_keep_7 : decode cX0_keep 7 = .ok (.getfield 99, 3) := by decide +kernel
theorem dX0_keep_10 : decode cX0_keep 10 = .ok (.istore_n 3, 1) := by decide +kernel
theorem dX0_keep_11 : decode cX0_keep 11 = .ok (.iload_n 3, 1) := by decide +kernel
theorem dX0_keep_12 : decode cX0_keep 12 = .ok (.ifCond .le 49, 3) := by decide +kernel
theorem dX0_keep_15 : decode cX0_keep 15 = .ok (.aload_n 0, 1) := by decide +kernel
theorem dX0_keep_16 : decode cX0_keep 16 = .ok (.getfield 44, 3) := by decide +kernel
theorem dX0_keep_19 : decode cX0_keep 19 = .ok (.iload_n 3, 1) := by decide +kernel
theorem dX0_keep_20 : decode cX0_keep 20 = .ok (.iconst 1, 1) := by decide +kernel
theorem dX0_keep_21 : decode cX0_keep 21 = .ok (.isub, 1) := by decide +kernel
theorem dX0_keep_22 : decode cX0_keep 22 = .ok (.iaload, 1) := by decide +kernel
theorem dX0_keep_23 : decode cX0_keep 23 = .ok (.iload_n 2, 1) := by decide +kernel
theorem dX0_keep_24 : decode cX0_keep 24 = .ok (.if_icmp .ge 37, 3) := by decide +kernel
theorem dX0_keep_27 : decode cX0_keep 27 = .ok (.aload_n 0, 1) := by decide +kernel
theorem dX0_keep_28 : decode cX0_keep 28 = .ok (.getfield 41, 3) := by decide +kernel
theorem dX0_keep_31 : decode cX0_keep 31 = .ok (.iload_n 3, 1) := by decide +kernel
theorem dX0_keep_32 : decode cX0_keep 32 = .ok (.aload_n 0, 1) := by decide +kernel
theorem dX0_keep_33 : decode cX0_keep 33 = .ok (.getfield 41, 3) := by decide +kernel
theorem dX0_keep_36 : decode cX0_keep 36 = .ok (.iload_n 3, 1) := by decide +kernel
theorem dX0_keep_37 : decode cX0_keep 37 = .ok (.iconst 1, 1) := by decide +kernel
theorem dX0_keep_38 : decode cX0_keep 38 = .ok (.isub, 1) := by decide +kernel
theorem dX0_keep_39 : decode cX0_keep 39 = .ok (.iaload, 1) := by decide +kernel
theorem dX0_keep_40 : decode cX0_keep 40 = .ok (.iastore, 1) := by decide +kernel
theorem dX0_keep_41 : decode cX0_keep 41 = .ok (.aload_n 0, 1) := by decide +kernel
theorem dX0_keep_42 : decode cX0_keep 42 = .ok (.getfield 44, 3) := by decide +kernel
theorem dX0_keep_45 : decode cX0_keep 45 = .ok (.iload_n 3, 1) := by decide +kernel
theorem dX0_keep_46 : decode cX0_keep 46 = .ok (.aload_n 0, 1) := by decide +kernel
theorem dX0_keep_47 : decode cX0_keep 47 = .ok (.getfield 44, 3) := by decide +kernel
theorem dX0_keep_50 : decode cX0_keep 50 = .ok (.iload_n 3, 1) := by decide +kernel
theorem dX0_keep_51 : decode cX0_keep 51 = .ok (.iconst 1, 1) := by decide +kernel
theorem dX0_keep_52 : decode cX0_keep 52 = .ok (.isub, 1) := by decide +kernel
theorem dX0_keep_53 : decode cX0_keep 53 = .ok (.iaload, 1) := by decide +kernel
theorem dX0_keep_54 : decode cX0_keep 54 = .ok (.iastore, 1) := by decide +kernel
theorem dX0_keep_55 : decode cX0_keep 55 = .ok (.iinc 3 (-1), 3) := by decide +kernel
theorem dX0_keep_58 : decode cX0_keep 58 = .ok (.goto (-47), 3) := by decide +kernel
theorem dX0_keep_61 : decode cX0_keep 61 = .ok (.aload_n 0, 1) := by decide +kernel
theorem dX0_keep_62 : decode cX0_keep 62 = .ok (.getfield 41, 3) := by decide +kernel
theorem dX0_keep_65 : decode cX0_keep 65 = .ok (.iload_n 3, 1) := by decide +kernel
theorem dX0_keep_66 : decode cX0_keep 66 = .ok (.iload_n 1, 1) := by decide +kernel
theorem dX0_keep_67 : decode cX0_keep 67 = .ok (.iastore, 1) := by decide +kernel
theorem dX0_keep_68 : decode cX0_keep 68 = .ok (.aload_n 0, 1) := by decide +kernel
theorem dX0_keep_69 : decode cX0_keep 69 = .ok (.getfield 44, 3) := by decide +kernel
theorem dX0_keep_72 : decode cX0_keep 72 = .ok (.iload_n 3, 1) := by decide +kernel
theorem dX0_keep_73 : decode cX0_keep 73 = .ok (.iload_n 2, 1) := by decide +kernel
theorem dX0_keep_74 : decode cX0_keep 74 = .ok (.iastore, 1) := by decide +kernel
theorem dX0_keep_75 : decode cX0_keep 75 = .ok (.aload_n 0, 1) := by decide +kernel
theorem dX0_keep_76 : decode cX0_keep 76 = .ok (.dup, 1) := by decide +kernel
theorem dX0_keep_77 : decode cX0_keep 77 = .ok (.getfield 99, 3) := by decide +kernel
theorem dX0_keep_80 : decode cX0_keep 80 = .ok (.iconst 1, 1) := by decide +kernel
theorem dX0_keep_81 : decode cX0_keep 81 = .ok (.iadd, 1) := by decide +kernel
theorem dX0_keep_82 : decode cX0_keep 82 = .ok (.putfield 99, 3) := by decide +kernel
theorem dX0_keep_85 : decode cX0_keep 85 = .ok (.return_, 1) := by decide +kernel
abbrev cX0_scoreOf : ByteArray := prog_1_method_22_code
def yX0_scoreOf : MethodName := ⟨RX0, "scoreOf", "(I)I"⟩
theorem dX0_scoreOf_0 : decode cX0_scoreOf 0 = .ok (.iconst 0, 1) := by decide +kernel
theorem dX0_scoreOf_1 : decode cX0_scoreOf 1 = .ok (.istore_n 2, 1) := by decide +kernel
theorem dX0_scoreOf_2 : decode cX0_scoreOf 2 = .ok (.iload_n 1, 1) := by decide +kernel
theorem dX0_scoreOf_3 : decode cX0_scoreOf 3 = .ok (.bipush 6, 2) := by decide +kernel
theorem dX0_scoreOf_5 : decode cX0_scoreOf 5 = .ok (.imul, 1) := by decide +kernel
theorem dX0_scoreOf_6 : decode cX0_scoreOf 6 = .ok (.istore_n 3, 1) := by decide +kernel
theorem dX0_scoreOf_7 : decode cX0_scoreOf 7 = .ok (.iload_n 3, 1) := by decide +kernel
theorem dX0_scoreOf_8 : decode cX0_scoreOf 8 = .ok (.iload_n 1, 1) := by decide +kernel
theorem dX0_scoreOf_9 : decode cX0_scoreOf 9 = .ok (.bipush 6, 2) := by decide +kernel
theorem dX0_scoreOf_11 : decode cX0_scoreOf 11 = .ok (.imul, 1) := by decide +kernel
theorem dX0_scoreOf_12 : decode cX0_scoreOf 12 = .ok (.aload_n 0, 1) := by decide +kernel
theorem dX0_scoreOf_13 : decode cX0_scoreOf 13 = .ok (.getfield 17, 3) := by decide +kernel
theorem dX0_scoreOf_16 : decode cX0_scoreOf 16 = .ok (.iload_n 1, 1) := by decide +kernel
theorem dX0_scoreOf_17 : decode cX0_scoreOf 17 = .ok (.iaload, 1) := by decide +kernel
theorem dX0_scoreOf_18 : decode cX0_scoreOf 18 = .ok (.iadd, 1) := by decide +kernel
theorem dX0_scoreOf_19 : decode cX0_scoreOf 19 = .ok (.if_icmp .ge 55, 3) := by decide +kernel
theorem dX0_scoreOf_22 : decode cX0_scoreOf 22 = .ok (.aload_n 0, 1) := by decide +kernel
theorem dX0_scoreOf_23 : decode cX0_scoreOf 23 = .ok (.getfield 20, 3) := by decide +kernel
theorem dX0_scoreOf_26 : decode cX0_scoreOf 26 = .ok (.iload_n 3, 1) := by decide +kernel
theorem dX0_scoreOf_27 : decode cX0_scoreOf 27 = .ok (.iaload, 1) := by decide +kernel
theorem dX0_scoreOf_28 : decode cX0_scoreOf 28 = .ok (.ifCond .eq 13, 3) := by decide +kernel
theorem dX0_scoreOf_31 : decode cX0_scoreOf 31 = .ok (.aload_n 0, 1) := by decide +kernel
theorem dX0_scoreOf_32 : decode cX0_scoreOf 32 = .ok (.getfield 20, 3) := by decide +kernel
theorem dX0_scoreOf_35 : decode cX0_scoreOf 35 = .ok (.iload_n 3, 1) := by decide +kernel
theorem dX0_scoreOf_36 : decode cX0_scoreOf 36 = .ok (.iaload, 1) := by decide +kernel
theorem dX0_scoreOf_37 : decode cX0_scoreOf 37 = .ok (.iconst 2, 1) := by decide +kernel
theorem dX0_scoreOf_38 : decode cX0_scoreOf 38 = .ok (.if_icmp .ne 17, 3) := by decide +kernel
theorem dX0_scoreOf_41 : decode cX0_scoreOf 41 = .ok (.iload_n 2, 1) := by decide +kernel
theorem dX0_scoreOf_42 : decode cX0_scoreOf 42 = .ok (.aload_n 0, 1) := by decide +kernel
theorem dX0_scoreOf_43 : decode cX0_scoreOf 43 = .ok (.getfield 35, 3) := by decide +kernel
theorem dX0_scoreOf_46 : decode cX0_scoreOf 46 = .ok (.aload_n 0, 1) := by decide +kernel
theorem dX0_scoreOf_47 : decode cX0_scoreOf 47 = .ok (.getfield 23, 3) := by decide +kernel
theorem dX0_scoreOf_50 : decode cX0_scoreOf 50 = .ok (.iload_n 3, 1) := by decide +kernel
theorem dX0_scoreOf_51 : decode cX0_scoreOf 51 = .ok (.iaload, 1) := by decide +kernel
theorem dX0_scoreOf_52 : decode cX0_scoreOf 52 = .ok (.iaload, 1) := by decide +kernel
theorem dX0_scoreOf_53 : decode cX0_scoreOf 53 = .ok (.iadd, 1) := by decide +kernel
theorem dX0_scoreOf_54 : decode cX0_scoreOf 54 = .ok (.istore_n 2, 1) := by decide +kernel
theorem dX0_scoreOf_55 : decode cX0_scoreOf 55 = .ok (.aload_n 0, 1) := by decide +kernel
theorem dX0_scoreOf_56 : decode cX0_scoreOf 56 = .ok (.getfield 20, 3) := by decide +kernel
theorem dX0_scoreOf_59 : decode cX0_scoreOf 59 = .ok (.iload_n 3, 1) := by decide +kernel
theorem dX0_scoreOf_60 : decode cX0_scoreOf 60 = .ok (.iaload, 1) := by decide +kernel
theorem dX0_scoreOf_61 : decode cX0_scoreOf 61 = .ok (.iconst 3, 1) := by decide +kernel
theorem dX0_scoreOf_62 : decode cX0_scoreOf 62 = .ok (.if_icmp .ne 6, 3) := by decide +kernel
theorem dX0_scoreOf_65 : decode cX0_scoreOf 65 = .ok (.iinc 2 5, 3) := by decide +kernel
theorem dX0_scoreOf_68 : decode cX0_scoreOf 68 = .ok (.iinc 3 1, 3) := by decide +kernel
theorem dX0_scoreOf_71 : decode cX0_scoreOf 71 = .ok (.goto (-64), 3) := by decide +kernel
theorem dX0_scoreOf_74 : decode cX0_scoreOf 74 = .ok (.iload_n 2, 1) := by decide +kernel
theorem dX0_scoreOf_75 : decode cX0_scoreOf 75 = .ok (.ireturn, 1) := by decide +kernel
abbrev cX0_match : ByteArray := prog_1_method_26_code
def yX0_match : MethodName := ⟨RX0, "match", "(I)I"⟩
theorem dX0_match_0 : decode cX0_match 0 = .ok (.aload_n 0, 1) := by decide +kernel
theorem dX0_match_1 : decode cX0_match 1 = .ok (.invokevirtual 108, 3) := by decide +kernel
theorem dX0_match_4 : decode cX0_match 4 = .ok (.iload_n 1, 1) := by decide +kernel
theorem dX0_match_5 : decode cX0_match 5 = .ok (.ifCond .lt 11, 3) := by decide +kernel
theorem dX0_match_8 : decode cX0_match 8 = .ok (.iload_n 1, 1) := by decide +kernel
theorem dX0_match_9 : decode cX0_match 9 = .ok (.aload_n 0, 1) := by decide +kernel
theorem dX0_match_10 : decode cX0_match 10 = .ok (.getfield 99, 3) := by decide +kernel
theorem dX0_match_13 : decode cX0_match 13 = .ok (.if_icmp .lt 8, 3) := by decide +kernel
theorem dX0_match_16 : decode cX0_match 16 = .ok (.bipush (-5), 2) := by decide +kernel
theorem dX0_match_18 : decode cX0_match 18 = .ok (.goto 9, 3) := by decide +kernel
theorem dX0_match_21 : decode cX0_match 21 = .ok (.aload_n 0, 1) := by decide +kernel
theorem dX0_match_22 : decode cX0_match 22 = .ok (.getfield 41, 3) := by decide +kernel
theorem dX0_match_25 : decode cX0_match 25 = .ok (.iload_n 1, 1) := by decide +kernel
theorem dX0_match_26 : decode cX0_match 26 = .ok (.iaload, 1) := by decide +kernel
theorem dX0_match_27 : decode cX0_match 27 = .ok (.ireturn, 1) := by decide +kernel
abbrev cX0_score : ByteArray := prog_1_method_27_code
def yX0_score : MethodName := ⟨RX0, "score", "(I)I"⟩
theorem dX0_score_0 : decode cX0_score 0 = .ok (.aload_n 0, 1) := by decide +kernel
theorem dX0_score_1 : decode cX0_score 1 = .ok (.invokevirtual 108, 3) := by decide +kernel
theorem dX0_score_4 : decode cX0_score 4 = .ok (.iload_n 1, 1) := by decide +kernel
theorem dX0_score_5 : decode cX0_score 5 = .ok (.ifCond .lt 11, 3) := by decide +kernel
theorem dX0_score_8 : decode cX0_score 8 = .ok (.iload_n 1, 1) := by decide +kernel
theorem dX0_score_9 : decode cX0_score 9 = .ok (.aload_n 0, 1) := by decide +kernel
theorem dX0_score_10 : decode cX0_score 10 = .ok (.getfield 99, 3) := by decide +kernel
theorem dX0_score_13 : decode cX0_score 13 = .ok (.if_icmp .lt 7, 3) := by decide +kernel
theorem dX0_score_16 : decode cX0_score 16 = .ok (.iconst 0, 1) := by decide +kernel
theorem dX0_score_17 : decode cX0_score 17 = .ok (.goto 9, 3) := by decide +kernel
theorem dX0_score_20 : decode cX0_score 20 = .ok (.aload_n 0, 1) := by decide +kernel
theorem dX0_score_21 : decode cX0_score 21 = .ok (.getfield 44, 3) := by decide +kernel
theorem dX0_score_24 : decode cX0_score 24 = .ok (.iload_n 1, 1) := by decide +kernel
theorem dX0_score_25 : decode cX0_score 25 = .ok (.iaload, 1) := by decide +kernel
theorem dX0_score_26 : decode cX0_score 26 = .ok (.ireturn, 1) := by decide +kernel
abbrev cX0_matchesQuery : ByteArray := prog_1_method_28_code
def yX0_matchesQuery : MethodName := ⟨RX0, "matchesQuery", "(I)Z"⟩
theorem dX0_matchesQuery_0 : decode cX0_matchesQuery 0 = .ok (.aload_n 0, 1) := by decide +kernel
theorem dX0_matchesQuery_1 : decode cX0_matchesQuery 1 = .ok (.iload_n 1, 1) := by decide +kernel
theorem dX0_matchesQuery_2 : decode cX0_matchesQuery 2 = .ok (.invokevirtual 73, 3) := by decide +kernel
theorem dX0_matchesQuery_5 : decode cX0_matchesQuery 5 = .ok (.ifCond .eq 5, 3) := by decide +kernel
theorem dX0_matchesQuery_8 : decode cX0_matchesQuery 8 = .ok (.iconst 0, 1) := by decide +kernel
theorem dX0_matchesQuery_9 : decode cX0_matchesQuery 9 = .ok (.ireturn, 1) := by decide +kernel
theorem dX0_matchesQuery_10 : decode cX0_matchesQuery 10 = .ok (.aload_n 0, 1) := by decide +kernel
theorem dX0_matchesQuery_11 : decode cX0_matchesQuery 11 = .ok (.iload_n 1, 1) := by decide +kernel
theorem dX0_matchesQuery_12 : decode cX0_matchesQuery 12 = .ok (.invokevirtual 102, 3) := by decide +kernel
theorem dX0_matchesQuery_15 : decode cX0_matchesQuery 15 = .ok (.ireturn, 1) := by decide +kernel
theorem q22 : (Jvm.Cond.initialized "Percolator") ∈ lw_all := lw_g (lw_at lw_m1 1 rfl) rfl
theorem q25 : (Jvm.Cond.instantiable "Percolator" (17 : Nat)) ∈ lw_all := lw_g (lw_at lw_m1 4 rfl) rfl
theorem q27 : (Jvm.Cond.instanceMethod ({ cls := "Percolator", name := "<init>", desc := "()V" } : Jvm.MethodName)) ∈ lw_all := lw_g (lw_at lw_m1 6 rfl) rfl
theorem q28 : (Jvm.Cond.code ({ cls := "Percolator", name := "<init>", desc := "()V" } : Jvm.MethodName) prog_1_method_1_code (1 : Nat) (Option.none : Option Jvm.ClassFile.FieldType)) ∈ lw_all := lw_g (lw_at lw_m1 7 rfl) rfl
theorem q29 : (Jvm.Cond.methodLink "Percolator" (1 : Nat) ({ cls := "java/lang/Object", name := "<init>", desc := "()V" } : Jvm.MethodName)) ∈ lw_all := lw_g (lw_at lw_m1 8 rfl) rfl
theorem q32 : (Jvm.Cond.fieldLink "Percolator" (7 : Nat) "Percolator" "used" "[Z") ∈ lw_all := lw_g (lw_at lw_m1 11 rfl) rfl
theorem q33 : (Jvm.Cond.fieldLink "Percolator" (13 : Nat) "Percolator" "least" "[I") ∈ lw_all := lw_g (lw_at lw_m1 12 rfl) rfl
theorem q34 : (Jvm.Cond.fieldLink "Percolator" (17 : Nat) "Percolator" "clauses" "[I") ∈ lw_all := lw_g (lw_at lw_m1 13 rfl) rfl
theorem q35 : (Jvm.Cond.fieldLink "Percolator" (20 : Nat) "Percolator" "kind" "[I") ∈ lw_all := lw_g (lw_at lw_m1 14 rfl) rfl
theorem q36 : (Jvm.Cond.fieldLink "Percolator" (23 : Nat) "Percolator" "first" "[I") ∈ lw_all := lw_g (lw_at lw_m1 15 rfl) rfl
theorem q37 : (Jvm.Cond.fieldLink "Percolator" (26 : Nat) "Percolator" "second" "[I") ∈ lw_all := lw_g (lw_at lw_m1 16 rfl) rfl
theorem q38 : (Jvm.Cond.fieldLink "Percolator" (29 : Nat) "Percolator" "filed" "[I") ∈ lw_all := lw_g (lw_at lw_m1 17 rfl) rfl
theorem q39 : (Jvm.Cond.fieldLink "Percolator" (51 : Nat) "Percolator" "always" "I") ∈ lw_all := lw_g (lw_at lw_m1 18 rfl) rfl
theorem q40 : (Jvm.Cond.fieldLink "Percolator" (32 : Nat) "Percolator" "askedFor" "[I") ∈ lw_all := lw_g (lw_at lw_m1 19 rfl) rfl
theorem q41 : (Jvm.Cond.fieldLink "Percolator" (87 : Nat) "Percolator" "words" "I") ∈ lw_all := lw_g (lw_at lw_m1 20 rfl) rfl
theorem q42 : (Jvm.Cond.fieldLink "Percolator" (90 : Nat) "Percolator" "number" "I") ∈ lw_all := lw_g (lw_at lw_m1 21 rfl) rfl
theorem q43 : (Jvm.Cond.fieldLink "Percolator" (47 : Nat) "Percolator" "lastWord" "I") ∈ lw_all := lw_g (lw_at lw_m1 22 rfl) rfl
theorem q44 : (Jvm.Cond.fieldLink "Percolator" (35 : Nat) "Percolator" "counts" "[I") ∈ lw_all := lw_g (lw_at lw_m1 23 rfl) rfl
theorem q45 : (Jvm.Cond.fieldLink "Percolator" (38 : Nat) "Percolator" "behind" "[I") ∈ lw_all := lw_g (lw_at lw_m1 24 rfl) rfl
theorem q46 : (Jvm.Cond.fieldLink "Percolator" (99 : Nat) "Percolator" "found" "I") ∈ lw_all := lw_g (lw_at lw_m1 25 rfl) rfl
theorem q47 : (Jvm.Cond.fieldLink "Percolator" (41 : Nat) "Percolator" "foundQuery" "[I") ∈ lw_all := lw_g (lw_at lw_m1 26 rfl) rfl
theorem q48 : (Jvm.Cond.fieldLink "Percolator" (44 : Nat) "Percolator" "foundScore" "[I") ∈ lw_all := lw_g (lw_at lw_m1 27 rfl) rfl
theorem q49 : (Jvm.Cond.laysFinal "Percolator" "Percolator" "used" "[Z") ∈ lw_all := lw_g (lw_at lw_m1 28 rfl) rfl
theorem q50 : (Jvm.Cond.soleField "Percolator" "used") ∈ lw_all := lw_g (lw_at lw_m1 29 rfl) rfl
theorem q51 : (Jvm.Cond.laysFinal "Percolator" "Percolator" "least" "[I") ∈ lw_all := lw_g (lw_at lw_m1 30 rfl) rfl
theorem q52 : (Jvm.Cond.soleField "Percolator" "least") ∈ lw_all := lw_g (lw_at lw_m1 31 rfl) rfl
theorem q53 : (Jvm.Cond.laysFinal "Percolator" "Percolator" "clauses" "[I") ∈ lw_all := lw_g (lw_at lw_m1 32 rfl) rfl
theorem q54 : (Jvm.Cond.soleField "Percolator" "clauses") ∈ lw_all := lw_g (lw_at lw_m1 33 rfl) rfl
theorem q55 : (Jvm.Cond.laysFinal "Percolator" "Percolator" "kind" "[I") ∈ lw_all := lw_g (lw_at lw_m1 34 rfl) rfl
theorem q56 : (Jvm.Cond.soleField "Percolator" "kind") ∈ lw_all := lw_g (lw_at lw_m1 35 rfl) rfl
theorem q57 : (Jvm.Cond.laysFinal "Percolator" "Percolator" "first" "[I") ∈ lw_all := lw_g (lw_at lw_m1 36 rfl) rfl
theorem q58 : (Jvm.Cond.soleField "Percolator" "first") ∈ lw_all := lw_g (lw_at lw_m1 37 rfl) rfl
theorem q59 : (Jvm.Cond.laysFinal "Percolator" "Percolator" "second" "[I") ∈ lw_all := lw_g (lw_at lw_m1 38 rfl) rfl
theorem q60 : (Jvm.Cond.soleField "Percolator" "second") ∈ lw_all := lw_g (lw_at lw_m1 39 rfl) rfl
theorem q61 : (Jvm.Cond.laysFinal "Percolator" "Percolator" "filed" "[I") ∈ lw_all := lw_g (lw_at lw_m1 40 rfl) rfl
theorem q62 : (Jvm.Cond.soleField "Percolator" "filed") ∈ lw_all := lw_g (lw_at lw_m1 41 rfl) rfl
theorem q63 : (Jvm.Cond.lays "Percolator" "Percolator" "always" "I") ∈ lw_all := lw_g (lw_at lw_m1 42 rfl) rfl
theorem q64 : (Jvm.Cond.soleField "Percolator" "always") ∈ lw_all := lw_g (lw_at lw_m1 43 rfl) rfl
theorem q65 : (Jvm.Cond.laysFinal "Percolator" "Percolator" "askedFor" "[I") ∈ lw_all := lw_g (lw_at lw_m1 44 rfl) rfl
theorem q66 : (Jvm.Cond.soleField "Percolator" "askedFor") ∈ lw_all := lw_g (lw_at lw_m1 45 rfl) rfl
theorem q67 : (Jvm.Cond.lays "Percolator" "Percolator" "words" "I") ∈ lw_all := lw_g (lw_at lw_m1 46 rfl) rfl
theorem q68 : (Jvm.Cond.soleField "Percolator" "words") ∈ lw_all := lw_g (lw_at lw_m1 47 rfl) rfl
theorem q69 : (Jvm.Cond.lays "Percolator" "Percolator" "number" "I") ∈ lw_all := lw_g (lw_at lw_m1 48 rfl) rfl
theorem q70 : (Jvm.Cond.soleField "Percolator" "number") ∈ lw_all := lw_g (lw_at lw_m1 49 rfl) rfl
theorem q71 : (Jvm.Cond.lays "Percolator" "Percolator" "lastWord" "I") ∈ lw_all := lw_g (lw_at lw_m1 50 rfl) rfl
theorem q72 : (Jvm.Cond.soleField "Percolator" "lastWord") ∈ lw_all := lw_g (lw_at lw_m1 51 rfl) rfl
theorem q73 : (Jvm.Cond.laysFinal "Percolator" "Percolator" "counts" "[I") ∈ lw_all := lw_g (lw_at lw_m1 52 rfl) rfl
theorem q74 : (Jvm.Cond.soleField "Percolator" "counts") ∈ lw_all := lw_g (lw_at lw_m1 53 rfl) rfl
theorem q75 : (Jvm.Cond.laysFinal "Percolator" "Percolator" "behind" "[I") ∈ lw_all := lw_g (lw_at lw_m1 54 rfl) rfl
theorem q76 : (Jvm.Cond.soleField "Percolator" "behind") ∈ lw_all := lw_g (lw_at lw_m1 55 rfl) rfl
theorem q77 : (Jvm.Cond.lays "Percolator" "Percolator" "found" "I") ∈ lw_all := lw_g (lw_at lw_m1 56 rfl) rfl
theorem q78 : (Jvm.Cond.soleField "Percolator" "found") ∈ lw_all := lw_g (lw_at lw_m1 57 rfl) rfl
theorem q79 : (Jvm.Cond.laysFinal "Percolator" "Percolator" "foundQuery" "[I") ∈ lw_all := lw_g (lw_at lw_m1 58 rfl) rfl
theorem q80 : (Jvm.Cond.soleField "Percolator" "foundQuery") ∈ lw_all := lw_g (lw_at lw_m1 59 rfl) rfl
theorem q81 : (Jvm.Cond.laysFinal "Percolator" "Percolator" "foundScore" "[I") ∈ lw_all := lw_g (lw_at lw_m1 60 rfl) rfl
theorem q82 : (Jvm.Cond.soleField "Percolator" "foundScore") ∈ lw_all := lw_g (lw_at lw_m1 61 rfl) rfl
theorem q83 : (Jvm.Cond.superclass "Percolator" "java/lang/Object") ∈ lw_all := lw_g (lw_at lw_m1 62 rfl) rfl
theorem q87 : (Jvm.Cond.instanceMethod ({ cls := "Percolator", name := "create", desc := "(I)I" } : Jvm.MethodName)) ∈ lw_all := lw_g (lw_at lw_m1 66 rfl) rfl
theorem q88 : (Jvm.Cond.selects "Percolator" ({ cls := "Percolator", name := "create", desc := "(I)I" } : Jvm.MethodName) ({ cls := "Percolator", name := "create", desc := "(I)I" } : Jvm.MethodName)) ∈ lw_all := lw_g (lw_at lw_m1 67 rfl) rfl
theorem q89 : (Jvm.Cond.code ({ cls := "Percolator", name := "create", desc := "(I)I" } : Jvm.MethodName) prog_1_method_9_code (3 : Nat) (Option.some Jvm.ClassFile.FieldType.int)) ∈ lw_all := lw_g (lw_at lw_m1 68 rfl) rfl
theorem q90 : (Jvm.Cond.methodLink "Percolator" (66 : Nat) ({ cls := "Percolator", name := "file", desc := "(I)V" } : Jvm.MethodName)) ∈ lw_all := lw_g (lw_at lw_m1 69 rfl) rfl
theorem q91 : (Jvm.Cond.privateMethod ({ cls := "Percolator", name := "file", desc := "(I)V" } : Jvm.MethodName)) ∈ lw_tbl := lw_at lw_m1 70 rfl
theorem q92 : (Jvm.Cond.instanceMethod ({ cls := "Percolator", name := "file", desc := "(I)V" } : Jvm.MethodName)) ∈ lw_all := lw_g (lw_at lw_m1 71 rfl) rfl
theorem q93 : (Jvm.Cond.code ({ cls := "Percolator", name := "file", desc := "(I)V" } : Jvm.MethodName) prog_1_method_8_code (4 : Nat) (Option.none : Option Jvm.ClassFile.FieldType)) ∈ lw_all := lw_g (lw_at lw_m1 72 rfl) rfl
theorem q94 : (Jvm.Cond.methodLink "Percolator" (54 : Nat) ({ cls := "Percolator", name := "count", desc := "(II)V" } : Jvm.MethodName)) ∈ lw_all := lw_g (lw_at lw_m1 73 rfl) rfl
theorem q95 : (Jvm.Cond.privateMethod ({ cls := "Percolator", name := "count", desc := "(II)V" } : Jvm.MethodName)) ∈ lw_tbl := lw_at lw_m1 74 rfl
theorem q96 : (Jvm.Cond.instanceMethod ({ cls := "Percolator", name := "count", desc := "(II)V" } : Jvm.MethodName)) ∈ lw_all := lw_g (lw_at lw_m1 75 rfl) rfl
theorem q97 : (Jvm.Cond.code ({ cls := "Percolator", name := "count", desc := "(II)V" } : Jvm.MethodName) prog_1_method_6_code (4 : Nat) (Option.none : Option Jvm.ClassFile.FieldType)) ∈ lw_all := lw_g (lw_at lw_m1 76 rfl) rfl
theorem q98 : (Jvm.Cond.methodLink "Percolator" (58 : Nat) ({ cls := "Percolator", name := "sure", desc := "(I)Z" } : Jvm.MethodName)) ∈ lw_all := lw_g (lw_at lw_m1 77 rfl) rfl
theorem q99 : (Jvm.Cond.privateMethod ({ cls := "Percolator", name := "sure", desc := "(I)Z" } : Jvm.MethodName)) ∈ lw_tbl := lw_at lw_m1 78 rfl
theorem q100 : (Jvm.Cond.instanceMethod ({ cls := "Percolator", name := "sure", desc := "(I)Z" } : Jvm.MethodName)) ∈ lw_all := lw_g (lw_at lw_m1 79 rfl) rfl
theorem q101 : (Jvm.Cond.code ({ cls := "Percolator", name := "sure", desc := "(I)Z" } : Jvm.MethodName) prog_1_method_4_code (2 : Nat) (Option.some Jvm.ClassFile.FieldType.boolean)) ∈ lw_all := lw_g (lw_at lw_m1 80 rfl) rfl
theorem q102 : (Jvm.Cond.methodLink "Percolator" (62 : Nat) ({ cls := "Percolator", name := "rarest", desc := "(I)I" } : Jvm.MethodName)) ∈ lw_all := lw_g (lw_at lw_m1 81 rfl) rfl
theorem q103 : (Jvm.Cond.privateMethod ({ cls := "Percolator", name := "rarest", desc := "(I)I" } : Jvm.MethodName)) ∈ lw_tbl := lw_at lw_m1 82 rfl
theorem q104 : (Jvm.Cond.instanceMethod ({ cls := "Percolator", name := "rarest", desc := "(I)I" } : Jvm.MethodName)) ∈ lw_all := lw_g (lw_at lw_m1 83 rfl) rfl
theorem q105 : (Jvm.Cond.code ({ cls := "Percolator", name := "rarest", desc := "(I)I" } : Jvm.MethodName) prog_1_method_7_code (4 : Nat) (Option.some Jvm.ClassFile.FieldType.int)) ∈ lw_all := lw_g (lw_at lw_m1 84 rfl) rfl
theorem q107 : (Jvm.Cond.instanceMethod ({ cls := "Percolator", name := "must", desc := "(II)I" } : Jvm.MethodName)) ∈ lw_all := lw_g (lw_at lw_m1 86 rfl) rfl
theorem q108 : (Jvm.Cond.selects "Percolator" ({ cls := "Percolator", name := "must", desc := "(II)I" } : Jvm.MethodName) ({ cls := "Percolator", name := "must", desc := "(II)I" } : Jvm.MethodName)) ∈ lw_all := lw_g (lw_at lw_m1 87 rfl) rfl
theorem q109 : (Jvm.Cond.code ({ cls := "Percolator", name := "must", desc := "(II)I" } : Jvm.MethodName) prog_1_method_12_code (3 : Nat) (Option.some Jvm.ClassFile.FieldType.int)) ∈ lw_all := lw_g (lw_at lw_m1 88 rfl) rfl
theorem q110 : (Jvm.Cond.methodLink "Percolator" (83 : Nat) ({ cls := "Percolator", name := "addTerm", desc := "(III)I" } : Jvm.MethodName)) ∈ lw_all := lw_g (lw_at lw_m1 89 rfl) rfl
theorem q111 : (Jvm.Cond.privateMethod ({ cls := "Percolator", name := "addTerm", desc := "(III)I" } : Jvm.MethodName)) ∈ lw_tbl := lw_at lw_m1 90 rfl
theorem q112 : (Jvm.Cond.instanceMethod ({ cls := "Percolator", name := "addTerm", desc := "(III)I" } : Jvm.MethodName)) ∈ lw_all := lw_g (lw_at lw_m1 91 rfl) rfl
theorem q113 : (Jvm.Cond.code ({ cls := "Percolator", name := "addTerm", desc := "(III)I" } : Jvm.MethodName) prog_1_method_11_code (4 : Nat) (Option.some Jvm.ClassFile.FieldType.int)) ∈ lw_all := lw_g (lw_at lw_m1 92 rfl) rfl
theorem q114 : (Jvm.Cond.methodLink "Percolator" (73 : Nat) ({ cls := "Percolator", name := "noQuery", desc := "(I)Z" } : Jvm.MethodName)) ∈ lw_all := lw_g (lw_at lw_m1 93 rfl) rfl
theorem q115 : (Jvm.Cond.privateMethod ({ cls := "Percolator", name := "noQuery", desc := "(I)Z" } : Jvm.MethodName)) ∈ lw_tbl := lw_at lw_m1 94 rfl
theorem q116 : (Jvm.Cond.instanceMethod ({ cls := "Percolator", name := "noQuery", desc := "(I)Z" } : Jvm.MethodName)) ∈ lw_all := lw_g (lw_at lw_m1 95 rfl) rfl
theorem q117 : (Jvm.Cond.code ({ cls := "Percolator", name := "noQuery", desc := "(I)Z" } : Jvm.MethodName) prog_1_method_2_code (2 : Nat) (Option.some Jvm.ClassFile.FieldType.boolean)) ∈ lw_all := lw_g (lw_at lw_m1 96 rfl) rfl
theorem q118 : (Jvm.Cond.methodLink "Percolator" (76 : Nat) ({ cls := "Percolator", name := "badTerm", desc := "(I)Z" } : Jvm.MethodName)) ∈ lw_all := lw_g (lw_at lw_m1 97 rfl) rfl
theorem q119 : (Jvm.Cond.static ({ cls := "Percolator", name := "badTerm", desc := "(I)Z" } : Jvm.MethodName)) ∈ lw_all := lw_g (lw_at lw_m1 98 rfl) rfl
theorem q120 : (Jvm.Cond.code ({ cls := "Percolator", name := "badTerm", desc := "(I)Z" } : Jvm.MethodName) prog_1_method_3_code (1 : Nat) (Option.some Jvm.ClassFile.FieldType.boolean)) ∈ lw_all := lw_g (lw_at lw_m1 99 rfl) rfl
theorem q121 : (Jvm.Cond.methodLink "Percolator" (79 : Nat) ({ cls := "Percolator", name := "add", desc := "(IIII)I" } : Jvm.MethodName)) ∈ lw_all := lw_g (lw_at lw_m1 100 rfl) rfl
theorem q122 : (Jvm.Cond.privateMethod ({ cls := "Percolator", name := "add", desc := "(IIII)I" } : Jvm.MethodName)) ∈ lw_tbl := lw_at lw_m1 101 rfl
theorem q123 : (Jvm.Cond.instanceMethod ({ cls := "Percolator", name := "add", desc := "(IIII)I" } : Jvm.MethodName)) ∈ lw_all := lw_g (lw_at lw_m1 102 rfl) rfl
theorem q124 : (Jvm.Cond.code ({ cls := "Percolator", name := "add", desc := "(IIII)I" } : Jvm.MethodName) prog_1_method_10_code (6 : Nat) (Option.some Jvm.ClassFile.FieldType.int)) ∈ lw_all := lw_g (lw_at lw_m1 103 rfl) rfl
theorem q125 : (Jvm.Cond.methodLink "Percolator" (70 : Nat) ({ cls := "Percolator", name := "unfile", desc := "(I)V" } : Jvm.MethodName)) ∈ lw_all := lw_g (lw_at lw_m1 104 rfl) rfl
theorem q126 : (Jvm.Cond.privateMethod ({ cls := "Percolator", name := "unfile", desc := "(I)V" } : Jvm.MethodName)) ∈ lw_tbl := lw_at lw_m1 105 rfl
theorem q127 : (Jvm.Cond.instanceMethod ({ cls := "Percolator", name := "unfile", desc := "(I)V" } : Jvm.MethodName)) ∈ lw_all := lw_g (lw_at lw_m1 106 rfl) rfl
theorem q128 : (Jvm.Cond.code ({ cls := "Percolator", name := "unfile", desc := "(I)V" } : Jvm.MethodName) prog_1_method_5_code (3 : Nat) (Option.none : Option Jvm.ClassFile.FieldType)) ∈ lw_all := lw_g (lw_at lw_m1 107 rfl) rfl
theorem q130 : (Jvm.Cond.instanceMethod ({ cls := "Percolator", name := "not", desc := "(II)I" } : Jvm.MethodName)) ∈ lw_all := lw_g (lw_at lw_m1 109 rfl) rfl
theorem q131 : (Jvm.Cond.selects "Percolator" ({ cls := "Percolator", name := "not", desc := "(II)I" } : Jvm.MethodName) ({ cls := "Percolator", name := "not", desc := "(II)I" } : Jvm.MethodName)) ∈ lw_all := lw_g (lw_at lw_m1 110 rfl) rfl
theorem q132 : (Jvm.Cond.code ({ cls := "Percolator", name := "not", desc := "(II)I" } : Jvm.MethodName) prog_1_method_13_code (3 : Nat) (Option.some Jvm.ClassFile.FieldType.int)) ∈ lw_all := lw_g (lw_at lw_m1 111 rfl) rfl
theorem q134 : (Jvm.Cond.instanceMethod ({ cls := "Percolator", name := "should", desc := "(II)I" } : Jvm.MethodName)) ∈ lw_all := lw_g (lw_at lw_m1 113 rfl) rfl
theorem q135 : (Jvm.Cond.selects "Percolator" ({ cls := "Percolator", name := "should", desc := "(II)I" } : Jvm.MethodName) ({ cls := "Percolator", name := "should", desc := "(II)I" } : Jvm.MethodName)) ∈ lw_all := lw_g (lw_at lw_m1 114 rfl) rfl
theorem q136 : (Jvm.Cond.code ({ cls := "Percolator", name := "should", desc := "(II)I" } : Jvm.MethodName) prog_1_method_14_code (3 : Nat) (Option.some Jvm.ClassFile.FieldType.int)) ∈ lw_all := lw_g (lw_at lw_m1 115 rfl) rfl
theorem q138 : (Jvm.Cond.instanceMethod ({ cls := "Percolator", name := "phrase", desc := "(III)I" } : Jvm.MethodName)) ∈ lw_all := lw_g (lw_at lw_m1 117 rfl) rfl
theorem q139 : (Jvm.Cond.selects "Percolator" ({ cls := "Percolator", name := "phrase", desc := "(III)I" } : Jvm.MethodName) ({ cls := "Percolator", name := "phrase", desc := "(III)I" } : Jvm.MethodName)) ∈ lw_all := lw_g (lw_at lw_m1 118 rfl) rfl
theorem q140 : (Jvm.Cond.code ({ cls := "Percolator", name := "phrase", desc := "(III)I" } : Jvm.MethodName) prog_1_method_15_code (4 : Nat) (Option.some Jvm.ClassFile.FieldType.int)) ∈ lw_all := lw_g (lw_at lw_m1 119 rfl) rfl
theorem q142 : (Jvm.Cond.instanceMethod ({ cls := "Percolator", name := "range", desc := "(III)I" } : Jvm.MethodName)) ∈ lw_all := lw_g (lw_at lw_m1 121 rfl) rfl
theorem q143 : (Jvm.Cond.selects "Percolator" ({ cls := "Percolator", name := "range", desc := "(III)I" } : Jvm.MethodName) ({ cls := "Percolator", name := "range", desc := "(III)I" } : Jvm.MethodName)) ∈ lw_all := lw_g (lw_at lw_m1 122 rfl) rfl
theorem q144 : (Jvm.Cond.code ({ cls := "Percolator", name := "range", desc := "(III)I" } : Jvm.MethodName) prog_1_method_16_code (4 : Nat) (Option.some Jvm.ClassFile.FieldType.int)) ∈ lw_all := lw_g (lw_at lw_m1 123 rfl) rfl
theorem q146 : (Jvm.Cond.instanceMethod ({ cls := "Percolator", name := "remove", desc := "(I)I" } : Jvm.MethodName)) ∈ lw_all := lw_g (lw_at lw_m1 125 rfl) rfl
theorem q147 : (Jvm.Cond.selects "Percolator" ({ cls := "Percolator", name := "remove", desc := "(I)I" } : Jvm.MethodName) ({ cls := "Percolator", name := "remove", desc := "(I)I" } : Jvm.MethodName)) ∈ lw_all := lw_g (lw_at lw_m1 126 rfl) rfl
theorem q148 : (Jvm.Cond.code ({ cls := "Percolator", name := "remove", desc := "(I)I" } : Jvm.MethodName) prog_1_method_17_code (4 : Nat) (Option.some Jvm.ClassFile.FieldType.int)) ∈ lw_all := lw_g (lw_at lw_m1 127 rfl) rfl
theorem q150 : (Jvm.Cond.instanceMethod ({ cls := "Percolator", name := "word", desc := "(I)I" } : Jvm.MethodName)) ∈ lw_all := lw_g (lw_at lw_m1 129 rfl) rfl
theorem q151 : (Jvm.Cond.selects "Percolator" ({ cls := "Percolator", name := "word", desc := "(I)I" } : Jvm.MethodName) ({ cls := "Percolator", name := "word", desc := "(I)I" } : Jvm.MethodName)) ∈ lw_all := lw_g (lw_at lw_m1 130 rfl) rfl
theorem q152 : (Jvm.Cond.code ({ cls := "Percolator", name := "word", desc := "(I)I" } : Jvm.MethodName) prog_1_method_18_code (2 : Nat) (Option.some Jvm.ClassFile.FieldType.int)) ∈ lw_all := lw_g (lw_at lw_m1 131 rfl) rfl
theorem q154 : (Jvm.Cond.instanceMethod ({ cls := "Percolator", name := "document", desc := "(I)V" } : Jvm.MethodName)) ∈ lw_all := lw_g (lw_at lw_m1 133 rfl) rfl
theorem q155 : (Jvm.Cond.selects "Percolator" ({ cls := "Percolator", name := "document", desc := "(I)V" } : Jvm.MethodName) ({ cls := "Percolator", name := "document", desc := "(I)V" } : Jvm.MethodName)) ∈ lw_all := lw_g (lw_at lw_m1 134 rfl) rfl
theorem q156 : (Jvm.Cond.code ({ cls := "Percolator", name := "document", desc := "(I)V" } : Jvm.MethodName) prog_1_method_19_code (3 : Nat) (Option.none : Option Jvm.ClassFile.FieldType)) ∈ lw_all := lw_g (lw_at lw_m1 135 rfl) rfl
theorem q158 : (Jvm.Cond.instanceMethod ({ cls := "Percolator", name := "matches", desc := "()I" } : Jvm.MethodName)) ∈ lw_all := lw_g (lw_at lw_m1 137 rfl) rfl
theorem q159 : (Jvm.Cond.selects "Percolator" ({ cls := "Percolator", name := "matches", desc := "()I" } : Jvm.MethodName) ({ cls := "Percolator", name := "matches", desc := "()I" } : Jvm.MethodName)) ∈ lw_all := lw_g (lw_at lw_m1 138 rfl) rfl
theorem q160 : (Jvm.Cond.code ({ cls := "Percolator", name := "matches", desc := "()I" } : Jvm.MethodName) prog_1_method_25_code (1 : Nat) (Option.some Jvm.ClassFile.FieldType.int)) ∈ lw_all := lw_g (lw_at lw_m1 139 rfl) rfl
theorem q161 : (Jvm.Cond.methodLink "Percolator" (108 : Nat) ({ cls := "Percolator", name := "percolate", desc := "()V" } : Jvm.MethodName)) ∈ lw_all := lw_g (lw_at lw_m1 140 rfl) rfl
theorem q162 : (Jvm.Cond.privateMethod ({ cls := "Percolator", name := "percolate", desc := "()V" } : Jvm.MethodName)) ∈ lw_tbl := lw_at lw_m1 141 rfl
theorem q163 : (Jvm.Cond.instanceMethod ({ cls := "Percolator", name := "percolate", desc := "()V" } : Jvm.MethodName)) ∈ lw_all := lw_g (lw_at lw_m1 142 rfl) rfl
theorem q164 : (Jvm.Cond.code ({ cls := "Percolator", name := "percolate", desc := "()V" } : Jvm.MethodName) prog_1_method_24_code (4 : Nat) (Option.none : Option Jvm.ClassFile.FieldType)) ∈ lw_all := lw_g (lw_at lw_m1 143 rfl) rfl
theorem q165 : (Jvm.Cond.methodLink "Percolator" (102 : Nat) ({ cls := "Percolator", name := "check", desc := "(I)Z" } : Jvm.MethodName)) ∈ lw_all := lw_g (lw_at lw_m1 144 rfl) rfl
theorem q166 : (Jvm.Cond.privateMethod ({ cls := "Percolator", name := "check", desc := "(I)Z" } : Jvm.MethodName)) ∈ lw_tbl := lw_at lw_m1 145 rfl
theorem q167 : (Jvm.Cond.instanceMethod ({ cls := "Percolator", name := "check", desc := "(I)Z" } : Jvm.MethodName)) ∈ lw_all := lw_g (lw_at lw_m1 146 rfl) rfl
theorem q168 : (Jvm.Cond.code ({ cls := "Percolator", name := "check", desc := "(I)Z" } : Jvm.MethodName) prog_1_method_21_code (5 : Nat) (Option.some Jvm.ClassFile.FieldType.boolean)) ∈ lw_all := lw_g (lw_at lw_m1 147 rfl) rfl
theorem q169 : (Jvm.Cond.methodLink "Percolator" (93 : Nat) ({ cls := "Percolator", name := "holds", desc := "(I)Z" } : Jvm.MethodName)) ∈ lw_all := lw_g (lw_at lw_m1 148 rfl) rfl
theorem q170 : (Jvm.Cond.privateMethod ({ cls := "Percolator", name := "holds", desc := "(I)Z" } : Jvm.MethodName)) ∈ lw_tbl := lw_at lw_m1 149 rfl
theorem q171 : (Jvm.Cond.instanceMethod ({ cls := "Percolator", name := "holds", desc := "(I)Z" } : Jvm.MethodName)) ∈ lw_all := lw_g (lw_at lw_m1 150 rfl) rfl
theorem q172 : (Jvm.Cond.code ({ cls := "Percolator", name := "holds", desc := "(I)Z" } : Jvm.MethodName) prog_1_method_20_code (2 : Nat) (Option.some Jvm.ClassFile.FieldType.boolean)) ∈ lw_all := lw_g (lw_at lw_m1 151 rfl) rfl
theorem q173 : (Jvm.Cond.methodLink "Percolator" (105 : Nat) ({ cls := "Percolator", name := "keep", desc := "(I)V" } : Jvm.MethodName)) ∈ lw_all := lw_g (lw_at lw_m1 152 rfl) rfl
theorem q174 : (Jvm.Cond.privateMethod ({ cls := "Percolator", name := "keep", desc := "(I)V" } : Jvm.MethodName)) ∈ lw_tbl := lw_at lw_m1 153 rfl
theorem q175 : (Jvm.Cond.instanceMethod ({ cls := "Percolator", name := "keep", desc := "(I)V" } : Jvm.MethodName)) ∈ lw_all := lw_g (lw_at lw_m1 154 rfl) rfl
theorem q176 : (Jvm.Cond.code ({ cls := "Percolator", name := "keep", desc := "(I)V" } : Jvm.MethodName) prog_1_method_23_code (4 : Nat) (Option.none : Option Jvm.ClassFile.FieldType)) ∈ lw_all := lw_g (lw_at lw_m1 155 rfl) rfl
theorem q177 : (Jvm.Cond.methodLink "Percolator" (96 : Nat) ({ cls := "Percolator", name := "scoreOf", desc := "(I)I" } : Jvm.MethodName)) ∈ lw_all := lw_g (lw_at lw_m1 156 rfl) rfl
theorem q178 : (Jvm.Cond.privateMethod ({ cls := "Percolator", name := "scoreOf", desc := "(I)I" } : Jvm.MethodName)) ∈ lw_tbl := lw_at lw_m1 157 rfl
theorem q179 : (Jvm.Cond.instanceMethod ({ cls := "Percolator", name := "scoreOf", desc := "(I)I" } : Jvm.MethodName)) ∈ lw_all := lw_g (lw_at lw_m1 158 rfl) rfl
theorem q180 : (Jvm.Cond.code ({ cls := "Percolator", name := "scoreOf", desc := "(I)I" } : Jvm.MethodName) prog_1_method_22_code (4 : Nat) (Option.some Jvm.ClassFile.FieldType.int)) ∈ lw_all := lw_g (lw_at lw_m1 159 rfl) rfl
theorem q182 : (Jvm.Cond.instanceMethod ({ cls := "Percolator", name := "match", desc := "(I)I" } : Jvm.MethodName)) ∈ lw_all := lw_g (lw_at lw_m1 161 rfl) rfl
theorem q183 : (Jvm.Cond.selects "Percolator" ({ cls := "Percolator", name := "match", desc := "(I)I" } : Jvm.MethodName) ({ cls := "Percolator", name := "match", desc := "(I)I" } : Jvm.MethodName)) ∈ lw_all := lw_g (lw_at lw_m1 162 rfl) rfl
theorem q184 : (Jvm.Cond.code ({ cls := "Percolator", name := "match", desc := "(I)I" } : Jvm.MethodName) prog_1_method_26_code (2 : Nat) (Option.some Jvm.ClassFile.FieldType.int)) ∈ lw_all := lw_g (lw_at lw_m1 163 rfl) rfl
theorem q186 : (Jvm.Cond.instanceMethod ({ cls := "Percolator", name := "score", desc := "(I)I" } : Jvm.MethodName)) ∈ lw_all := lw_g (lw_at lw_m1 165 rfl) rfl
theorem q187 : (Jvm.Cond.selects "Percolator" ({ cls := "Percolator", name := "score", desc := "(I)I" } : Jvm.MethodName) ({ cls := "Percolator", name := "score", desc := "(I)I" } : Jvm.MethodName)) ∈ lw_all := lw_g (lw_at lw_m1 166 rfl) rfl
theorem q188 : (Jvm.Cond.code ({ cls := "Percolator", name := "score", desc := "(I)I" } : Jvm.MethodName) prog_1_method_27_code (2 : Nat) (Option.some Jvm.ClassFile.FieldType.int)) ∈ lw_all := lw_g (lw_at lw_m1 167 rfl) rfl
theorem q190 : (Jvm.Cond.instanceMethod ({ cls := "Percolator", name := "matchesQuery", desc := "(I)Z" } : Jvm.MethodName)) ∈ lw_all := lw_g (lw_at lw_m1 169 rfl) rfl
theorem q191 : (Jvm.Cond.selects "Percolator" ({ cls := "Percolator", name := "matchesQuery", desc := "(I)Z" } : Jvm.MethodName) ({ cls := "Percolator", name := "matchesQuery", desc := "(I)Z" } : Jvm.MethodName)) ∈ lw_all := lw_g (lw_at lw_m1 170 rfl) rfl
theorem q192 : (Jvm.Cond.code ({ cls := "Percolator", name := "matchesQuery", desc := "(I)Z" } : Jvm.MethodName) prog_1_method_28_code (2 : Nat) (Option.some Jvm.ClassFile.FieldType.boolean)) ∈ lw_all := lw_g (lw_at lw_m1 171 rfl) rfl
theorem in_X0 : ∀ w ∈ wsX00, w ∈ lw_all := lw_in wsX00 [49, 51, 53, 55, 57, 59, 61, 63, 65, 67, 69, 71, 73, 75, 77, 79, 81] (by decide +kernel) (by decide +kernel)
end
section
/-! PercolatorModel -/
set_option maxRecDepth 100000
def RX1 : String := "PercolatorModel"
def TX1 : u_T := fun k => match k with
  | 0 => ("PercolatorModel", "stored", "[Z", true)
  | 1 => ("PercolatorModel", "leasts", "[I", true)
  | 2 => ("PercolatorModel", "clauses", "[I", true)
  | 3 => ("PercolatorModel", "kinds", "[I", true)
  | 4 => ("PercolatorModel", "firsts", "[I", true)
  | 5 => ("PercolatorModel", "seconds", "[I", true)
  | 6 => ("PercolatorModel", "words", "[I", true)
  | 7 => ("PercolatorModel", "length", "I", false)
  | _ => ("PercolatorModel", "number", "I", false)
def tyX1 : Nat → FieldType := fun k => match k with
  | 0 => .array .boolean
  | 1 => .array .int
  | 2 => .array .int
  | 3 => .array .int
  | 4 => .array .int
  | 5 => .array .int
  | 6 => .array .int
  | 7 => .int
  | _ => .int
abbrev wsX10 : List Cond := u_ws RX1 TX1 9
theorem nmX1 : ∀ a, a < 9 → ∀ b, b < 9 → a ≠ b → (TX1 a).2.1 ≠ (TX1 b).2.1 := by decide +kernel
theorem tyX1_ok : ∀ k, k < 9 → parseFieldDescriptor (TX1 k).2.2.1 = some (tyX1 k) := by decide +kernel
abbrev cX1_init : ByteArray := prog_3_method_1_code
def yX1_init : MethodName := ⟨RX1, "<init>", "()V"⟩
theorem dX1_init_0 : decode cX1_init 0 = .ok (.aload_n 0, 1) := by decide +kernel
theorem dX1_init_1 : decode cX1_init 1 = .ok (.invokespecial 1, 3) := by decide +kernel
theorem dX1_init_4 : decode cX1_init 4 = .ok (.aload_n 0, 1) := by decide +kernel
theorem dX1_init_5 : decode cX1_init 5 = .ok (.bipush 12, 2) := by decide +kernel
theorem dX1_init_7 : decode cX1_init 7 = .ok (.newarray .boolean, 2) := by decide +kernel
theorem dX1_init_9 : decode cX1_init 9 = .ok (.putfield 7, 3) := by decide +kernel
theorem dX1_init_12 : decode cX1_init 12 = .ok (.aload_n 0, 1) := by decide +kernel
theorem dX1_init_13 : decode cX1_init 13 = .ok (.bipush 12, 2) := by decide +kernel
theorem dX1_init_15 : decode cX1_init 15 = .ok (.newarray .int, 2) := by decide +kernel
theorem dX1_init_17 : decode cX1_init 17 = .ok (.putfield 13, 3) := by decide +kernel
theorem dX1_init_20 : decode cX1_init 20 = .ok (.aload_n 0, 1) := by decide +kernel
theorem dX1_init_21 : decode cX1_init 21 = .ok (.bipush 12, 2) := by decide +kernel
theorem dX1_init_23 : decode cX1_init 23 = .ok (.newarray .int, 2) := by decide +kernel
theorem dX1_init_25 : decode cX1_init 25 = .ok (.putfield 17, 3) := by decide +kernel
theorem dX1_init_28 : decode cX1_init 28 = .ok (.aload_n 0, 1) := by decide +kernel
theorem dX1_init_29 : decode cX1_init 29 = .ok (.bipush 72, 2) := by decide +kernel
theorem dX1_init_31 : decode cX1_init 31 = .ok (.newarray .int, 2) := by decide +kernel
theorem dX1_init_33 : decode cX1_init 33 = .ok (.putfield 20, 3) := by decide +kernel
theorem dX1_init_36 : decode cX1_init 36 = .ok (.aload_n 0, 1) := by decide +kernel
theorem dX1_init_37 : decode cX1_init 37 = .ok (.bipush 72, 2) := by decide +kernel
theorem dX1_init_39 : decode cX1_init 39 = .ok (.newarray .int, 2) := by decide +kernel
theorem dX1_init_41 : decode cX1_init 41 = .ok (.putfield 23, 3) := by decide +kernel
theorem dX1_init_44 : decode cX1_init 44 = .ok (.aload_n 0, 1) := by decide +kernel
theorem dX1_init_45 : decode cX1_init 45 = .ok (.bipush 72, 2) := by decide +kernel
theorem dX1_init_47 : decode cX1_init 47 = .ok (.newarray .int, 2) := by decide +kernel
theorem dX1_init_49 : decode cX1_init 49 = .ok (.putfield 26, 3) := by decide +kernel
theorem dX1_init_52 : decode cX1_init 52 = .ok (.aload_n 0, 1) := by decide +kernel
theorem dX1_init_53 : decode cX1_init 53 = .ok (.bipush 16, 2) := by decide +kernel
theorem dX1_init_55 : decode cX1_init 55 = .ok (.newarray .int, 2) := by decide +kernel
theorem dX1_init_57 : decode cX1_init 57 = .ok (.putfield 29, 3) := by decide +kernel
theorem dX1_init_60 : decode cX1_init 60 = .ok (.return_, 1) := by decide +kernel
abbrev cX1_create : ByteArray := prog_3_method_2_code
def yX1_create : MethodName := ⟨RX1, "create", "(I)I"⟩
theorem dX1_create_0 : decode cX1_create 0 = .ok (.iload_n 1, 1) := by decide +kernel
theorem dX1_create_1 : decode cX1_create 1 = .ok (.ifCond .lt 9, 3) := by decide +kernel
theorem dX1_create_4 : decode cX1_create 4 = .ok (.iload_n 1, 1) := by decide +kernel
theorem dX1_create_5 : decode cX1_create 5 = .ok (.bipush 6, 2) := by decide +kernel
theorem dX1_create_7 : decode cX1_create 7 = .ok (.if_icmp .le 6, 3) := by decide +kernel
theorem dX1_create_10 : decode cX1_create 10 = .ok (.bipush (-4), 2) := by decide +kernel
theorem dX1_create_12 : decode cX1_create 12 = .ok (.ireturn, 1) := by decide +kernel
theorem dX1_create_13 : decode cX1_create 13 = .ok (.iconst 0, 1) := by decide +kernel
theorem dX1_create_14 : decode cX1_create 14 = .ok (.istore_n 2, 1) := by decide +kernel
theorem dX1_create_15 : decode cX1_create 15 = .ok (.iload_n 2, 1) := by decide +kernel
theorem dX1_create_16 : decode cX1_create 16 = .ok (.bipush 12, 2) := by decide +kernel
theorem dX1_create_18 : decode cX1_create 18 = .ok (.if_icmp .ge 41, 3) := by decide +kernel
theorem dX1_create_21 : decode cX1_create 21 = .ok (.aload_n 0, 1) := by decide +kernel
theorem dX1_create_22 : decode cX1_create 22 = .ok (.getfield 7, 3) := by decide +kernel
theorem dX1_create_25 : decode cX1_create 25 = .ok (.iload_n 2, 1) := by decide +kernel
theorem dX1_create_26 : decode cX1_create 26 = .ok (.baload, 1) := by decide +kernel
theorem dX1_create_27 : decode cX1_create 27 = .ok (.ifCond .ne 26, 3) := by decide +kernel
theorem dX1_create_30 : decode cX1_create 30 = .ok (.aload_n 0, 1) := by decide +kernel
theorem dX1_create_31 : decode cX1_create 31 = .ok (.getfield 7, 3) := by decide +kernel
theorem dX1_create_34 : decode cX1_create 34 = .ok (.iload_n 2, 1) := by decide +kernel
theorem dX1_create_35 : decode cX1_create 35 = .ok (.iconst 1, 1) := by decide +kernel
theorem dX1_create_36 : decode cX1_create 36 = .ok (.bastore, 1) := by decide +kernel
theorem dX1_create_37 : decode cX1_create 37 = .ok (.aload_n 0, 1) := by decide +kernel
theorem dX1_create_38 : decode cX1_create 38 = .ok (.getfield 13, 3) := by decide +kernel
theorem dX1_create_41 : decode cX1_create 41 = .ok (.iload_n 2, 1) := by decide +kernel
theorem dX1_create_42 : decode cX1_create 42 = .ok (.iload_n 1, 1) := by decide +kernel
theorem dX1_create_43 : decode cX1_create 43 = .ok (.iastore, 1) := by decide +kernel
theorem dX1_create_44 : decode cX1_create 44 = .ok (.aload_n 0, 1) := by decide +kernel
theorem dX1_create_45 : decode cX1_create 45 = .ok (.getfield 17, 3) := by decide +kernel
theorem dX1_create_48 : decode cX1_create 48 = .ok (.iload_n 2, 1) := by decide +kernel
theorem dX1_create_49 : decode cX1_create 49 = .ok (.iconst 0, 1) := by decide +kernel
theorem dX1_create_50 : decode cX1_create 50 = .ok (.iastore, 1) := by decide +kernel
theorem dX1_create_51 : decode cX1_create 51 = .ok (.iload_n 2, 1) := by decide +kernel
theorem dX1_create_52 : decode cX1_create 52 = .ok (.ireturn, 1) := by decide +kernel
theorem dX1_create_53 : decode cX1_create 53 = .ok (.iinc 2 1, 3) := by decide +kernel
theorem dX1_create_56 : decode cX1_create 56 = .ok (.goto (-41), 3) := by decide +kernel
theorem dX1_create_59 : decode cX1_create 59 = .ok (.bipush (-3), 2) := by decide +kernel
theorem dX1_create_61 : decode cX1_create 61 = .ok (.ireturn, 1) := by decide +kernel
abbrev cX1_must : ByteArray := prog_3_method_6_code
def yX1_must : MethodName := ⟨RX1, "must", "(II)I"⟩
theorem dX1_must_0 : decode cX1_must 0 = .ok (.aload_n 0, 1) := by decide +kernel
theorem dX1_must_1 : decode cX1_must 1 = .ok (.iload_n 1, 1) := by decide +kernel
theorem dX1_must_2 : decode cX1_must 2 = .ok (.iconst 0, 1) := by decide +kernel
theorem dX1_must_3 : decode cX1_must 3 = .ok (.iload_n 2, 1) := by decide +kernel
theorem dX1_must_4 : decode cX1_must 4 = .ok (.iload_n 2, 1) := by decide +kernel
theorem dX1_must_5 : decode cX1_must 5 = .ok (.invokevirtual 39, 3) := by decide +kernel
theorem dX1_must_8 : decode cX1_must 8 = .ok (.ireturn, 1) := by decide +kernel
abbrev cX1_add : ByteArray := prog_3_method_5_code
def yX1_add : MethodName := ⟨RX1, "add", "(IIII)I"⟩
theorem dX1_add_0 : decode cX1_add 0 = .ok (.aload_n 0, 1) := by decide +kernel
theorem dX1_add_1 : decode cX1_add 1 = .ok (.iload_n 1, 1) := by decide +kernel
theorem dX1_add_2 : decode cX1_add 2 = .ok (.invokevirtual 32, 3) := by decide +kernel
theorem dX1_add_5 : decode cX1_add 5 = .ok (.ifCond .ne 5, 3) := by decide +kernel
theorem dX1_add_8 : decode cX1_add 8 = .ok (.iconst (-1), 1) := by decide +kernel
theorem dX1_add_9 : decode cX1_add 9 = .ok (.ireturn, 1) := by decide +kernel
theorem dX1_add_10 : decode cX1_add 10 = .ok (.iload_n 2, 1) := by decide +kernel
theorem dX1_add_11 : decode cX1_add 11 = .ok (.iconst 3, 1) := by decide +kernel
theorem dX1_add_12 : decode cX1_add 12 = .ok (.if_icmp .gt 23, 3) := by decide +kernel
theorem dX1_add_15 : decode cX1_add 15 = .ok (.aload_n 0, 1) := by decide +kernel
theorem dX1_add_16 : decode cX1_add 16 = .ok (.iload_n 3, 1) := by decide +kernel
theorem dX1_add_17 : decode cX1_add 17 = .ok (.invokevirtual 36, 3) := by decide +kernel
theorem dX1_add_20 : decode cX1_add 20 = .ok (.ifCond .eq 12, 3) := by decide +kernel
theorem dX1_add_23 : decode cX1_add 23 = .ok (.aload_n 0, 1) := by decide +kernel
theorem dX1_add_24 : decode cX1_add 24 = .ok (.iload 4, 2) := by decide +kernel
theorem dX1_add_26 : decode cX1_add 26 = .ok (.invokevirtual 36, 3) := by decide +kernel
theorem dX1_add_29 : decode cX1_add 29 = .ok (.ifCond .ne 6, 3) := by decide +kernel
theorem dX1_add_32 : decode cX1_add 32 = .ok (.bipush (-2), 2) := by decide +kernel
theorem dX1_add_34 : decode cX1_add 34 = .ok (.ireturn, 1) := by decide +kernel
theorem dX1_add_35 : decode cX1_add 35 = .ok (.aload_n 0, 1) := by decide +kernel
theorem dX1_add_36 : decode cX1_add 36 = .ok (.getfield 17, 3) := by decide +kernel
theorem dX1_add_39 : decode cX1_add 39 = .ok (.iload_n 1, 1) := by decide +kernel
theorem dX1_add_40 : decode cX1_add 40 = .ok (.iaload, 1) := by decide +kernel
theorem dX1_add_41 : decode cX1_add 41 = .ok (.bipush 6, 2) := by decide +kernel
theorem dX1_add_43 : decode cX1_add 43 = .ok (.if_icmp .ne 6, 3) := by decide +kernel
theorem dX1_add_46 : decode cX1_add 46 = .ok (.bipush (-3), 2) := by decide +kernel
theorem dX1_add_48 : decode cX1_add 48 = .ok (.ireturn, 1) := by decide +kernel
theorem dX1_add_49 : decode cX1_add 49 = .ok (.iload_n 1, 1) := by decide +kernel
theorem dX1_add_50 : decode cX1_add 50 = .ok (.bipush 6, 2) := by decide +kernel
theorem dX1_add_52 : decode cX1_add 52 = .ok (.imul, 1) := by decide +kernel
theorem dX1_add_53 : decode cX1_add 53 = .ok (.aload_n 0, 1) := by decide +kernel
theorem dX1_add_54 : decode cX1_add 54 = .ok (.getfield 17, 3) := by decide +kernel
theorem dX1_add_57 : decode cX1_add 57 = .ok (.iload_n 1, 1) := by decide +kernel
theorem dX1_add_58 : decode cX1_add 58 = .ok (.iaload, 1) := by decide +kernel
theorem dX1_add_59 : decode cX1_add 59 = .ok (.iadd, 1) := by decide +kernel
theorem dX1_add_60 : decode cX1_add 60 = .ok (.istore 5, 2) := by decide +kernel
theorem dX1_add_62 : decode cX1_add 62 = .ok (.aload_n 0, 1) := by decide +kernel
theorem dX1_add_63 : decode cX1_add 63 = .ok (.getfield 20, 3) := by decide +kernel
theorem dX1_add_66 : decode cX1_add 66 = .ok (.iload 5, 2) := by decide +kernel
theorem dX1_add_68 : decode cX1_add 68 = .ok (.iload_n 2, 1) := by decide +kernel
theorem dX1_add_69 : decode cX1_add 69 = .ok (.iastore, 1) := by decide +kernel
theorem dX1_add_70 : decode cX1_add 70 = .ok (.aload_n 0, 1) := by decide +kernel
theorem dX1_add_71 : decode cX1_add 71 = .ok (.getfield 23, 3) := by decide +kernel
theorem dX1_add_74 : decode cX1_add 74 = .ok (.iload 5, 2) := by decide +kernel
theorem dX1_add_76 : decode cX1_add 76 = .ok (.iload_n 3, 1) := by decide +kernel
theorem dX1_add_77 : decode cX1_add 77 = .ok (.iastore, 1) := by decide +kernel
theorem dX1_add_78 : decode cX1_add 78 = .ok (.aload_n 0, 1) := by decide +kernel
theorem dX1_add_79 : decode cX1_add 79 = .ok (.getfield 26, 3) := by decide +kernel
theorem dX1_add_82 : decode cX1_add 82 = .ok (.iload 5, 2) := by decide +kernel
theorem dX1_add_84 : decode cX1_add 84 = .ok (.iload 4, 2) := by decide +kernel
theorem dX1_add_86 : decode cX1_add 86 = .ok (.iastore, 1) := by decide +kernel
theorem dX1_add_87 : decode cX1_add 87 = .ok (.aload_n 0, 1) := by decide +kernel
theorem dX1_add_88 : decode cX1_add 88 = .ok (.getfield 17, 3) := by decide +kernel
theorem dX1_add_91 : decode cX1_add 91 = .ok (.iload_n 1, 1) := by decide +kernel
theorem dX1_add_92 : decode cX1_add 92 = .ok (.dup2, 1) := by decide +kernel
theorem dX1_add_93 : decode cX1_add 93 = .ok (.iaload, 1) := by decide +kernel
theorem dX1_add_94 : decode cX1_add 94 = .ok (.iconst 1, 1) := by decide +kernel
theorem dX1_add_95 : decode cX1_add 95 = .ok (.iadd, 1) := by decide +kernel
theorem dX1_add_96 : decode cX1_add 96 = .ok (.iastore, 1) := by decide +kernel
theorem dX1_add_97 : decode cX1_add 97 = .ok (.aload_n 0, 1) := by decide +kernel
theorem dX1_add_98 : decode cX1_add 98 = .ok (.getfield 17, 3) := by decide +kernel
theorem dX1_add_101 : decode cX1_add 101 = .ok (.iload_n 1, 1) := by decide +kernel
theorem dX1_add_102 : decode cX1_add 102 = .ok (.iaload, 1) := by decide +kernel
theorem dX1_add_103 : decode cX1_add 103 = .ok (.ireturn, 1) := by decide +kernel
abbrev cX1_isQuery : ByteArray := prog_3_method_3_code
def yX1_isQuery : MethodName := ⟨RX1, "isQuery", "(I)Z"⟩
theorem dX1_isQuery_0 : decode cX1_isQuery 0 = .ok (.iload_n 1, 1) := by decide +kernel
theorem dX1_isQuery_1 : decode cX1_isQuery 1 = .ok (.ifCond .lt 22, 3) := by decide +kernel
theorem dX1_isQuery_4 : decode cX1_isQuery 4 = .ok (.iload_n 1, 1) := by decide +kernel
theorem dX1_isQuery_5 : decode cX1_isQuery 5 = .ok (.bipush 12, 2) := by decide +kernel
theorem dX1_isQuery_7 : decode cX1_isQuery 7 = .ok (.if_icmp .ge 16, 3) := by decide +kernel
theorem dX1_isQuery_10 : decode cX1_isQuery 10 = .ok (.aload_n 0, 1) := by decide +kernel
theorem dX1_isQuery_11 : decode cX1_isQuery 11 = .ok (.getfield 7, 3) := by decide +kernel
theorem dX1_isQuery_14 : decode cX1_isQuery 14 = .ok (.iload_n 1, 1) := by decide +kernel
theorem dX1_isQuery_15 : decode cX1_isQuery 15 = .ok (.baload, 1) := by decide +kernel
theorem dX1_isQuery_16 : decode cX1_isQuery 16 = .ok (.ifCond .eq 7, 3) := by decide +kernel
theorem dX1_isQuery_19 : decode cX1_isQuery 19 = .ok (.iconst 1, 1) := by decide +kernel
theorem dX1_isQuery_20 : decode cX1_isQuery 20 = .ok (.goto 4, 3) := by decide +kernel
theorem dX1_isQuery_23 : decode cX1_isQuery 23 = .ok (.iconst 0, 1) := by decide +kernel
theorem dX1_isQuery_24 : decode cX1_isQuery 24 = .ok (.ireturn, 1) := by decide +kernel
abbrev cX1_isTerm : ByteArray := prog_3_method_4_code
def yX1_isTerm : MethodName := ⟨RX1, "isTerm", "(I)Z"⟩
theorem dX1_isTerm_0 : decode cX1_isTerm 0 = .ok (.iload_n 1, 1) := by decide +kernel
theorem dX1_isTerm_1 : decode cX1_isTerm 1 = .ok (.ifCond .lt 13, 3) := by decide +kernel
theorem dX1_isTerm_4 : decode cX1_isTerm 4 = .ok (.iload_n 1, 1) := by decide +kernel
theorem dX1_isTerm_5 : decode cX1_isTerm 5 = .ok (.bipush 24, 2) := by decide +kernel
theorem dX1_isTerm_7 : decode cX1_isTerm 7 = .ok (.if_icmp .ge 7, 3) := by decide +kernel
theorem dX1_isTerm_10 : decode cX1_isTerm 10 = .ok (.iconst 1, 1) := by decide +kernel
theorem dX1_isTerm_11 : decode cX1_isTerm 11 = .ok (.goto 4, 3) := by decide +kernel
theorem dX1_isTerm_14 : decode cX1_isTerm 14 = .ok (.iconst 0, 1) := by decide +kernel
theorem dX1_isTerm_15 : decode cX1_isTerm 15 = .ok (.ireturn, 1) := by decide +kernel
abbrev cX1_not : ByteArray := prog_3_method_7_code
def yX1_not : MethodName := ⟨RX1, "not", "(II)I"⟩
theorem dX1_not_0 : decode cX1_not 0 = .ok (.aload_n 0, 1) := by decide +kernel
theorem dX1_not_1 : decode cX1_not 1 = .ok (.iload_n 1, 1) := by decide +kernel
theorem dX1_not_2 : decode cX1_not 2 = .ok (.iconst 1, 1) := by decide +kernel
theorem dX1_not_3 : decode cX1_not 3 = .ok (.iload_n 2, 1) := by decide +kernel
theorem dX1_not_4 : decode cX1_not 4 = .ok (.iload_n 2, 1) := by decide +kernel
theorem dX1_not_5 : decode cX1_not 5 = .ok (.invokevirtual 39, 3) := by decide +kernel
theorem dX1_not_8 : decode cX1_not 8 = .ok (.ireturn, 1) := by decide +kernel
abbrev cX1_should : ByteArray := prog_3_method_8_code
def yX1_should : MethodName := ⟨RX1, "should", "(II)I"⟩
theorem dX1_should_0 : decode cX1_should 0 = .ok (.aload_n 0, 1) := by decide +kernel
theorem dX1_should_1 : decode cX1_should 1 = .ok (.iload_n 1, 1) := by decide +kernel
theorem dX1_should_2 : decode cX1_should 2 = .ok (.iconst 2, 1) := by decide +kernel
theorem dX1_should_3 : decode cX1_should 3 = .ok (.iload_n 2, 1) := by decide +kernel
theorem dX1_should_4 : decode cX1_should 4 = .ok (.iload_n 2, 1) := by decide +kernel
theorem dX1_should_5 : decode cX1_should 5 = .ok (.invokevirtual 39, 3) := by decide +kernel
theorem dX1_should_8 : decode cX1_should 8 = .ok (.ireturn, 1) := by decide +kernel
abbrev cX1_phrase : ByteArray := prog_3_method_9_code
def yX1_phrase : MethodName := ⟨RX1, "phrase", "(III)I"⟩
theorem dX1_phrase_0 : decode cX1_phrase 0 = .ok (.aload_n 0, 1) := by decide +kernel
theorem dX1_phrase_1 : decode cX1_phrase 1 = .ok (.iload_n 1, 1) := by decide +kernel
theorem dX1_phrase_2 : decode cX1_phrase 2 = .ok (.iconst 3, 1) := by decide +kernel
theorem dX1_phrase_3 : decode cX1_phrase 3 = .ok (.iload_n 2, 1) := by decide +kernel
theorem dX1_phrase_4 : decode cX1_phrase 4 = .ok (.iload_n 3, 1) := by decide +kernel
theorem dX1_phrase_5 : decode cX1_phrase 5 = .ok (.invokevirtual 39, 3) := by decide +kernel
theorem dX1_phrase_8 : decode cX1_phrase 8 = .ok (.ireturn, 1) := by decide +kernel
abbrev cX1_range : ByteArray := prog_3_method_10_code
def yX1_range : MethodName := ⟨RX1, "range", "(III)I"⟩
theorem dX1_range_0 : decode cX1_range 0 = .ok (.aload_n 0, 1) := by decide +kernel
theorem dX1_range_1 : decode cX1_range 1 = .ok (.iload_n 1, 1) := by decide +kernel
theorem dX1_range_2 : decode cX1_range 2 = .ok (.iconst 4, 1) := by decide +kernel
theorem dX1_range_3 : decode cX1_range 3 = .ok (.iload_n 2, 1) := by decide +kernel
theorem dX1_range_4 : decode cX1_range 4 = .ok (.iload_n 3, 1) := by decide +kernel
theorem dX1_range_5 : decode cX1_range 5 = .ok (.invokevirtual 39, 3) := by decide +kernel
theorem dX1_range_8 : decode cX1_range 8 = .ok (.ireturn, 1) := by decide +kernel
abbrev cX1_remove : ByteArray := prog_3_method_11_code
def yX1_remove : MethodName := ⟨RX1, "remove", "(I)I"⟩
theorem dX1_remove_0 : decode cX1_remove 0 = .ok (.aload_n 0, 1) := by decide +kernel
theorem dX1_remove_1 : decode cX1_remove 1 = .ok (.iload_n 1, 1) := by decide +kernel
theorem dX1_remove_2 : decode cX1_remove 2 = .ok (.invokevirtual 32, 3) := by decide +kernel
theorem dX1_remove_5 : decode cX1_remove 5 = .ok (.ifCond .ne 5, 3) := by decide +kernel
theorem dX1_remove_8 : decode cX1_remove 8 = .ok (.iconst (-1), 1) := by decide +kernel
theorem dX1_remove_9 : decode cX1_remove 9 = .ok (.ireturn, 1) := by decide +kernel
theorem dX1_remove_10 : decode cX1_remove 10 = .ok (.aload_n 0, 1) := by decide +kernel
theorem dX1_remove_11 : decode cX1_remove 11 = .ok (.getfield 7, 3) := by decide +kernel
theorem dX1_remove_14 : decode cX1_remove 14 = .ok (.iload_n 1, 1) := by decide +kernel
theorem dX1_remove_15 : decode cX1_remove 15 = .ok (.iconst 0, 1) := by decide +kernel
theorem dX1_remove_16 : decode cX1_remove 16 = .ok (.bastore, 1) := by decide +kernel
theorem dX1_remove_17 : decode cX1_remove 17 = .ok (.iconst 0, 1) := by decide +kernel
theorem dX1_remove_18 : decode cX1_remove 18 = .ok (.istore_n 2, 1) := by decide +kernel
theorem dX1_remove_19 : decode cX1_remove 19 = .ok (.iconst 0, 1) := by decide +kernel
theorem dX1_remove_20 : decode cX1_remove 20 = .ok (.istore_n 3, 1) := by decide +kernel
theorem dX1_remove_21 : decode cX1_remove 21 = .ok (.iload_n 3, 1) := by decide +kernel
theorem dX1_remove_22 : decode cX1_remove 22 = .ok (.bipush 12, 2) := by decide +kernel
theorem dX1_remove_24 : decode cX1_remove 24 = .ok (.if_icmp .ge 21, 3) := by decide +kernel
theorem dX1_remove_27 : decode cX1_remove 27 = .ok (.aload_n 0, 1) := by decide +kernel
theorem dX1_remove_28 : decode cX1_remove 28 = .ok (.getfield 7, 3) := by decide +kernel
theorem dX1_remove_31 : decode cX1_remove 31 = .ok (.iload_n 3, 1) := by decide +kernel
theorem dX1_remove_32 : decode cX1_remove 32 = .ok (.baload, 1) := by decide +kernel
theorem dX1_remove_33 : decode cX1_remove 33 = .ok (.ifCond .eq 6, 3) := by decide +kernel
theorem dX1_remove_36 : decode cX1_remove 36 = .ok (.iinc 2 1, 3) := by decide +kernel
theorem dX1_remove_39 : decode cX1_remove 39 = .ok (.iinc 3 1, 3) := by decide +kernel
theorem dX1_remove_42 : decode cX1_remove 42 = .ok (.goto (-21), 3) := by decide +kernel
theorem dX1_remove_45 : decode cX1_remove 45 = .ok (.iload_n 2, 1) := by decide +kernel
theorem dX1_remove_46 : decode cX1_remove 46 = .ok (.ireturn, 1) := by decide +kernel
abbrev cX1_word : ByteArray := prog_3_method_12_code
def yX1_word : MethodName := ⟨RX1, "word", "(I)I"⟩
theorem dX1_word_0 : decode cX1_word 0 = .ok (.aload_n 0, 1) := by decide +kernel
theorem dX1_word_1 : decode cX1_word 1 = .ok (.iload_n 1, 1) := by decide +kernel
theorem dX1_word_2 : decode cX1_word 2 = .ok (.invokevirtual 36, 3) := by decide +kernel
theorem dX1_word_5 : decode cX1_word 5 = .ok (.ifCond .ne 6, 3) := by decide +kernel
theorem dX1_word_8 : decode cX1_word 8 = .ok (.bipush (-2), 2) := by decide +kernel
theorem dX1_word_10 : decode cX1_word 10 = .ok (.ireturn, 1) := by decide +kernel
theorem dX1_word_11 : decode cX1_word 11 = .ok (.aload_n 0, 1) := by decide +kernel
theorem dX1_word_12 : decode cX1_word 12 = .ok (.getfield 43, 3) := by decide +kernel
theorem dX1_word_15 : decode cX1_word 15 = .ok (.bipush 16, 2) := by decide +kernel
theorem dX1_word_17 : decode cX1_word 17 = .ok (.if_icmp .ne 6, 3) := by decide +kernel
theorem dX1_word_20 : decode cX1_word 20 = .ok (.bipush (-3), 2) := by decide +kernel
theorem dX1_word_22 : decode cX1_word 22 = .ok (.ireturn, 1) := by decide +kernel
theorem dX1_word_23 : decode cX1_word 23 = .ok (.aload_n 0, 1) := by decide +kernel
theorem dX1_word_24 : decode cX1_word 24 = .ok (.getfield 29, 3) := by decide +kernel
theorem dX1_word_27 : decode cX1_word 27 = .ok (.aload_n 0, 1) := by decide +kernel
theorem dX1_word_28 : decode cX1_word 28 = .ok (.getfield 43, 3) := by decide +kernel
theorem dX1_word_31 : decode cX1_word 31 = .ok (.iload_n 1, 1) := by decide +kernel
theorem dX1_word_32 : decode cX1_word 32 = .ok (.iastore, 1) := by decide +kernel
theorem dX1_word_33 : decode cX1_word 33 = .ok (.aload_n 0, 1) := by decide +kernel
theorem dX1_word_34 : decode cX1_word 34 = .ok (.dup, 1) := by decide +kernel
theorem dX1_word_35 : decode cX1_word 35 = .ok (.getfield 43, 3) := by decide +kernel
theorem dX1_word_38 : decode cX1_word 38 = .ok (.iconst 1, 1) := by decide +kernel
theorem dX1_word_39 : decode cX1_word 39 = .ok (.iadd, 1) := by decide +kernel
theorem dX1_word_40 : decode cX1_word 40 = .ok (.putfield 43, 3) := by decide +kernel
theorem dX1_word_43 : decode cX1_word 43 = .ok (.aload_n 0, 1) := by decide +kernel
theorem dX1_word_44 : decode cX1_word 44 = .ok (.getfield 43, 3) := by decide +kernel
theorem dX1_word_47 : decode cX1_word 47 = .ok (.ireturn, 1) := by decide +kernel
abbrev cX1_document : ByteArray := prog_3_method_13_code
def yX1_document : MethodName := ⟨RX1, "document", "(I)V"⟩
theorem dX1_document_0 : decode cX1_document 0 = .ok (.aload_n 0, 1) := by decide +kernel
theorem dX1_document_1 : decode cX1_document 1 = .ok (.iconst 0, 1) := by decide +kernel
theorem dX1_document_2 : decode cX1_document 2 = .ok (.putfield 43, 3) := by decide +kernel
theorem dX1_document_5 : decode cX1_document 5 = .ok (.aload_n 0, 1) := by decide +kernel
theorem dX1_document_6 : decode cX1_document 6 = .ok (.iload_n 1, 1) := by decide +kernel
theorem dX1_document_7 : decode cX1_document 7 = .ok (.putfield 47, 3) := by decide +kernel
theorem dX1_document_10 : decode cX1_document 10 = .ok (.return_, 1) := by decide +kernel
abbrev cX1_matches : ByteArray := prog_3_method_18_code
def yX1_matches : MethodName := ⟨RX1, "matches", "()I"⟩
theorem dX1_matches_0 : decode cX1_matches 0 = .ok (.iconst 0, 1) := by decide +kernel
theorem dX1_matches_1 : decode cX1_matches 1 = .ok (.istore_n 1, 1) := by decide +kernel
theorem dX1_matches_2 : decode cX1_matches 2 = .ok (.iconst 0, 1) := by decide +kernel
theorem dX1_matches_3 : decode cX1_matches 3 = .ok (.istore_n 2, 1) := by decide +kernel
theorem dX1_matches_4 : decode cX1_matches 4 = .ok (.iload_n 2, 1) := by decide +kernel
theorem dX1_matches_5 : decode cX1_matches 5 = .ok (.bipush 12, 2) := by decide +kernel
theorem dX1_matches_7 : decode cX1_matches 7 = .ok (.if_icmp .ge 20, 3) := by decide +kernel
theorem dX1_matches_10 : decode cX1_matches 10 = .ok (.aload_n 0, 1) := by decide +kernel
theorem dX1_matches_11 : decode cX1_matches 11 = .ok (.iload_n 2, 1) := by decide +kernel
theorem dX1_matches_12 : decode cX1_matches 12 = .ok (.invokevirtual 58, 3) := by decide +kernel
theorem dX1_matches_15 : decode cX1_matches 15 = .ok (.ifCond .eq 6, 3) := by decide +kernel
theorem dX1_matches_18 : decode cX1_matches 18 = .ok (.iinc 1 1, 3) := by decide +kernel
theorem dX1_matches_21 : decode cX1_matches 21 = .ok (.iinc 2 1, 3) := by decide +kernel
theorem dX1_matches_24 : decode cX1_matches 24 = .ok (.goto (-20), 3) := by decide +kernel
theorem dX1_matches_27 : decode cX1_matches 27 = .ok (.iload_n 1, 1) := by decide +kernel
theorem dX1_matches_28 : decode cX1_matches 28 = .ok (.ireturn, 1) := by decide +kernel
abbrev cX1_matchesQuery : ByteArray := prog_3_method_22_code
def yX1_matchesQuery : MethodName := ⟨RX1, "matchesQuery", "(I)Z"⟩
theorem dX1_matchesQuery_0 : decode cX1_matchesQuery 0 = .ok (.aload_n 0, 1) := by decide +kernel
theorem dX1_matchesQuery_1 : decode cX1_matchesQuery 1 = .ok (.iload_n 1, 1) := by decide +kernel
theorem dX1_matchesQuery_2 : decode cX1_matchesQuery 2 = .ok (.invokevirtual 32, 3) := by decide +kernel
theorem dX1_matchesQuery_5 : decode cX1_matchesQuery 5 = .ok (.ifCond .ne 5, 3) := by decide +kernel
theorem dX1_matchesQuery_8 : decode cX1_matchesQuery 8 = .ok (.iconst 0, 1) := by decide +kernel
theorem dX1_matchesQuery_9 : decode cX1_matchesQuery 9 = .ok (.ireturn, 1) := by decide +kernel
theorem dX1_matchesQuery_10 : decode cX1_matchesQuery 10 = .ok (.iconst 0, 1) := by decide +kernel
theorem dX1_matchesQuery_11 : decode cX1_matchesQuery 11 = .ok (.istore_n 2, 1) := by decide +kernel
theorem dX1_matchesQuery_12 : decode cX1_matchesQuery 12 = .ok (.iload_n 1, 1) := by decide +kernel
theorem dX1_matchesQuery_13 : decode cX1_matchesQuery 13 = .ok (.bipush 6, 2) := by decide +kernel
theorem dX1_matchesQuery_15 : decode cX1_matchesQuery 15 = .ok (.imul, 1) := by decide +kernel
theorem dX1_matchesQuery_16 : decode cX1_matchesQuery 16 = .ok (.istore_n 3, 1) := by decide +kernel
theorem dX1_matchesQuery_17 : decode cX1_matchesQuery 17 = .ok (.iload_n 3, 1) := by decide +kernel
theorem dX1_matchesQuery_18 : decode cX1_matchesQuery 18 = .ok (.iload_n 1, 1) := by decide +kernel
theorem dX1_matchesQuery_19 : decode cX1_matchesQuery 19 = .ok (.bipush 6, 2) := by decide +kernel
theorem dX1_matchesQuery_21 : decode cX1_matchesQuery 21 = .ok (.imul, 1) := by decide +kernel
theorem dX1_matchesQuery_22 : decode cX1_matchesQuery 22 = .ok (.aload_n 0, 1) := by decide +kernel
theorem dX1_matchesQuery_23 : decode cX1_matchesQuery 23 = .ok (.getfield 17, 3) := by decide +kernel
theorem dX1_matchesQuery_26 : decode cX1_matchesQuery 26 = .ok (.iload_n 1, 1) := by decide +kernel
theorem dX1_matchesQuery_27 : decode cX1_matchesQuery 27 = .ok (.iaload, 1) := by decide +kernel
theorem dX1_matchesQuery_28 : decode cX1_matchesQuery 28 = .ok (.iadd, 1) := by decide +kernel
theorem dX1_matchesQuery_29 : decode cX1_matchesQuery 29 = .ok (.if_icmp .ge 44, 3) := by decide +kernel
theorem dX1_matchesQuery_32 : decode cX1_matchesQuery 32 = .ok (.aload_n 0, 1) := by decide +kernel
theorem dX1_matchesQuery_33 : decode cX1_matchesQuery 33 = .ok (.iload_n 3, 1) := by decide +kernel
theorem dX1_matchesQuery_34 : decode cX1_matchesQuery 34 = .ok (.invokevirtual 70, 3) := by decide +kernel
theorem dX1_matchesQuery_37 : decode cX1_matchesQuery 37 = .ok (.istore 4, 2) := by decide +kernel
theorem dX1_matchesQuery_39 : decode cX1_matchesQuery 39 = .ok (.aload_n 0, 1) := by decide +kernel
theorem dX1_matchesQuery_40 : decode cX1_matchesQuery 40 = .ok (.getfield 20, 3) := by decide +kernel
theorem dX1_matchesQuery_43 : decode cX1_matchesQuery 43 = .ok (.iload_n 3, 1) := by decide +kernel
theorem dX1_matchesQuery_44 : decode cX1_matchesQuery 44 = .ok (.iaload, 1) := by decide +kernel
theorem dX1_matchesQuery_45 : decode cX1_matchesQuery 45 = .ok (.iconst 2, 1) := by decide +kernel
theorem dX1_matchesQuery_46 : decode cX1_matchesQuery 46 = .ok (.if_icmp .ne 14, 3) := by decide +kernel
theorem dX1_matchesQuery_49 : decode cX1_matchesQuery 49 = .ok (.iload 4, 2) := by decide +kernel
theorem dX1_matchesQuery_51 : decode cX1_matchesQuery 51 = .ok (.ifCond .eq 16, 3) := by decide +kernel
theorem dX1_matchesQuery_54 : decode cX1_matchesQuery 54 = .ok (.iinc 2 1, 3) := by decide +kernel
theorem dX1_matchesQuery_57 : decode cX1_matchesQuery 57 = .ok (.goto 10, 3) := by decide +kernel
theorem dX1_matchesQuery_60 : decode cX1_matchesQuery 60 = .ok (.iload 4, 2) := by decide +kernel
theorem dX1_matchesQuery_62 : decode cX1_matchesQuery 62 = .ok (.ifCond .ne 5, 3) := by decide +kernel
theorem dX1_matchesQuery_65 : decode cX1_matchesQuery 65 = .ok (.iconst 0, 1) := by decide +kernel
theorem dX1_matchesQuery_66 : decode cX1_matchesQuery 66 = .ok (.ireturn, 1) := by decide +kernel
theorem dX1_matchesQuery_67 : decode cX1_matchesQuery 67 = .ok (.iinc 3 1, 3) := by decide +kernel
theorem dX1_matchesQuery_70 : decode cX1_matchesQuery 70 = .ok (.goto (-53), 3) := by decide +kernel
theorem dX1_matchesQuery_73 : decode cX1_matchesQuery 73 = .ok (.iload_n 2, 1) := by decide +kernel
theorem dX1_matchesQuery_74 : decode cX1_matchesQuery 74 = .ok (.aload_n 0, 1) := by decide +kernel
theorem dX1_matchesQuery_75 : decode cX1_matchesQuery 75 = .ok (.getfield 13, 3) := by decide +kernel
theorem dX1_matchesQuery_78 : decode cX1_matchesQuery 78 = .ok (.iload_n 1, 1) := by decide +kernel
theorem dX1_matchesQuery_79 : decode cX1_matchesQuery 79 = .ok (.iaload, 1) := by decide +kernel
theorem dX1_matchesQuery_80 : decode cX1_matchesQuery 80 = .ok (.if_icmp .lt 7, 3) := by decide +kernel
theorem dX1_matchesQuery_83 : decode cX1_matchesQuery 83 = .ok (.iconst 1, 1) := by decide +kernel
theorem dX1_matchesQuery_84 : decode cX1_matchesQuery 84 = .ok (.goto 4, 3) := by decide +kernel
theorem dX1_matchesQuery_87 : decode cX1_matchesQuery 87 = .ok (.iconst 0, 1) := by decide +kernel
theorem dX1_matchesQuery_88 : decode cX1_matchesQuery 88 = .ok (.ireturn, 1) := by decide +kernel
abbrev cX1_holds : ByteArray := prog_3_method_16_code
def yX1_holds : MethodName := ⟨RX1, "holds", "(I)Z"⟩
theorem dX1_holds_0 : decode cX1_holds 0 = .ok (.aload_n 0, 1) := by decide +kernel
theorem dX1_holds_1 : decode cX1_holds 1 = .ok (.getfield 20, 3) := by decide +kernel
theorem dX1_holds_4 : decode cX1_holds 4 = .ok (.iload_n 1, 1) := by decide +kernel
theorem dX1_holds_5 : decode cX1_holds 5 = .ok (.iaload, 1) := by decide +kernel
theorem dX1_holds_6 : decode cX1_holds 6 = .ok (.iconst 1, 1) := by decide +kernel
theorem dX1_holds_7 : decode cX1_holds 7 = .ok (.if_icmp .ne 22, 3) := by decide +kernel
theorem dX1_holds_10 : decode cX1_holds 10 = .ok (.aload_n 0, 1) := by decide +kernel
theorem dX1_holds_11 : decode cX1_holds 11 = .ok (.aload_n 0, 1) := by decide +kernel
theorem dX1_holds_12 : decode cX1_holds 12 = .ok (.getfield 23, 3) := by decide +kernel
theorem dX1_holds_15 : decode cX1_holds 15 = .ok (.iload_n 1, 1) := by decide +kernel
theorem dX1_holds_16 : decode cX1_holds 16 = .ok (.iaload, 1) := by decide +kernel
theorem dX1_holds_17 : decode cX1_holds 17 = .ok (.invokevirtual 50, 3) := by decide +kernel
theorem dX1_holds_20 : decode cX1_holds 20 = .ok (.ifCond .ne 7, 3) := by decide +kernel
theorem dX1_holds_23 : decode cX1_holds 23 = .ok (.iconst 1, 1) := by decide +kernel
theorem dX1_holds_24 : decode cX1_holds 24 = .ok (.goto 4, 3) := by decide +kernel
theorem dX1_holds_27 : decode cX1_holds 27 = .ok (.iconst 0, 1) := by decide +kernel
theorem dX1_holds_28 : decode cX1_holds 28 = .ok (.ireturn, 1) := by decide +kernel
theorem dX1_holds_29 : decode cX1_holds 29 = .ok (.aload_n 0, 1) := by decide +kernel
theorem dX1_holds_30 : decode cX1_holds 30 = .ok (.getfield 20, 3) := by decide +kernel
theorem dX1_holds_33 : decode cX1_holds 33 = .ok (.iload_n 1, 1) := by decide +kernel
theorem dX1_holds_34 : decode cX1_holds 34 = .ok (.iaload, 1) := by decide +kernel
theorem dX1_holds_35 : decode cX1_holds 35 = .ok (.iconst 3, 1) := by decide +kernel
theorem dX1_holds_36 : decode cX1_holds 36 = .ok (.if_icmp .ne 20, 3) := by decide +kernel
theorem dX1_holds_39 : decode cX1_holds 39 = .ok (.aload_n 0, 1) := by decide +kernel
theorem dX1_holds_40 : decode cX1_holds 40 = .ok (.aload_n 0, 1) := by decide +kernel
theorem dX1_holds_41 : decode cX1_holds 41 = .ok (.getfield 23, 3) := by decide +kernel
theorem dX1_holds_44 : decode cX1_holds 44 = .ok (.iload_n 1, 1) := by decide +kernel
theorem dX1_holds_45 : decode cX1_holds 45 = .ok (.iaload, 1) := by decide +kernel
theorem dX1_holds_46 : decode cX1_holds 46 = .ok (.aload_n 0, 1) := by decide +kernel
theorem dX1_holds_47 : decode cX1_holds 47 = .ok (.getfield 26, 3) := by decide +kernel
theorem dX1_holds_50 : decode cX1_holds 50 = .ok (.iload_n 1, 1) := by decide +kernel
theorem dX1_holds_51 : decode cX1_holds 51 = .ok (.iaload, 1) := by decide +kernel
theorem dX1_holds_52 : decode cX1_holds 52 = .ok (.invokevirtual 54, 3) := by decide +kernel
theorem dX1_holds_55 : decode cX1_holds 55 = .ok (.ireturn, 1) := by decide +kernel
theorem dX1_holds_56 : decode cX1_holds 56 = .ok (.aload_n 0, 1) := by decide +kernel
theorem dX1_holds_57 : decode cX1_holds 57 = .ok (.getfield 20, 3) := by decide +kernel
theorem dX1_holds_60 : decode cX1_holds 60 = .ok (.iload_n 1, 1) := by decide +kernel
theorem dX1_holds_61 : decode cX1_holds 61 = .ok (.iaload, 1) := by decide +kernel
theorem dX1_holds_62 : decode cX1_holds 62 = .ok (.iconst 4, 1) := by decide +kernel
theorem dX1_holds_63 : decode cX1_holds 63 = .ok (.if_icmp .ne 35, 3) := by decide +kernel
theorem dX1_holds_66 : decode cX1_holds 66 = .ok (.aload_n 0, 1) := by decide +kernel
theorem dX1_holds_67 : decode cX1_holds 67 = .ok (.getfield 23, 3) := by decide +kernel
theorem dX1_holds_70 : decode cX1_holds 70 = .ok (.iload_n 1, 1) := by decide +kernel
theorem dX1_holds_71 : decode cX1_holds 71 = .ok (.iaload, 1) := by decide +kernel
theorem dX1_holds_72 : decode cX1_holds 72 = .ok (.aload_n 0, 1) := by decide +kernel
theorem dX1_holds_73 : decode cX1_holds 73 = .ok (.getfield 47, 3) := by decide +kernel
theorem dX1_holds_76 : decode cX1_holds 76 = .ok (.if_icmp .gt 20, 3) := by decide +kernel
theorem dX1_holds_79 : decode cX1_holds 79 = .ok (.aload_n 0, 1) := by decide +kernel
theorem dX1_holds_80 : decode cX1_holds 80 = .ok (.getfield 47, 3) := by decide +kernel
theorem dX1_holds_83 : decode cX1_holds 83 = .ok (.aload_n 0, 1) := by decide +kernel
theorem dX1_holds_84 : decode cX1_holds 84 = .ok (.getfield 26, 3) := by decide +kernel
theorem dX1_holds_87 : decode cX1_holds 87 = .ok (.iload_n 1, 1) := by decide +kernel
theorem dX1_holds_88 : decode cX1_holds 88 = .ok (.iaload, 1) := by decide +kernel
theorem dX1_holds_89 : decode cX1_holds 89 = .ok (.if_icmp .gt 7, 3) := by decide +kernel
theorem dX1_holds_92 : decode cX1_holds 92 = .ok (.iconst 1, 1) := by decide +kernel
theorem dX1_holds_93 : decode cX1_holds 93 = .ok (.goto 4, 3) := by decide +kernel
theorem dX1_holds_96 : decode cX1_holds 96 = .ok (.iconst 0, 1) := by decide +kernel
theorem dX1_holds_97 : decode cX1_holds 97 = .ok (.ireturn, 1) := by decide +kernel
theorem dX1_holds_98 : decode cX1_holds 98 = .ok (.aload_n 0, 1) := by decide +kernel
theorem dX1_holds_99 : decode cX1_holds 99 = .ok (.aload_n 0, 1) := by decide +kernel
theorem dX1_holds_100 : decode cX1_holds 100 = .ok (.getfield 23, 3) := by decide +kernel
theorem dX1_holds_103 : decode cX1_holds 103 = .ok (.iload_n 1, 1) := by decide +kernel
theorem dX1_holds_104 : decode cX1_holds 104 = .ok (.iaload, 1) := by decide +kernel
theorem dX1_holds_105 : decode cX1_holds 105 = .ok (.invokevirtual 50, 3) := by decide +kernel
theorem dX1_holds_108 : decode cX1_holds 108 = .ok (.ifCond .le 7, 3) := by decide +kernel
theorem dX1_holds_111 : decode cX1_holds 111 = .ok (.iconst 1, 1) := by decide +kernel
theorem dX1_holds_112 : decode cX1_holds 112 = .ok (.goto 4, 3) := by decide +kernel
theorem dX1_holds_115 : decode cX1_holds 115 = .ok (.iconst 0, 1) := by decide +kernel
theorem dX1_holds_116 : decode cX1_holds 116 = .ok (.ireturn, 1) := by decide +kernel
abbrev cX1_often : ByteArray := prog_3_method_14_code
def yX1_often : MethodName := ⟨RX1, "often", "(I)I"⟩
theorem dX1_often_0 : decode cX1_often 0 = .ok (.iconst 0, 1) := by decide +kernel
theorem dX1_often_1 : decode cX1_often 1 = .ok (.istore_n 2, 1) := by decide +kernel
theorem dX1_often_2 : decode cX1_often 2 = .ok (.iconst 0, 1) := by decide +kernel
theorem dX1_often_3 : decode cX1_often 3 = .ok (.istore_n 3, 1) := by decide +kernel
theorem dX1_often_4 : decode cX1_often 4 = .ok (.iload_n 3, 1) := by decide +kernel
theorem dX1_often_5 : decode cX1_often 5 = .ok (.aload_n 0, 1) := by decide +kernel
theorem dX1_often_6 : decode cX1_often 6 = .ok (.getfield 43, 3) := by decide +kernel
theorem dX1_often_9 : decode cX1_often 9 = .ok (.if_icmp .ge 22, 3) := by decide +kernel
theorem dX1_often_12 : decode cX1_often 12 = .ok (.aload_n 0, 1) := by decide +kernel
theorem dX1_often_13 : decode cX1_often 13 = .ok (.getfield 29, 3) := by decide +kernel
theorem dX1_often_16 : decode cX1_often 16 = .ok (.iload_n 3, 1) := by decide +kernel
theorem dX1_often_17 : decode cX1_often 17 = .ok (.iaload, 1) := by decide +kernel
theorem dX1_often_18 : decode cX1_often 18 = .ok (.iload_n 1, 1) := by decide +kernel
theorem dX1_often_19 : decode cX1_often 19 = .ok (.if_icmp .ne 6, 3) := by decide +kernel
theorem dX1_often_22 : decode cX1_often 22 = .ok (.iinc 2 1, 3) := by decide +kernel
theorem dX1_often_25 : decode cX1_often 25 = .ok (.iinc 3 1, 3) := by decide +kernel
theorem dX1_often_28 : decode cX1_often 28 = .ok (.goto (-24), 3) := by decide +kernel
theorem dX1_often_31 : decode cX1_often 31 = .ok (.iload_n 2, 1) := by decide +kernel
theorem dX1_often_32 : decode cX1_often 32 = .ok (.ireturn, 1) := by decide +kernel
abbrev cX1_beside : ByteArray := prog_3_method_15_code
def yX1_beside : MethodName := ⟨RX1, "beside", "(II)Z"⟩
theorem dX1_beside_0 : decode cX1_beside 0 = .ok (.iconst 0, 1) := by decide +kernel
theorem dX1_beside_1 : decode cX1_beside 1 = .ok (.istore_n 3, 1) := by decide +kernel
theorem dX1_beside_2 : decode cX1_beside 2 = .ok (.iload_n 3, 1) := by decide +kernel
theorem dX1_beside_3 : decode cX1_beside 3 = .ok (.iconst 1, 1) := by decide +kernel
theorem dX1_beside_4 : decode cX1_beside 4 = .ok (.iadd, 1) := by decide +kernel
theorem dX1_beside_5 : decode cX1_beside 5 = .ok (.aload_n 0, 1) := by decide +kernel
theorem dX1_beside_6 : decode cX1_beside 6 = .ok (.getfield 43, 3) := by decide +kernel
theorem dX1_beside_9 : decode cX1_beside 9 = .ok (.if_icmp .ge 33, 3) := by decide +kernel
theorem dX1_beside_12 : decode cX1_beside 12 = .ok (.aload_n 0, 1) := by decide +kernel
theorem dX1_beside_13 : decode cX1_beside 13 = .ok (.getfield 29, 3) := by decide +kernel
theorem dX1_beside_16 : decode cX1_beside 16 = .ok (.iload_n 3, 1) := by decide +kernel
theorem dX1_beside_17 : decode cX1_beside 17 = .ok (.iaload, 1) := by decide +kernel
theorem dX1_beside_18 : decode cX1_beside 18 = .ok (.iload_n 1, 1) := by decide +kernel
theorem dX1_beside_19 : decode cX1_beside 19 = .ok (.if_icmp .ne 17, 3) := by decide +kernel
theorem dX1_beside_22 : decode cX1_beside 22 = .ok (.aload_n 0, 1) := by decide +kernel
theorem dX1_beside_23 : decode cX1_beside 23 = .ok (.getfield 29, 3) := by decide +kernel
theorem dX1_beside_26 : decode cX1_beside 26 = .ok (.iload_n 3, 1) := by decide +kernel
theorem dX1_beside_27 : decode cX1_beside 27 = .ok (.iconst 1, 1) := by decide +kernel
theorem dX1_beside_28 : decode cX1_beside 28 = .ok (.iadd, 1) := by decide +kernel
theorem dX1_beside_29 : decode cX1_beside 29 = .ok (.iaload, 1) := by decide +kernel
theorem dX1_beside_30 : decode cX1_beside 30 = .ok (.iload_n 2, 1) := by decide +kernel
theorem dX1_beside_31 : decode cX1_beside 31 = .ok (.if_icmp .ne 5, 3) := by decide +kernel
theorem dX1_beside_34 : decode cX1_beside 34 = .ok (.iconst 1, 1) := by decide +kernel
theorem dX1_beside_35 : decode cX1_beside 35 = .ok (.ireturn, 1) := by decide +kernel
theorem dX1_beside_36 : decode cX1_beside 36 = .ok (.iinc 3 1, 3) := by decide +kernel
theorem dX1_beside_39 : decode cX1_beside 39 = .ok (.goto (-37), 3) := by decide +kernel
theorem dX1_beside_42 : decode cX1_beside 42 = .ok (.iconst 0, 1) := by decide +kernel
theorem dX1_beside_43 : decode cX1_beside 43 = .ok (.ireturn, 1) := by decide +kernel
abbrev cX1_match : ByteArray := prog_3_method_20_code
def yX1_match : MethodName := ⟨RX1, "match", "(I)I"⟩
theorem dX1_match_0 : decode cX1_match 0 = .ok (.iconst 0, 1) := by decide +kernel
theorem dX1_match_1 : decode cX1_match 1 = .ok (.istore_n 2, 1) := by decide +kernel
theorem dX1_match_2 : decode cX1_match 2 = .ok (.iload_n 2, 1) := by decide +kernel
theorem dX1_match_3 : decode cX1_match 3 = .ok (.bipush 12, 2) := by decide +kernel
theorem dX1_match_5 : decode cX1_match 5 = .ok (.if_icmp .ge 28, 3) := by decide +kernel
theorem dX1_match_8 : decode cX1_match 8 = .ok (.aload_n 0, 1) := by decide +kernel
theorem dX1_match_9 : decode cX1_match 9 = .ok (.iload_n 2, 1) := by decide +kernel
theorem dX1_match_10 : decode cX1_match 10 = .ok (.invokevirtual 58, 3) := by decide +kernel
theorem dX1_match_13 : decode cX1_match 13 = .ok (.ifCond .eq 14, 3) := by decide +kernel
theorem dX1_match_16 : decode cX1_match 16 = .ok (.aload_n 0, 1) := by decide +kernel
theorem dX1_match_17 : decode cX1_match 17 = .ok (.iload_n 2, 1) := by decide +kernel
theorem dX1_match_18 : decode cX1_match 18 = .ok (.invokevirtual 64, 3) := by decide +kernel
theorem dX1_match_21 : decode cX1_match 21 = .ok (.iload_n 1, 1) := by decide +kernel
theorem dX1_match_22 : decode cX1_match 22 = .ok (.if_icmp .ne 5, 3) := by decide +kernel
theorem dX1_match_25 : decode cX1_match 25 = .ok (.iload_n 2, 1) := by decide +kernel
theorem dX1_match_26 : decode cX1_match 26 = .ok (.ireturn, 1) := by decide +kernel
theorem dX1_match_27 : decode cX1_match 27 = .ok (.iinc 2 1, 3) := by decide +kernel
theorem dX1_match_30 : decode cX1_match 30 = .ok (.goto (-28), 3) := by decide +kernel
theorem dX1_match_33 : decode cX1_match 33 = .ok (.bipush (-5), 2) := by decide +kernel
theorem dX1_match_35 : decode cX1_match 35 = .ok (.ireturn, 1) := by decide +kernel
abbrev cX1_before : ByteArray := prog_3_method_19_code
def yX1_before : MethodName := ⟨RX1, "before", "(I)I"⟩
theorem dX1_before_0 : decode cX1_before 0 = .ok (.iconst 0, 1) := by decide +kernel
theorem dX1_before_1 : decode cX1_before 1 = .ok (.istore_n 2, 1) := by decide +kernel
theorem dX1_before_2 : decode cX1_before 2 = .ok (.iconst 0, 1) := by decide +kernel
theorem dX1_before_3 : decode cX1_before 3 = .ok (.istore_n 3, 1) := by decide +kernel
theorem dX1_before_4 : decode cX1_before 4 = .ok (.iload_n 3, 1) := by decide +kernel
theorem dX1_before_5 : decode cX1_before 5 = .ok (.bipush 12, 2) := by decide +kernel
theorem dX1_before_7 : decode cX1_before 7 = .ok (.if_icmp .ge 63, 3) := by decide +kernel
theorem dX1_before_10 : decode cX1_before 10 = .ok (.aload_n 0, 1) := by decide +kernel
theorem dX1_before_11 : decode cX1_before 11 = .ok (.iload_n 3, 1) := by decide +kernel
theorem dX1_before_12 : decode cX1_before 12 = .ok (.invokevirtual 61, 3) := by decide +kernel
theorem dX1_before_15 : decode cX1_before 15 = .ok (.aload_n 0, 1) := by decide +kernel
theorem dX1_before_16 : decode cX1_before 16 = .ok (.iload_n 1, 1) := by decide +kernel
theorem dX1_before_17 : decode cX1_before 17 = .ok (.invokevirtual 61, 3) := by decide +kernel
theorem dX1_before_20 : decode cX1_before 20 = .ok (.if_icmp .gt 21, 3) := by decide +kernel
theorem dX1_before_23 : decode cX1_before 23 = .ok (.aload_n 0, 1) := by decide +kernel
theorem dX1_before_24 : decode cX1_before 24 = .ok (.iload_n 3, 1) := by decide +kernel
theorem dX1_before_25 : decode cX1_before 25 = .ok (.invokevirtual 61, 3) := by decide +kernel
theorem dX1_before_28 : decode cX1_before 28 = .ok (.aload_n 0, 1) := by decide +kernel
theorem dX1_before_29 : decode cX1_before 29 = .ok (.iload_n 1, 1) := by decide +kernel
theorem dX1_before_30 : decode cX1_before 30 = .ok (.invokevirtual 61, 3) := by decide +kernel
theorem dX1_before_33 : decode cX1_before 33 = .ok (.if_icmp .ne 12, 3) := by decide +kernel
theorem dX1_before_36 : decode cX1_before 36 = .ok (.iload_n 3, 1) := by decide +kernel
theorem dX1_before_37 : decode cX1_before 37 = .ok (.iload_n 1, 1) := by decide +kernel
theorem dX1_before_38 : decode cX1_before 38 = .ok (.if_icmp .ge 7, 3) := by decide +kernel
theorem dX1_before_41 : decode cX1_before 41 = .ok (.iconst 1, 1) := by decide +kernel
theorem dX1_before_42 : decode cX1_before 42 = .ok (.goto 4, 3) := by decide +kernel
theorem dX1_before_45 : decode cX1_before 45 = .ok (.iconst 0, 1) := by decide +kernel
theorem dX1_before_46 : decode cX1_before 46 = .ok (.istore 4, 2) := by decide +kernel
theorem dX1_before_48 : decode cX1_before 48 = .ok (.iload 4, 2) := by decide +kernel
theorem dX1_before_50 : decode cX1_before 50 = .ok (.ifCond .eq 14, 3) := by decide +kernel
theorem dX1_before_53 : decode cX1_before 53 = .ok (.aload_n 0, 1) := by decide +kernel
theorem dX1_before_54 : decode cX1_before 54 = .ok (.iload_n 3, 1) := by decide +kernel
theorem dX1_before_55 : decode cX1_before 55 = .ok (.invokevirtual 58, 3) := by decide +kernel
theorem dX1_before_58 : decode cX1_before 58 = .ok (.ifCond .eq 6, 3) := by decide +kernel
theorem dX1_before_61 : decode cX1_before 61 = .ok (.iinc 2 1, 3) := by decide +kernel
theorem dX1_before_64 : decode cX1_before 64 = .ok (.iinc 3 1, 3) := by decide +kernel
theorem dX1_before_67 : decode cX1_before 67 = .ok (.goto (-63), 3) := by decide +kernel
theorem dX1_before_70 : decode cX1_before 70 = .ok (.iload_n 2, 1) := by decide +kernel
theorem dX1_before_71 : decode cX1_before 71 = .ok (.ireturn, 1) := by decide +kernel
abbrev cX1_scoreOf : ByteArray := prog_3_method_17_code
def yX1_scoreOf : MethodName := ⟨RX1, "scoreOf", "(I)I"⟩
theorem dX1_scoreOf_0 : decode cX1_scoreOf 0 = .ok (.iconst 0, 1) := by decide +kernel
theorem dX1_scoreOf_1 : decode cX1_scoreOf 1 = .ok (.istore_n 2, 1) := by decide +kernel
theorem dX1_scoreOf_2 : decode cX1_scoreOf 2 = .ok (.iload_n 1, 1) := by decide +kernel
theorem dX1_scoreOf_3 : decode cX1_scoreOf 3 = .ok (.bipush 6, 2) := by decide +kernel
theorem dX1_scoreOf_5 : decode cX1_scoreOf 5 = .ok (.imul, 1) := by decide +kernel
theorem dX1_scoreOf_6 : decode cX1_scoreOf 6 = .ok (.istore_n 3, 1) := by decide +kernel
theorem dX1_scoreOf_7 : decode cX1_scoreOf 7 = .ok (.iload_n 3, 1) := by decide +kernel
theorem dX1_scoreOf_8 : decode cX1_scoreOf 8 = .ok (.iload_n 1, 1) := by decide +kernel
theorem dX1_scoreOf_9 : decode cX1_scoreOf 9 = .ok (.bipush 6, 2) := by decide +kernel
theorem dX1_scoreOf_11 : decode cX1_scoreOf 11 = .ok (.imul, 1) := by decide +kernel
theorem dX1_scoreOf_12 : decode cX1_scoreOf 12 = .ok (.aload_n 0, 1) := by decide +kernel
theorem dX1_scoreOf_13 : decode cX1_scoreOf 13 = .ok (.getfield 17, 3) := by decide +kernel
theorem dX1_scoreOf_16 : decode cX1_scoreOf 16 = .ok (.iload_n 1, 1) := by decide +kernel
theorem dX1_scoreOf_17 : decode cX1_scoreOf 17 = .ok (.iaload, 1) := by decide +kernel
theorem dX1_scoreOf_18 : decode cX1_scoreOf 18 = .ok (.iadd, 1) := by decide +kernel
theorem dX1_scoreOf_19 : decode cX1_scoreOf 19 = .ok (.if_icmp .ge 54, 3) := by decide +kernel
theorem dX1_scoreOf_22 : decode cX1_scoreOf 22 = .ok (.aload_n 0, 1) := by decide +kernel
theorem dX1_scoreOf_23 : decode cX1_scoreOf 23 = .ok (.getfield 20, 3) := by decide +kernel
theorem dX1_scoreOf_26 : decode cX1_scoreOf 26 = .ok (.iload_n 3, 1) := by decide +kernel
theorem dX1_scoreOf_27 : decode cX1_scoreOf 27 = .ok (.iaload, 1) := by decide +kernel
theorem dX1_scoreOf_28 : decode cX1_scoreOf 28 = .ok (.ifCond .eq 13, 3) := by decide +kernel
theorem dX1_scoreOf_31 : decode cX1_scoreOf 31 = .ok (.aload_n 0, 1) := by decide +kernel
theorem dX1_scoreOf_32 : decode cX1_scoreOf 32 = .ok (.getfield 20, 3) := by decide +kernel
theorem dX1_scoreOf_35 : decode cX1_scoreOf 35 = .ok (.iload_n 3, 1) := by decide +kernel
theorem dX1_scoreOf_36 : decode cX1_scoreOf 36 = .ok (.iaload, 1) := by decide +kernel
theorem dX1_scoreOf_37 : decode cX1_scoreOf 37 = .ok (.iconst 2, 1) := by decide +kernel
theorem dX1_scoreOf_38 : decode cX1_scoreOf 38 = .ok (.if_icmp .ne 16, 3) := by decide +kernel
theorem dX1_scoreOf_41 : decode cX1_scoreOf 41 = .ok (.iload_n 2, 1) := by decide +kernel
theorem dX1_scoreOf_42 : decode cX1_scoreOf 42 = .ok (.aload_n 0, 1) := by decide +kernel
theorem dX1_scoreOf_43 : decode cX1_scoreOf 43 = .ok (.aload_n 0, 1) := by decide +kernel
theorem dX1_scoreOf_44 : decode cX1_scoreOf 44 = .ok (.getfield 23, 3) := by decide +kernel
theorem dX1_scoreOf_47 : decode cX1_scoreOf 47 = .ok (.iload_n 3, 1) := by decide +kernel
theorem dX1_scoreOf_48 : decode cX1_scoreOf 48 = .ok (.iaload, 1) := by decide +kernel
theorem dX1_scoreOf_49 : decode cX1_scoreOf 49 = .ok (.invokevirtual 50, 3) := by decide +kernel
theorem dX1_scoreOf_52 : decode cX1_scoreOf 52 = .ok (.iadd, 1) := by decide +kernel
theorem dX1_scoreOf_53 : decode cX1_scoreOf 53 = .ok (.istore_n 2, 1) := by decide +kernel
theorem dX1_scoreOf_54 : decode cX1_scoreOf 54 = .ok (.aload_n 0, 1) := by decide +kernel
theorem dX1_scoreOf_55 : decode cX1_scoreOf 55 = .ok (.getfield 20, 3) := by decide +kernel
theorem dX1_scoreOf_58 : decode cX1_scoreOf 58 = .ok (.iload_n 3, 1) := by decide +kernel
theorem dX1_scoreOf_59 : decode cX1_scoreOf 59 = .ok (.iaload, 1) := by decide +kernel
theorem dX1_scoreOf_60 : decode cX1_scoreOf 60 = .ok (.iconst 3, 1) := by decide +kernel
theorem dX1_scoreOf_61 : decode cX1_scoreOf 61 = .ok (.if_icmp .ne 6, 3) := by decide +kernel
theorem dX1_scoreOf_64 : decode cX1_scoreOf 64 = .ok (.iinc 2 5, 3) := by decide +kernel
theorem dX1_scoreOf_67 : decode cX1_scoreOf 67 = .ok (.iinc 3 1, 3) := by decide +kernel
theorem dX1_scoreOf_70 : decode cX1_scoreOf 70 = .ok (.goto (-63), 3) := by decide +kernel
theorem dX1_scoreOf_73 : decode cX1_scoreOf 73 = .ok (.iload_n 2, 1) := by decide +kernel
theorem dX1_scoreOf_74 : decode cX1_scoreOf 74 = .ok (.ireturn, 1) := by decide +kernel
abbrev cX1_score : ByteArray := prog_3_method_21_code
def yX1_score : MethodName := ⟨RX1, "score", "(I)I"⟩
theorem dX1_score_0 : decode cX1_score 0 = .ok (.aload_n 0, 1) := by decide +kernel
theorem dX1_score_1 : decode cX1_score 1 = .ok (.iload_n 1, 1) := by decide +kernel
theorem dX1_score_2 : decode cX1_score 2 = .ok (.invokevirtual 67, 3) := by decide +kernel
theorem dX1_score_5 : decode cX1_score 5 = .ok (.istore_n 2, 1) := by decide +kernel
theorem dX1_score_6 : decode cX1_score 6 = .ok (.iload_n 2, 1) := by decide +kernel
theorem dX1_score_7 : decode cX1_score 7 = .ok (.ifCond .ge 7, 3) := by decide +kernel
theorem dX1_score_10 : decode cX1_score 10 = .ok (.iconst 0, 1) := by decide +kernel
theorem dX1_score_11 : decode cX1_score 11 = .ok (.goto 8, 3) := by decide +kernel
theorem dX1_score_14 : decode cX1_score 14 = .ok (.aload_n 0, 1) := by decide +kernel
theorem dX1_score_15 : decode cX1_score 15 = .ok (.iload_n 2, 1) := by decide +kernel
theorem dX1_score_16 : decode cX1_score 16 = .ok (.invokevirtual 61, 3) := by decide +kernel
theorem dX1_score_19 : decode cX1_score 19 = .ok (.ireturn, 1) := by decide +kernel
theorem q23 : (Jvm.Cond.initialized "PercolatorModel") ∈ lw_all := lw_g (lw_at lw_m1 2 rfl) rfl
theorem q194 : (Jvm.Cond.instantiable "PercolatorModel" (9 : Nat)) ∈ lw_all := lw_g (lw_at lw_m1 173 rfl) rfl
theorem q196 : (Jvm.Cond.instanceMethod ({ cls := "PercolatorModel", name := "<init>", desc := "()V" } : Jvm.MethodName)) ∈ lw_all := lw_g (lw_at lw_m1 175 rfl) rfl
theorem q197 : (Jvm.Cond.code ({ cls := "PercolatorModel", name := "<init>", desc := "()V" } : Jvm.MethodName) prog_3_method_1_code (1 : Nat) (Option.none : Option Jvm.ClassFile.FieldType)) ∈ lw_all := lw_g (lw_at lw_m1 176 rfl) rfl
theorem q198 : (Jvm.Cond.methodLink "PercolatorModel" (1 : Nat) ({ cls := "java/lang/Object", name := "<init>", desc := "()V" } : Jvm.MethodName)) ∈ lw_all := lw_g (lw_at lw_m1 177 rfl) rfl
theorem q199 : (Jvm.Cond.fieldLink "PercolatorModel" (7 : Nat) "PercolatorModel" "stored" "[Z") ∈ lw_all := lw_g (lw_at lw_m1 178 rfl) rfl
theorem q200 : (Jvm.Cond.fieldLink "PercolatorModel" (13 : Nat) "PercolatorModel" "leasts" "[I") ∈ lw_all := lw_g (lw_at lw_m1 179 rfl) rfl
theorem q201 : (Jvm.Cond.fieldLink "PercolatorModel" (17 : Nat) "PercolatorModel" "clauses" "[I") ∈ lw_all := lw_g (lw_at lw_m1 180 rfl) rfl
theorem q202 : (Jvm.Cond.fieldLink "PercolatorModel" (20 : Nat) "PercolatorModel" "kinds" "[I") ∈ lw_all := lw_g (lw_at lw_m1 181 rfl) rfl
theorem q203 : (Jvm.Cond.fieldLink "PercolatorModel" (23 : Nat) "PercolatorModel" "firsts" "[I") ∈ lw_all := lw_g (lw_at lw_m1 182 rfl) rfl
theorem q204 : (Jvm.Cond.fieldLink "PercolatorModel" (26 : Nat) "PercolatorModel" "seconds" "[I") ∈ lw_all := lw_g (lw_at lw_m1 183 rfl) rfl
theorem q205 : (Jvm.Cond.fieldLink "PercolatorModel" (29 : Nat) "PercolatorModel" "words" "[I") ∈ lw_all := lw_g (lw_at lw_m1 184 rfl) rfl
theorem q206 : (Jvm.Cond.fieldLink "PercolatorModel" (43 : Nat) "PercolatorModel" "length" "I") ∈ lw_all := lw_g (lw_at lw_m1 185 rfl) rfl
theorem q207 : (Jvm.Cond.fieldLink "PercolatorModel" (47 : Nat) "PercolatorModel" "number" "I") ∈ lw_all := lw_g (lw_at lw_m1 186 rfl) rfl
theorem q208 : (Jvm.Cond.laysFinal "PercolatorModel" "PercolatorModel" "stored" "[Z") ∈ lw_all := lw_g (lw_at lw_m1 187 rfl) rfl
theorem q209 : (Jvm.Cond.soleField "PercolatorModel" "stored") ∈ lw_all := lw_g (lw_at lw_m1 188 rfl) rfl
theorem q210 : (Jvm.Cond.laysFinal "PercolatorModel" "PercolatorModel" "leasts" "[I") ∈ lw_all := lw_g (lw_at lw_m1 189 rfl) rfl
theorem q211 : (Jvm.Cond.soleField "PercolatorModel" "leasts") ∈ lw_all := lw_g (lw_at lw_m1 190 rfl) rfl
theorem q212 : (Jvm.Cond.laysFinal "PercolatorModel" "PercolatorModel" "clauses" "[I") ∈ lw_all := lw_g (lw_at lw_m1 191 rfl) rfl
theorem q213 : (Jvm.Cond.soleField "PercolatorModel" "clauses") ∈ lw_all := lw_g (lw_at lw_m1 192 rfl) rfl
theorem q214 : (Jvm.Cond.laysFinal "PercolatorModel" "PercolatorModel" "kinds" "[I") ∈ lw_all := lw_g (lw_at lw_m1 193 rfl) rfl
theorem q215 : (Jvm.Cond.soleField "PercolatorModel" "kinds") ∈ lw_all := lw_g (lw_at lw_m1 194 rfl) rfl
theorem q216 : (Jvm.Cond.laysFinal "PercolatorModel" "PercolatorModel" "firsts" "[I") ∈ lw_all := lw_g (lw_at lw_m1 195 rfl) rfl
theorem q217 : (Jvm.Cond.soleField "PercolatorModel" "firsts") ∈ lw_all := lw_g (lw_at lw_m1 196 rfl) rfl
theorem q218 : (Jvm.Cond.laysFinal "PercolatorModel" "PercolatorModel" "seconds" "[I") ∈ lw_all := lw_g (lw_at lw_m1 197 rfl) rfl
theorem q219 : (Jvm.Cond.soleField "PercolatorModel" "seconds") ∈ lw_all := lw_g (lw_at lw_m1 198 rfl) rfl
theorem q220 : (Jvm.Cond.laysFinal "PercolatorModel" "PercolatorModel" "words" "[I") ∈ lw_all := lw_g (lw_at lw_m1 199 rfl) rfl
theorem q221 : (Jvm.Cond.soleField "PercolatorModel" "words") ∈ lw_all := lw_g (lw_at lw_m1 200 rfl) rfl
theorem q222 : (Jvm.Cond.lays "PercolatorModel" "PercolatorModel" "length" "I") ∈ lw_all := lw_g (lw_at lw_m1 201 rfl) rfl
theorem q223 : (Jvm.Cond.soleField "PercolatorModel" "length") ∈ lw_all := lw_g (lw_at lw_m1 202 rfl) rfl
theorem q224 : (Jvm.Cond.lays "PercolatorModel" "PercolatorModel" "number" "I") ∈ lw_all := lw_g (lw_at lw_m1 203 rfl) rfl
theorem q225 : (Jvm.Cond.soleField "PercolatorModel" "number") ∈ lw_all := lw_g (lw_at lw_m1 204 rfl) rfl
theorem q226 : (Jvm.Cond.superclass "PercolatorModel" "java/lang/Object") ∈ lw_all := lw_g (lw_at lw_m1 205 rfl) rfl
theorem q228 : (Jvm.Cond.instanceMethod ({ cls := "PercolatorModel", name := "create", desc := "(I)I" } : Jvm.MethodName)) ∈ lw_all := lw_g (lw_at lw_m1 207 rfl) rfl
theorem q229 : (Jvm.Cond.selects "PercolatorModel" ({ cls := "PercolatorModel", name := "create", desc := "(I)I" } : Jvm.MethodName) ({ cls := "PercolatorModel", name := "create", desc := "(I)I" } : Jvm.MethodName)) ∈ lw_all := lw_g (lw_at lw_m1 208 rfl) rfl
theorem q230 : (Jvm.Cond.code ({ cls := "PercolatorModel", name := "create", desc := "(I)I" } : Jvm.MethodName) prog_3_method_2_code (3 : Nat) (Option.some Jvm.ClassFile.FieldType.int)) ∈ lw_all := lw_g (lw_at lw_m1 209 rfl) rfl
theorem q232 : (Jvm.Cond.instanceMethod ({ cls := "PercolatorModel", name := "must", desc := "(II)I" } : Jvm.MethodName)) ∈ lw_all := lw_g (lw_at lw_m1 211 rfl) rfl
theorem q233 : (Jvm.Cond.selects "PercolatorModel" ({ cls := "PercolatorModel", name := "must", desc := "(II)I" } : Jvm.MethodName) ({ cls := "PercolatorModel", name := "must", desc := "(II)I" } : Jvm.MethodName)) ∈ lw_all := lw_g (lw_at lw_m1 212 rfl) rfl
theorem q234 : (Jvm.Cond.code ({ cls := "PercolatorModel", name := "must", desc := "(II)I" } : Jvm.MethodName) prog_3_method_6_code (3 : Nat) (Option.some Jvm.ClassFile.FieldType.int)) ∈ lw_all := lw_g (lw_at lw_m1 213 rfl) rfl
theorem q235 : (Jvm.Cond.methodLink "PercolatorModel" (39 : Nat) ({ cls := "PercolatorModel", name := "add", desc := "(IIII)I" } : Jvm.MethodName)) ∈ lw_all := lw_g (lw_at lw_m1 214 rfl) rfl
theorem q236 : (Jvm.Cond.privateMethod ({ cls := "PercolatorModel", name := "add", desc := "(IIII)I" } : Jvm.MethodName)) ∈ lw_tbl := lw_at lw_m1 215 rfl
theorem q237 : (Jvm.Cond.instanceMethod ({ cls := "PercolatorModel", name := "add", desc := "(IIII)I" } : Jvm.MethodName)) ∈ lw_all := lw_g (lw_at lw_m1 216 rfl) rfl
theorem q238 : (Jvm.Cond.code ({ cls := "PercolatorModel", name := "add", desc := "(IIII)I" } : Jvm.MethodName) prog_3_method_5_code (6 : Nat) (Option.some Jvm.ClassFile.FieldType.int)) ∈ lw_all := lw_g (lw_at lw_m1 217 rfl) rfl
theorem q239 : (Jvm.Cond.methodLink "PercolatorModel" (32 : Nat) ({ cls := "PercolatorModel", name := "isQuery", desc := "(I)Z" } : Jvm.MethodName)) ∈ lw_all := lw_g (lw_at lw_m1 218 rfl) rfl
theorem q240 : (Jvm.Cond.privateMethod ({ cls := "PercolatorModel", name := "isQuery", desc := "(I)Z" } : Jvm.MethodName)) ∈ lw_tbl := lw_at lw_m1 219 rfl
theorem q241 : (Jvm.Cond.instanceMethod ({ cls := "PercolatorModel", name := "isQuery", desc := "(I)Z" } : Jvm.MethodName)) ∈ lw_all := lw_g (lw_at lw_m1 220 rfl) rfl
theorem q242 : (Jvm.Cond.code ({ cls := "PercolatorModel", name := "isQuery", desc := "(I)Z" } : Jvm.MethodName) prog_3_method_3_code (2 : Nat) (Option.some Jvm.ClassFile.FieldType.boolean)) ∈ lw_all := lw_g (lw_at lw_m1 221 rfl) rfl
theorem q243 : (Jvm.Cond.methodLink "PercolatorModel" (36 : Nat) ({ cls := "PercolatorModel", name := "isTerm", desc := "(I)Z" } : Jvm.MethodName)) ∈ lw_all := lw_g (lw_at lw_m1 222 rfl) rfl
theorem q244 : (Jvm.Cond.privateMethod ({ cls := "PercolatorModel", name := "isTerm", desc := "(I)Z" } : Jvm.MethodName)) ∈ lw_tbl := lw_at lw_m1 223 rfl
theorem q245 : (Jvm.Cond.instanceMethod ({ cls := "PercolatorModel", name := "isTerm", desc := "(I)Z" } : Jvm.MethodName)) ∈ lw_all := lw_g (lw_at lw_m1 224 rfl) rfl
theorem q246 : (Jvm.Cond.code ({ cls := "PercolatorModel", name := "isTerm", desc := "(I)Z" } : Jvm.MethodName) prog_3_method_4_code (2 : Nat) (Option.some Jvm.ClassFile.FieldType.boolean)) ∈ lw_all := lw_g (lw_at lw_m1 225 rfl) rfl
theorem q248 : (Jvm.Cond.instanceMethod ({ cls := "PercolatorModel", name := "not", desc := "(II)I" } : Jvm.MethodName)) ∈ lw_all := lw_g (lw_at lw_m1 227 rfl) rfl
theorem q249 : (Jvm.Cond.selects "PercolatorModel" ({ cls := "PercolatorModel", name := "not", desc := "(II)I" } : Jvm.MethodName) ({ cls := "PercolatorModel", name := "not", desc := "(II)I" } : Jvm.MethodName)) ∈ lw_all := lw_g (lw_at lw_m1 228 rfl) rfl
theorem q250 : (Jvm.Cond.code ({ cls := "PercolatorModel", name := "not", desc := "(II)I" } : Jvm.MethodName) prog_3_method_7_code (3 : Nat) (Option.some Jvm.ClassFile.FieldType.int)) ∈ lw_all := lw_g (lw_at lw_m1 229 rfl) rfl
theorem q252 : (Jvm.Cond.instanceMethod ({ cls := "PercolatorModel", name := "should", desc := "(II)I" } : Jvm.MethodName)) ∈ lw_all := lw_g (lw_at lw_m1 231 rfl) rfl
theorem q253 : (Jvm.Cond.selects "PercolatorModel" ({ cls := "PercolatorModel", name := "should", desc := "(II)I" } : Jvm.MethodName) ({ cls := "PercolatorModel", name := "should", desc := "(II)I" } : Jvm.MethodName)) ∈ lw_all := lw_g (lw_at lw_m1 232 rfl) rfl
theorem q254 : (Jvm.Cond.code ({ cls := "PercolatorModel", name := "should", desc := "(II)I" } : Jvm.MethodName) prog_3_method_8_code (3 : Nat) (Option.some Jvm.ClassFile.FieldType.int)) ∈ lw_all := lw_g (lw_at lw_m1 233 rfl) rfl
theorem q256 : (Jvm.Cond.instanceMethod ({ cls := "PercolatorModel", name := "phrase", desc := "(III)I" } : Jvm.MethodName)) ∈ lw_all := lw_g (lw_at lw_m1 235 rfl) rfl
theorem q257 : (Jvm.Cond.selects "PercolatorModel" ({ cls := "PercolatorModel", name := "phrase", desc := "(III)I" } : Jvm.MethodName) ({ cls := "PercolatorModel", name := "phrase", desc := "(III)I" } : Jvm.MethodName)) ∈ lw_all := lw_g (lw_at lw_m1 236 rfl) rfl
theorem q258 : (Jvm.Cond.code ({ cls := "PercolatorModel", name := "phrase", desc := "(III)I" } : Jvm.MethodName) prog_3_method_9_code (4 : Nat) (Option.some Jvm.ClassFile.FieldType.int)) ∈ lw_all := lw_g (lw_at lw_m1 237 rfl) rfl
theorem q260 : (Jvm.Cond.instanceMethod ({ cls := "PercolatorModel", name := "range", desc := "(III)I" } : Jvm.MethodName)) ∈ lw_all := lw_g (lw_at lw_m1 239 rfl) rfl
theorem q261 : (Jvm.Cond.selects "PercolatorModel" ({ cls := "PercolatorModel", name := "range", desc := "(III)I" } : Jvm.MethodName) ({ cls := "PercolatorModel", name := "range", desc := "(III)I" } : Jvm.MethodName)) ∈ lw_all := lw_g (lw_at lw_m2 0 rfl) rfl
theorem q262 : (Jvm.Cond.code ({ cls := "PercolatorModel", name := "range", desc := "(III)I" } : Jvm.MethodName) prog_3_method_10_code (4 : Nat) (Option.some Jvm.ClassFile.FieldType.int)) ∈ lw_all := lw_g (lw_at lw_m2 1 rfl) rfl
theorem q264 : (Jvm.Cond.instanceMethod ({ cls := "PercolatorModel", name := "remove", desc := "(I)I" } : Jvm.MethodName)) ∈ lw_all := lw_g (lw_at lw_m2 3 rfl) rfl
theorem q265 : (Jvm.Cond.selects "PercolatorModel" ({ cls := "PercolatorModel", name := "remove", desc := "(I)I" } : Jvm.MethodName) ({ cls := "PercolatorModel", name := "remove", desc := "(I)I" } : Jvm.MethodName)) ∈ lw_all := lw_g (lw_at lw_m2 4 rfl) rfl
theorem q266 : (Jvm.Cond.code ({ cls := "PercolatorModel", name := "remove", desc := "(I)I" } : Jvm.MethodName) prog_3_method_11_code (4 : Nat) (Option.some Jvm.ClassFile.FieldType.int)) ∈ lw_all := lw_g (lw_at lw_m2 5 rfl) rfl
theorem q268 : (Jvm.Cond.instanceMethod ({ cls := "PercolatorModel", name := "word", desc := "(I)I" } : Jvm.MethodName)) ∈ lw_all := lw_g (lw_at lw_m2 7 rfl) rfl
theorem q269 : (Jvm.Cond.selects "PercolatorModel" ({ cls := "PercolatorModel", name := "word", desc := "(I)I" } : Jvm.MethodName) ({ cls := "PercolatorModel", name := "word", desc := "(I)I" } : Jvm.MethodName)) ∈ lw_all := lw_g (lw_at lw_m2 8 rfl) rfl
theorem q270 : (Jvm.Cond.code ({ cls := "PercolatorModel", name := "word", desc := "(I)I" } : Jvm.MethodName) prog_3_method_12_code (2 : Nat) (Option.some Jvm.ClassFile.FieldType.int)) ∈ lw_all := lw_g (lw_at lw_m2 9 rfl) rfl
theorem q272 : (Jvm.Cond.instanceMethod ({ cls := "PercolatorModel", name := "document", desc := "(I)V" } : Jvm.MethodName)) ∈ lw_all := lw_g (lw_at lw_m2 11 rfl) rfl
theorem q273 : (Jvm.Cond.selects "PercolatorModel" ({ cls := "PercolatorModel", name := "document", desc := "(I)V" } : Jvm.MethodName) ({ cls := "PercolatorModel", name := "document", desc := "(I)V" } : Jvm.MethodName)) ∈ lw_all := lw_g (lw_at lw_m2 12 rfl) rfl
theorem q274 : (Jvm.Cond.code ({ cls := "PercolatorModel", name := "document", desc := "(I)V" } : Jvm.MethodName) prog_3_method_13_code (2 : Nat) (Option.none : Option Jvm.ClassFile.FieldType)) ∈ lw_all := lw_g (lw_at lw_m2 13 rfl) rfl
theorem q276 : (Jvm.Cond.instanceMethod ({ cls := "PercolatorModel", name := "matches", desc := "()I" } : Jvm.MethodName)) ∈ lw_all := lw_g (lw_at lw_m2 15 rfl) rfl
theorem q277 : (Jvm.Cond.selects "PercolatorModel" ({ cls := "PercolatorModel", name := "matches", desc := "()I" } : Jvm.MethodName) ({ cls := "PercolatorModel", name := "matches", desc := "()I" } : Jvm.MethodName)) ∈ lw_all := lw_g (lw_at lw_m2 16 rfl) rfl
theorem q278 : (Jvm.Cond.code ({ cls := "PercolatorModel", name := "matches", desc := "()I" } : Jvm.MethodName) prog_3_method_18_code (3 : Nat) (Option.some Jvm.ClassFile.FieldType.int)) ∈ lw_all := lw_g (lw_at lw_m2 17 rfl) rfl
theorem q279 : (Jvm.Cond.methodLink "PercolatorModel" (58 : Nat) ({ cls := "PercolatorModel", name := "matchesQuery", desc := "(I)Z" } : Jvm.MethodName)) ∈ lw_all := lw_g (lw_at lw_m2 18 rfl) rfl
theorem q280 : (Jvm.Cond.instanceMethod ({ cls := "PercolatorModel", name := "matchesQuery", desc := "(I)Z" } : Jvm.MethodName)) ∈ lw_all := lw_g (lw_at lw_m2 19 rfl) rfl
theorem q281 : (Jvm.Cond.selects "PercolatorModel" ({ cls := "PercolatorModel", name := "matchesQuery", desc := "(I)Z" } : Jvm.MethodName) ({ cls := "PercolatorModel", name := "matchesQuery", desc := "(I)Z" } : Jvm.MethodName)) ∈ lw_all := lw_g (lw_at lw_m2 20 rfl) rfl
theorem q282 : (Jvm.Cond.code ({ cls := "PercolatorModel", name := "matchesQuery", desc := "(I)Z" } : Jvm.MethodName) prog_3_method_22_code (5 : Nat) (Option.some Jvm.ClassFile.FieldType.boolean)) ∈ lw_all := lw_g (lw_at lw_m2 21 rfl) rfl
theorem q283 : (Jvm.Cond.methodLink "PercolatorModel" (70 : Nat) ({ cls := "PercolatorModel", name := "holds", desc := "(I)Z" } : Jvm.MethodName)) ∈ lw_all := lw_g (lw_at lw_m2 22 rfl) rfl
theorem q284 : (Jvm.Cond.privateMethod ({ cls := "PercolatorModel", name := "holds", desc := "(I)Z" } : Jvm.MethodName)) ∈ lw_tbl := lw_at lw_m2 23 rfl
theorem q285 : (Jvm.Cond.instanceMethod ({ cls := "PercolatorModel", name := "holds", desc := "(I)Z" } : Jvm.MethodName)) ∈ lw_all := lw_g (lw_at lw_m2 24 rfl) rfl
theorem q286 : (Jvm.Cond.code ({ cls := "PercolatorModel", name := "holds", desc := "(I)Z" } : Jvm.MethodName) prog_3_method_16_code (2 : Nat) (Option.some Jvm.ClassFile.FieldType.boolean)) ∈ lw_all := lw_g (lw_at lw_m2 25 rfl) rfl
theorem q287 : (Jvm.Cond.methodLink "PercolatorModel" (50 : Nat) ({ cls := "PercolatorModel", name := "often", desc := "(I)I" } : Jvm.MethodName)) ∈ lw_all := lw_g (lw_at lw_m2 26 rfl) rfl
theorem q288 : (Jvm.Cond.privateMethod ({ cls := "PercolatorModel", name := "often", desc := "(I)I" } : Jvm.MethodName)) ∈ lw_tbl := lw_at lw_m2 27 rfl
theorem q289 : (Jvm.Cond.instanceMethod ({ cls := "PercolatorModel", name := "often", desc := "(I)I" } : Jvm.MethodName)) ∈ lw_all := lw_g (lw_at lw_m2 28 rfl) rfl
theorem q290 : (Jvm.Cond.code ({ cls := "PercolatorModel", name := "often", desc := "(I)I" } : Jvm.MethodName) prog_3_method_14_code (4 : Nat) (Option.some Jvm.ClassFile.FieldType.int)) ∈ lw_all := lw_g (lw_at lw_m2 29 rfl) rfl
theorem q291 : (Jvm.Cond.methodLink "PercolatorModel" (54 : Nat) ({ cls := "PercolatorModel", name := "beside", desc := "(II)Z" } : Jvm.MethodName)) ∈ lw_all := lw_g (lw_at lw_m2 30 rfl) rfl
theorem q292 : (Jvm.Cond.privateMethod ({ cls := "PercolatorModel", name := "beside", desc := "(II)Z" } : Jvm.MethodName)) ∈ lw_tbl := lw_at lw_m2 31 rfl
theorem q293 : (Jvm.Cond.instanceMethod ({ cls := "PercolatorModel", name := "beside", desc := "(II)Z" } : Jvm.MethodName)) ∈ lw_all := lw_g (lw_at lw_m2 32 rfl) rfl
theorem q294 : (Jvm.Cond.code ({ cls := "PercolatorModel", name := "beside", desc := "(II)Z" } : Jvm.MethodName) prog_3_method_15_code (4 : Nat) (Option.some Jvm.ClassFile.FieldType.boolean)) ∈ lw_all := lw_g (lw_at lw_m2 33 rfl) rfl
theorem q296 : (Jvm.Cond.instanceMethod ({ cls := "PercolatorModel", name := "match", desc := "(I)I" } : Jvm.MethodName)) ∈ lw_all := lw_g (lw_at lw_m2 35 rfl) rfl
theorem q297 : (Jvm.Cond.selects "PercolatorModel" ({ cls := "PercolatorModel", name := "match", desc := "(I)I" } : Jvm.MethodName) ({ cls := "PercolatorModel", name := "match", desc := "(I)I" } : Jvm.MethodName)) ∈ lw_all := lw_g (lw_at lw_m2 36 rfl) rfl
theorem q298 : (Jvm.Cond.code ({ cls := "PercolatorModel", name := "match", desc := "(I)I" } : Jvm.MethodName) prog_3_method_20_code (3 : Nat) (Option.some Jvm.ClassFile.FieldType.int)) ∈ lw_all := lw_g (lw_at lw_m2 37 rfl) rfl
theorem q299 : (Jvm.Cond.methodLink "PercolatorModel" (64 : Nat) ({ cls := "PercolatorModel", name := "before", desc := "(I)I" } : Jvm.MethodName)) ∈ lw_all := lw_g (lw_at lw_m2 38 rfl) rfl
theorem q300 : (Jvm.Cond.privateMethod ({ cls := "PercolatorModel", name := "before", desc := "(I)I" } : Jvm.MethodName)) ∈ lw_tbl := lw_at lw_m2 39 rfl
theorem q301 : (Jvm.Cond.instanceMethod ({ cls := "PercolatorModel", name := "before", desc := "(I)I" } : Jvm.MethodName)) ∈ lw_all := lw_g (lw_at lw_m2 40 rfl) rfl
theorem q302 : (Jvm.Cond.code ({ cls := "PercolatorModel", name := "before", desc := "(I)I" } : Jvm.MethodName) prog_3_method_19_code (5 : Nat) (Option.some Jvm.ClassFile.FieldType.int)) ∈ lw_all := lw_g (lw_at lw_m2 41 rfl) rfl
theorem q303 : (Jvm.Cond.methodLink "PercolatorModel" (61 : Nat) ({ cls := "PercolatorModel", name := "scoreOf", desc := "(I)I" } : Jvm.MethodName)) ∈ lw_all := lw_g (lw_at lw_m2 42 rfl) rfl
theorem q304 : (Jvm.Cond.privateMethod ({ cls := "PercolatorModel", name := "scoreOf", desc := "(I)I" } : Jvm.MethodName)) ∈ lw_tbl := lw_at lw_m2 43 rfl
theorem q305 : (Jvm.Cond.instanceMethod ({ cls := "PercolatorModel", name := "scoreOf", desc := "(I)I" } : Jvm.MethodName)) ∈ lw_all := lw_g (lw_at lw_m2 44 rfl) rfl
theorem q306 : (Jvm.Cond.code ({ cls := "PercolatorModel", name := "scoreOf", desc := "(I)I" } : Jvm.MethodName) prog_3_method_17_code (4 : Nat) (Option.some Jvm.ClassFile.FieldType.int)) ∈ lw_all := lw_g (lw_at lw_m2 45 rfl) rfl
theorem q308 : (Jvm.Cond.instanceMethod ({ cls := "PercolatorModel", name := "score", desc := "(I)I" } : Jvm.MethodName)) ∈ lw_all := lw_g (lw_at lw_m2 47 rfl) rfl
theorem q309 : (Jvm.Cond.selects "PercolatorModel" ({ cls := "PercolatorModel", name := "score", desc := "(I)I" } : Jvm.MethodName) ({ cls := "PercolatorModel", name := "score", desc := "(I)I" } : Jvm.MethodName)) ∈ lw_all := lw_g (lw_at lw_m2 48 rfl) rfl
theorem q310 : (Jvm.Cond.code ({ cls := "PercolatorModel", name := "score", desc := "(I)I" } : Jvm.MethodName) prog_3_method_21_code (3 : Nat) (Option.some Jvm.ClassFile.FieldType.int)) ∈ lw_all := lw_g (lw_at lw_m2 49 rfl) rfl
theorem q311 : (Jvm.Cond.methodLink "PercolatorModel" (67 : Nat) ({ cls := "PercolatorModel", name := "match", desc := "(I)I" } : Jvm.MethodName)) ∈ lw_all := lw_g (lw_at lw_m2 50 rfl) rfl
theorem in_X1 : ∀ w ∈ wsX10, w ∈ lw_all := lw_in wsX10 [208, 210, 212, 214, 216, 218, 220, 222, 224] (by decide +kernel) (by decide +kernel)
end
section
theorem q84 : (Jvm.Cond.arrayClass Jvm.ClassFile.FieldType.boolean) ∈ lw_all := lw_g (lw_at lw_m1 63 rfl) rfl
set_option maxRecDepth 100000
theorem q85 : (Jvm.Cond.arrayClass Jvm.ClassFile.FieldType.int) ∈ lw_all := lw_g (lw_at lw_m1 64 rfl) rfl
theorem q21 : (Jvm.Cond.initialized "PercolatorLaw") ∈ lw_all := lw_g (lw_at lw_m1 0 rfl) rfl
set_option maxRecDepth 100000
theorem q24 : (Jvm.Cond.classLink "PercolatorLaw" (7 : Nat) "Percolator") ∈ lw_all := lw_g (lw_at lw_m1 3 rfl) rfl
theorem q26 : (Jvm.Cond.methodLink "PercolatorLaw" (9 : Nat) ({ cls := "Percolator", name := "<init>", desc := "()V" } : Jvm.MethodName)) ∈ lw_all := lw_g (lw_at lw_m1 5 rfl) rfl
theorem q86 : (Jvm.Cond.methodLink "PercolatorLaw" (13 : Nat) ({ cls := "Percolator", name := "create", desc := "(I)I" } : Jvm.MethodName)) ∈ lw_all := lw_g (lw_at lw_m1 65 rfl) rfl
theorem q106 : (Jvm.Cond.methodLink "PercolatorLaw" (18 : Nat) ({ cls := "Percolator", name := "must", desc := "(II)I" } : Jvm.MethodName)) ∈ lw_all := lw_g (lw_at lw_m1 85 rfl) rfl
theorem q129 : (Jvm.Cond.methodLink "PercolatorLaw" (23 : Nat) ({ cls := "Percolator", name := "not", desc := "(II)I" } : Jvm.MethodName)) ∈ lw_all := lw_g (lw_at lw_m1 108 rfl) rfl
theorem q133 : (Jvm.Cond.methodLink "PercolatorLaw" (27 : Nat) ({ cls := "Percolator", name := "should", desc := "(II)I" } : Jvm.MethodName)) ∈ lw_all := lw_g (lw_at lw_m1 112 rfl) rfl
theorem q137 : (Jvm.Cond.methodLink "PercolatorLaw" (31 : Nat) ({ cls := "Percolator", name := "phrase", desc := "(III)I" } : Jvm.MethodName)) ∈ lw_all := lw_g (lw_at lw_m1 116 rfl) rfl
theorem q141 : (Jvm.Cond.methodLink "PercolatorLaw" (36 : Nat) ({ cls := "Percolator", name := "range", desc := "(III)I" } : Jvm.MethodName)) ∈ lw_all := lw_g (lw_at lw_m1 120 rfl) rfl
theorem q145 : (Jvm.Cond.methodLink "PercolatorLaw" (40 : Nat) ({ cls := "Percolator", name := "remove", desc := "(I)I" } : Jvm.MethodName)) ∈ lw_all := lw_g (lw_at lw_m1 124 rfl) rfl
theorem q149 : (Jvm.Cond.methodLink "PercolatorLaw" (44 : Nat) ({ cls := "Percolator", name := "word", desc := "(I)I" } : Jvm.MethodName)) ∈ lw_all := lw_g (lw_at lw_m1 128 rfl) rfl
theorem q153 : (Jvm.Cond.methodLink "PercolatorLaw" (48 : Nat) ({ cls := "Percolator", name := "document", desc := "(I)V" } : Jvm.MethodName)) ∈ lw_all := lw_g (lw_at lw_m1 132 rfl) rfl
theorem q157 : (Jvm.Cond.methodLink "PercolatorLaw" (53 : Nat) ({ cls := "Percolator", name := "matches", desc := "()I" } : Jvm.MethodName)) ∈ lw_all := lw_g (lw_at lw_m1 136 rfl) rfl
theorem q181 : (Jvm.Cond.methodLink "PercolatorLaw" (58 : Nat) ({ cls := "Percolator", name := "match", desc := "(I)I" } : Jvm.MethodName)) ∈ lw_all := lw_g (lw_at lw_m1 160 rfl) rfl
theorem q185 : (Jvm.Cond.methodLink "PercolatorLaw" (62 : Nat) ({ cls := "Percolator", name := "score", desc := "(I)I" } : Jvm.MethodName)) ∈ lw_all := lw_g (lw_at lw_m1 164 rfl) rfl
theorem q189 : (Jvm.Cond.methodLink "PercolatorLaw" (66 : Nat) ({ cls := "Percolator", name := "matchesQuery", desc := "(I)Z" } : Jvm.MethodName)) ∈ lw_all := lw_g (lw_at lw_m1 168 rfl) rfl
theorem q193 : (Jvm.Cond.classLink "PercolatorLaw" (10 : Nat) "PercolatorModel") ∈ lw_all := lw_g (lw_at lw_m1 172 rfl) rfl
theorem q195 : (Jvm.Cond.methodLink "PercolatorLaw" (12 : Nat) ({ cls := "PercolatorModel", name := "<init>", desc := "()V" } : Jvm.MethodName)) ∈ lw_all := lw_g (lw_at lw_m1 174 rfl) rfl
theorem q227 : (Jvm.Cond.methodLink "PercolatorLaw" (17 : Nat) ({ cls := "PercolatorModel", name := "create", desc := "(I)I" } : Jvm.MethodName)) ∈ lw_all := lw_g (lw_at lw_m1 206 rfl) rfl
theorem q231 : (Jvm.Cond.methodLink "PercolatorLaw" (22 : Nat) ({ cls := "PercolatorModel", name := "must", desc := "(II)I" } : Jvm.MethodName)) ∈ lw_all := lw_g (lw_at lw_m1 210 rfl) rfl
theorem q247 : (Jvm.Cond.methodLink "PercolatorLaw" (26 : Nat) ({ cls := "PercolatorModel", name := "not", desc := "(II)I" } : Jvm.MethodName)) ∈ lw_all := lw_g (lw_at lw_m1 226 rfl) rfl
theorem q251 : (Jvm.Cond.methodLink "PercolatorLaw" (30 : Nat) ({ cls := "PercolatorModel", name := "should", desc := "(II)I" } : Jvm.MethodName)) ∈ lw_all := lw_g (lw_at lw_m1 230 rfl) rfl
theorem q255 : (Jvm.Cond.methodLink "PercolatorLaw" (35 : Nat) ({ cls := "PercolatorModel", name := "phrase", desc := "(III)I" } : Jvm.MethodName)) ∈ lw_all := lw_g (lw_at lw_m1 234 rfl) rfl
theorem q259 : (Jvm.Cond.methodLink "PercolatorLaw" (39 : Nat) ({ cls := "PercolatorModel", name := "range", desc := "(III)I" } : Jvm.MethodName)) ∈ lw_all := lw_g (lw_at lw_m1 238 rfl) rfl
theorem q263 : (Jvm.Cond.methodLink "PercolatorLaw" (43 : Nat) ({ cls := "PercolatorModel", name := "remove", desc := "(I)I" } : Jvm.MethodName)) ∈ lw_all := lw_g (lw_at lw_m2 2 rfl) rfl
theorem q267 : (Jvm.Cond.methodLink "PercolatorLaw" (47 : Nat) ({ cls := "PercolatorModel", name := "word", desc := "(I)I" } : Jvm.MethodName)) ∈ lw_all := lw_g (lw_at lw_m2 6 rfl) rfl
theorem q271 : (Jvm.Cond.methodLink "PercolatorLaw" (52 : Nat) ({ cls := "PercolatorModel", name := "document", desc := "(I)V" } : Jvm.MethodName)) ∈ lw_all := lw_g (lw_at lw_m2 10 rfl) rfl
theorem q275 : (Jvm.Cond.methodLink "PercolatorLaw" (57 : Nat) ({ cls := "PercolatorModel", name := "matches", desc := "()I" } : Jvm.MethodName)) ∈ lw_all := lw_g (lw_at lw_m2 14 rfl) rfl
theorem q295 : (Jvm.Cond.methodLink "PercolatorLaw" (61 : Nat) ({ cls := "PercolatorModel", name := "match", desc := "(I)I" } : Jvm.MethodName)) ∈ lw_all := lw_g (lw_at lw_m2 34 rfl) rfl
theorem q307 : (Jvm.Cond.methodLink "PercolatorLaw" (65 : Nat) ({ cls := "PercolatorModel", name := "score", desc := "(I)I" } : Jvm.MethodName)) ∈ lw_all := lw_g (lw_at lw_m2 46 rfl) rfl
theorem q312 : (Jvm.Cond.methodLink "PercolatorLaw" (70 : Nat) ({ cls := "PercolatorModel", name := "matchesQuery", desc := "(I)Z" } : Jvm.MethodName)) ∈ lw_all := lw_g (lw_at lw_m2 51 rfl) rfl
/-! the law's own entry -/
set_option maxRecDepth 100000
abbrev cL_law : ByteArray := code
theorem dL_law_0 : decode cL_law 0 = .ok (.new 7, 3) := by decide +kernel
theorem dL_law_3 : decode cL_law 3 = .ok (.dup, 1) := by decide +kernel
theorem dL_law_4 : decode cL_law 4 = .ok (.invokespecial 9, 3) := by decide +kernel
theorem dL_law_7 : decode cL_law 7 = .ok (.astore_n 1, 1) := by decide +kernel
theorem dL_law_8 : decode cL_law 8 = .ok (.new 10, 3) := by decide +kernel
theorem dL_law_11 : decode cL_law 11 = .ok (.dup, 1) := by decide +kernel
theorem dL_law_12 : decode cL_law 12 = .ok (.invokespecial 12, 3) := by decide +kernel
theorem dL_law_15 : decode cL_law 15 = .ok (.astore_n 2, 1) := by decide +kernel
theorem dL_law_16 : decode cL_law 16 = .ok (.iconst 0, 1) := by decide +kernel
theorem dL_law_17 : decode cL_law 17 = .ok (.istore_n 3, 1) := by decide +kernel
theorem dL_law_18 : decode cL_law 18 = .ok (.iload_n 3, 1) := by decide +kernel
theorem dL_law_19 : decode cL_law 19 = .ok (.aload_n 0, 1) := by decide +kernel
theorem dL_law_20 : decode cL_law 20 = .ok (.arraylength, 1) := by decide +kernel
theorem dL_law_21 : decode cL_law 21 = .ok (.iconst 4, 1) := by decide +kernel
theorem dL_law_22 : decode cL_law 22 = .ok (.isub, 1) := by decide +kernel
theorem dL_law_23 : decode cL_law 23 = .ok (.if_icmp .gt 440, 3) := by decide +kernel
theorem dL_law_26 : decode cL_law 26 = .ok (.aload_n 0, 1) := by decide +kernel
theorem dL_law_27 : decode cL_law 27 = .ok (.iload_n 3, 1) := by decide +kernel
theorem dL_law_28 : decode cL_law 28 = .ok (.iaload, 1) := by decide +kernel
theorem dL_law_29 : decode cL_law 29 = .ok (.bipush 15, 2) := by decide +kernel
theorem dL_law_31 : decode cL_law 31 = .ok (.iand, 1) := by decide +kernel
theorem dL_law_32 : decode cL_law 32 = .ok (.tableswitch 425 0 12 #[68, 91, 124, 157, 190, 233, 276, 299, 322, 343, 356, 379, 402], 68) := by decide +kernel
theorem dL_law_100 : decode cL_law 100 = .ok (.aload_n 1, 1) := by decide +kernel
theorem dL_law_101 : decode cL_law 101 = .ok (.aload_n 0, 1) := by decide +kernel
theorem dL_law_102 : decode cL_law 102 = .ok (.iload_n 3, 1) := by decide +kernel
theorem dL_law_103 : decode cL_law 103 = .ok (.iconst 1, 1) := by decide +kernel
theorem dL_law_104 : decode cL_law 104 = .ok (.iadd, 1) := by decide +kernel
theorem dL_law_105 : decode cL_law 105 = .ok (.iaload, 1) := by decide +kernel
theorem dL_law_106 : decode cL_law 106 = .ok (.invokevirtual 13, 3) := by decide +kernel
theorem dL_law_109 : decode cL_law 109 = .ok (.aload_n 2, 1) := by decide +kernel
theorem dL_law_110 : decode cL_law 110 = .ok (.aload_n 0, 1) := by decide +kernel
theorem dL_law_111 : decode cL_law 111 = .ok (.iload_n 3, 1) := by decide +kernel
theorem dL_law_112 : decode cL_law 112 = .ok (.iconst 1, 1) := by decide +kernel
theorem dL_law_113 : decode cL_law 113 = .ok (.iadd, 1) := by decide +kernel
theorem dL_law_114 : decode cL_law 114 = .ok (.iaload, 1) := by decide +kernel
theorem dL_law_115 : decode cL_law 115 = .ok (.invokevirtual 17, 3) := by decide +kernel
theorem dL_law_118 : decode cL_law 118 = .ok (.if_icmp .eq 339, 3) := by decide +kernel
theorem dL_law_121 : decode cL_law 121 = .ok (.iconst 0, 1) := by decide +kernel
theorem dL_law_122 : decode cL_law 122 = .ok (.ireturn, 1) := by decide +kernel
theorem dL_law_123 : decode cL_law 123 = .ok (.aload_n 1, 1) := by decide +kernel
theorem dL_law_124 : decode cL_law 124 = .ok (.aload_n 0, 1) := by decide +kernel
theorem dL_law_125 : decode cL_law 125 = .ok (.iload_n 3, 1) := by decide +kernel
theorem dL_law_126 : decode cL_law 126 = .ok (.iconst 1, 1) := by decide +kernel
theorem dL_law_127 : decode cL_law 127 = .ok (.iadd, 1) := by decide +kernel
theorem dL_law_128 : decode cL_law 128 = .ok (.iaload, 1) := by decide +kernel
theorem dL_law_129 : decode cL_law 129 = .ok (.aload_n 0, 1) := by decide +kernel
theorem dL_law_130 : decode cL_law 130 = .ok (.iload_n 3, 1) := by decide +kernel
theorem dL_law_131 : decode cL_law 131 = .ok (.iconst 2, 1) := by decide +kernel
theorem dL_law_132 : decode cL_law 132 = .ok (.iadd, 1) := by decide +kernel
theorem dL_law_133 : decode cL_law 133 = .ok (.iaload, 1) := by decide +kernel
theorem dL_law_134 : decode cL_law 134 = .ok (.invokevirtual 18, 3) := by decide +kernel
theorem dL_law_137 : decode cL_law 137 = .ok (.aload_n 2, 1) := by decide +kernel
theorem dL_law_138 : decode cL_law 138 = .ok (.aload_n 0, 1) := by decide +kernel
theorem dL_law_139 : decode cL_law 139 = .ok (.iload_n 3, 1) := by decide +kernel
theorem dL_law_140 : decode cL_law 140 = .ok (.iconst 1, 1) := by decide +kernel
theorem dL_law_141 : decode cL_law 141 = .ok (.iadd, 1) := by decide +kernel
theorem dL_law_142 : decode cL_law 142 = .ok (.iaload, 1) := by decide +kernel
theorem dL_law_143 : decode cL_law 143 = .ok (.aload_n 0, 1) := by decide +kernel
theorem dL_law_144 : decode cL_law 144 = .ok (.iload_n 3, 1) := by decide +kernel
theorem dL_law_145 : decode cL_law 145 = .ok (.iconst 2, 1) := by decide +kernel
theorem dL_law_146 : decode cL_law 146 = .ok (.iadd, 1) := by decide +kernel
theorem dL_law_147 : decode cL_law 147 = .ok (.iaload, 1) := by decide +kernel
theorem dL_law_148 : decode cL_law 148 = .ok (.invokevirtual 22, 3) := by decide +kernel
theorem dL_law_151 : decode cL_law 151 = .ok (.if_icmp .eq 306, 3) := by decide +kernel
theorem dL_law_154 : decode cL_law 154 = .ok (.iconst 0, 1) := by decide +kernel
theorem dL_law_155 : decode cL_law 155 = .ok (.ireturn, 1) := by decide +kernel
theorem dL_law_156 : decode cL_law 156 = .ok (.aload_n 1, 1) := by decide +kernel
theorem dL_law_157 : decode cL_law 157 = .ok (.aload_n 0, 1) := by decide +kernel
theorem dL_law_158 : decode cL_law 158 = .ok (.iload_n 3, 1) := by decide +kernel
theorem dL_law_159 : decode cL_law 159 = .ok (.iconst 1, 1) := by decide +kernel
theorem dL_law_160 : decode cL_law 160 = .ok (.iadd, 1) := by decide +kernel
theorem dL_law_161 : decode cL_law 161 = .ok (.iaload, 1) := by decide +kernel
theorem dL_law_162 : decode cL_law 162 = .ok (.aload_n 0, 1) := by decide +kernel
theorem dL_law_163 : decode cL_law 163 = .ok (.iload_n 3, 1) := by decide +kernel
theorem dL_law_164 : decode cL_law 164 = .ok (.iconst 2, 1) := by decide +kernel
theorem dL_law_165 : decode cL_law 165 = .ok (.iadd, 1) := by decide +kernel
theorem dL_law_166 : decode cL_law 166 = .ok (.iaload, 1) := by decide +kernel
theorem dL_law_167 : decode cL_law 167 = .ok (.invokevirtual 23, 3) := by decide +kernel
theorem dL_law_170 : decode cL_law 170 = .ok (.aload_n 2, 1) := by decide +kernel
theorem dL_law_171 : decode cL_law 171 = .ok (.aload_n 0, 1) := by decide +kernel
theorem dL_law_172 : decode cL_law 172 = .ok (.iload_n 3, 1) := by decide +kernel
theorem dL_law_173 : decode cL_law 173 = .ok (.iconst 1, 1) := by decide +kernel
theorem dL_law_174 : decode cL_law 174 = .ok (.iadd, 1) := by decide +kernel
theorem dL_law_175 : decode cL_law 175 = .ok (.iaload, 1) := by decide +kernel
theorem dL_law_176 : decode cL_law 176 = .ok (.aload_n 0, 1) := by decide +kernel
theorem dL_law_177 : decode cL_law 177 = .ok (.iload_n 3, 1) := by decide +kernel
theorem dL_law_178 : decode cL_law 178 = .ok (.iconst 2, 1) := by decide +kernel
theorem dL_law_179 : decode cL_law 179 = .ok (.iadd, 1) := by decide +kernel
theorem dL_law_180 : decode cL_law 180 = .ok (.iaload, 1) := by decide +kernel
theorem dL_law_181 : decode cL_law 181 = .ok (.invokevirtual 26, 3) := by decide +kernel
theorem dL_law_184 : decode cL_law 184 = .ok (.if_icmp .eq 273, 3) := by decide +kernel
theorem dL_law_187 : decode cL_law 187 = .ok (.iconst 0, 1) := by decide +kernel
theorem dL_law_188 : decode cL_law 188 = .ok (.ireturn, 1) := by decide +kernel
theorem dL_law_189 : decode cL_law 189 = .ok (.aload_n 1, 1) := by decide +kernel
theorem dL_law_190 : decode cL_law 190 = .ok (.aload_n 0, 1) := by decide +kernel
theorem dL_law_191 : decode cL_law 191 = .ok (.iload_n 3, 1) := by decide +kernel
theorem dL_law_192 : decode cL_law 192 = .ok (.iconst 1, 1) := by decide +kernel
theorem dL_law_193 : decode cL_law 193 = .ok (.iadd, 1) := by decide +kernel
theorem dL_law_194 : decode cL_law 194 = .ok (.iaload, 1) := by decide +kernel
theorem dL_law_195 : decode cL_law 195 = .ok (.aload_n 0, 1) := by decide +kernel
theorem dL_law_196 : decode cL_law 196 = .ok (.iload_n 3, 1) := by decide +kernel
theorem dL_law_197 : decode cL_law 197 = .ok (.iconst 2, 1) := by decide +kernel
theorem dL_law_198 : decode cL_law 198 = .ok (.iadd, 1) := by decide +kernel
theorem dL_law_199 : decode cL_law 199 = .ok (.iaload, 1) := by decide +kernel
theorem dL_law_200 : decode cL_law 200 = .ok (.invokevirtual 27, 3) := by decide +kernel
theorem dL_law_203 : decode cL_law 203 = .ok (.aload_n 2, 1) := by decide +kernel
theorem dL_law_204 : decode cL_law 204 = .ok (.aload_n 0, 1) := by decide +kernel
theorem dL_law_205 : decode cL_law 205 = .ok (.iload_n 3, 1) := by decide +kernel
theorem dL_law_206 : decode cL_law 206 = .ok (.iconst 1, 1) := by decide +kernel
theorem dL_law_207 : decode cL_law 207 = .ok (.iadd, 1) := by decide +kernel
theorem dL_law_208 : decode cL_law 208 = .ok (.iaload, 1) := by decide +kernel
theorem dL_law_209 : decode cL_law 209 = .ok (.aload_n 0, 1) := by decide +kernel
theorem dL_law_210 : decode cL_law 210 = .ok (.iload_n 3, 1) := by decide +kernel
theorem dL_law_211 : decode cL_law 211 = .ok (.iconst 2, 1) := by decide +kernel
theorem dL_law_212 : decode cL_law 212 = .ok (.iadd, 1) := by decide +kernel
theorem dL_law_213 : decode cL_law 213 = .ok (.iaload, 1) := by decide +kernel
theorem dL_law_214 : decode cL_law 214 = .ok (.invokevirtual 30, 3) := by decide +kernel
theorem dL_law_217 : decode cL_law 217 = .ok (.if_icmp .eq 240, 3) := by decide +kernel
theorem dL_law_220 : decode cL_law 220 = .ok (.iconst 0, 1) := by decide +kernel
theorem dL_law_221 : decode cL_law 221 = .ok (.ireturn, 1) := by decide +kernel
theorem dL_law_222 : decode cL_law 222 = .ok (.aload_n 1, 1) := by decide +kernel
theorem dL_law_223 : decode cL_law 223 = .ok (.aload_n 0, 1) := by decide +kernel
theorem dL_law_224 : decode cL_law 224 = .ok (.iload_n 3, 1) := by decide +kernel
theorem dL_law_225 : decode cL_law 225 = .ok (.iconst 1, 1) := by decide +kernel
theorem dL_law_226 : decode cL_law 226 = .ok (.iadd, 1) := by decide +kernel
theorem dL_law_227 : decode cL_law 227 = .ok (.iaload, 1) := by decide +kernel
theorem dL_law_228 : decode cL_law 228 = .ok (.aload_n 0, 1) := by decide +kernel
theorem dL_law_229 : decode cL_law 229 = .ok (.iload_n 3, 1) := by decide +kernel
theorem dL_law_230 : decode cL_law 230 = .ok (.iconst 2, 1) := by decide +kernel
theorem dL_law_231 : decode cL_law 231 = .ok (.iadd, 1) := by decide +kernel
theorem dL_law_232 : decode cL_law 232 = .ok (.iaload, 1) := by decide +kernel
theorem dL_law_233 : decode cL_law 233 = .ok (.aload_n 0, 1) := by decide +kernel
theorem dL_law_234 : decode cL_law 234 = .ok (.iload_n 3, 1) := by decide +kernel
theorem dL_law_235 : decode cL_law 235 = .ok (.iconst 3, 1) := by decide +kernel
theorem dL_law_236 : decode cL_law 236 = .ok (.iadd, 1) := by decide +kernel
theorem dL_law_237 : decode cL_law 237 = .ok (.iaload, 1) := by decide +kernel
theorem dL_law_238 : decode cL_law 238 = .ok (.invokevirtual 31, 3) := by decide +kernel
theorem dL_law_241 : decode cL_law 241 = .ok (.aload_n 2, 1) := by decide +kernel
theorem dL_law_242 : decode cL_law 242 = .ok (.aload_n 0, 1) := by decide +kernel
theorem dL_law_243 : decode cL_law 243 = .ok (.iload_n 3, 1) := by decide +kernel
theorem dL_law_244 : decode cL_law 244 = .ok (.iconst 1, 1) := by decide +kernel
theorem dL_law_245 : decode cL_law 245 = .ok (.iadd, 1) := by decide +kernel
theorem dL_law_246 : decode cL_law 246 = .ok (.iaload, 1) := by decide +kernel
theorem dL_law_247 : decode cL_law 247 = .ok (.aload_n 0, 1) := by decide +kernel
theorem dL_law_248 : decode cL_law 248 = .ok (.iload_n 3, 1) := by decide +kernel
theorem dL_law_249 : decode cL_law 249 = .ok (.iconst 2, 1) := by decide +kernel
theorem dL_law_250 : decode cL_law 250 = .ok (.iadd, 1) := by decide +kernel
theorem dL_law_251 : decode cL_law 251 = .ok (.iaload, 1) := by decide +kernel
theorem dL_law_252 : decode cL_law 252 = .ok (.aload_n 0, 1) := by decide +kernel
theorem dL_law_253 : decode cL_law 253 = .ok (.iload_n 3, 1) := by decide +kernel
theorem dL_law_254 : decode cL_law 254 = .ok (.iconst 3, 1) := by decide +kernel
theorem dL_law_255 : decode cL_law 255 = .ok (.iadd, 1) := by decide +kernel
theorem dL_law_256 : decode cL_law 256 = .ok (.iaload, 1) := by decide +kernel
theorem dL_law_257 : decode cL_law 257 = .ok (.invokevirtual 35, 3) := by decide +kernel
theorem dL_law_260 : decode cL_law 260 = .ok (.if_icmp .eq 197, 3) := by decide +kernel
theorem dL_law_263 : decode cL_law 263 = .ok (.iconst 0, 1) := by decide +kernel
theorem dL_law_264 : decode cL_law 264 = .ok (.ireturn, 1) := by decide +kernel
end
section
set_option maxRecDepth 100000
theorem dL_law_265 : decode cL_law 265 = .ok (.aload_n 1, 1) := by decide +kernel
theorem dL_law_266 : decode cL_law 266 = .ok (.aload_n 0, 1) := by decide +kernel
theorem dL_law_267 : decode cL_law 267 = .ok (.iload_n 3, 1) := by decide +kernel
theorem dL_law_268 : decode cL_law 268 = .ok (.iconst 1, 1) := by decide +kernel
theorem dL_law_269 : decode cL_law 269 = .ok (.iadd, 1) := by decide +kernel
theorem dL_law_270 : decode cL_law 270 = .ok (.iaload, 1) := by decide +kernel
theorem dL_law_271 : decode cL_law 271 = .ok (.aload_n 0, 1) := by decide +kernel
theorem dL_law_272 : decode cL_law 272 = .ok (.iload_n 3, 1) := by decide +kernel
theorem dL_law_273 : decode cL_law 273 = .ok (.iconst 2, 1) := by decide +kernel
theorem dL_law_274 : decode cL_law 274 = .ok (.iadd, 1) := by decide +kernel
theorem dL_law_275 : decode cL_law 275 = .ok (.iaload, 1) := by decide +kernel
theorem dL_law_276 : decode cL_law 276 = .ok (.aload_n 0, 1) := by decide +kernel
theorem dL_law_277 : decode cL_law 277 = .ok (.iload_n 3, 1) := by decide +kernel
theorem dL_law_278 : decode cL_law 278 = .ok (.iconst 3, 1) := by decide +kernel
theorem dL_law_279 : decode cL_law 279 = .ok (.iadd, 1) := by decide +kernel
theorem dL_law_280 : decode cL_law 280 = .ok (.iaload, 1) := by decide +kernel
theorem dL_law_281 : decode cL_law 281 = .ok (.invokevirtual 36, 3) := by decide +kernel
theorem dL_law_284 : decode cL_law 284 = .ok (.aload_n 2, 1) := by decide +kernel
theorem dL_law_285 : decode cL_law 285 = .ok (.aload_n 0, 1) := by decide +kernel
theorem dL_law_286 : decode cL_law 286 = .ok (.iload_n 3, 1) := by decide +kernel
theorem dL_law_287 : decode cL_law 287 = .ok (.iconst 1, 1) := by decide +kernel
theorem dL_law_288 : decode cL_law 288 = .ok (.iadd, 1) := by decide +kernel
theorem dL_law_289 : decode cL_law 289 = .ok (.iaload, 1) := by decide +kernel
theorem dL_law_290 : decode cL_law 290 = .ok (.aload_n 0, 1) := by decide +kernel
theorem dL_law_291 : decode cL_law 291 = .ok (.iload_n 3, 1) := by decide +kernel
theorem dL_law_292 : decode cL_law 292 = .ok (.iconst 2, 1) := by decide +kernel
theorem dL_law_293 : decode cL_law 293 = .ok (.iadd, 1) := by decide +kernel
theorem dL_law_294 : decode cL_law 294 = .ok (.iaload, 1) := by decide +kernel
theorem dL_law_295 : decode cL_law 295 = .ok (.aload_n 0, 1) := by decide +kernel
theorem dL_law_296 : decode cL_law 296 = .ok (.iload_n 3, 1) := by decide +kernel
theorem dL_law_297 : decode cL_law 297 = .ok (.iconst 3, 1) := by decide +kernel
theorem dL_law_298 : decode cL_law 298 = .ok (.iadd, 1) := by decide +kernel
theorem dL_law_299 : decode cL_law 299 = .ok (.iaload, 1) := by decide +kernel
theorem dL_law_300 : decode cL_law 300 = .ok (.invokevirtual 39, 3) := by decide +kernel
theorem dL_law_303 : decode cL_law 303 = .ok (.if_icmp .eq 154, 3) := by decide +kernel
theorem dL_law_306 : decode cL_law 306 = .ok (.iconst 0, 1) := by decide +kernel
theorem dL_law_307 : decode cL_law 307 = .ok (.ireturn, 1) := by decide +kernel
theorem dL_law_308 : decode cL_law 308 = .ok (.aload_n 1, 1) := by decide +kernel
theorem dL_law_309 : decode cL_law 309 = .ok (.aload_n 0, 1) := by decide +kernel
theorem dL_law_310 : decode cL_law 310 = .ok (.iload_n 3, 1) := by decide +kernel
theorem dL_law_311 : decode cL_law 311 = .ok (.iconst 1, 1) := by decide +kernel
theorem dL_law_312 : decode cL_law 312 = .ok (.iadd, 1) := by decide +kernel
theorem dL_law_313 : decode cL_law 313 = .ok (.iaload, 1) := by decide +kernel
theorem dL_law_314 : decode cL_law 314 = .ok (.invokevirtual 40, 3) := by decide +kernel
theorem dL_law_317 : decode cL_law 317 = .ok (.aload_n 2, 1) := by decide +kernel
theorem dL_law_318 : decode cL_law 318 = .ok (.aload_n 0, 1) := by decide +kernel
theorem dL_law_319 : decode cL_law 319 = .ok (.iload_n 3, 1) := by decide +kernel
theorem dL_law_320 : decode cL_law 320 = .ok (.iconst 1, 1) := by decide +kernel
theorem dL_law_321 : decode cL_law 321 = .ok (.iadd, 1) := by decide +kernel
theorem dL_law_322 : decode cL_law 322 = .ok (.iaload, 1) := by decide +kernel
theorem dL_law_323 : decode cL_law 323 = .ok (.invokevirtual 43, 3) := by decide +kernel
theorem dL_law_326 : decode cL_law 326 = .ok (.if_icmp .eq 131, 3) := by decide +kernel
theorem dL_law_329 : decode cL_law 329 = .ok (.iconst 0, 1) := by decide +kernel
theorem dL_law_330 : decode cL_law 330 = .ok (.ireturn, 1) := by decide +kernel
theorem dL_law_331 : decode cL_law 331 = .ok (.aload_n 1, 1) := by decide +kernel
theorem dL_law_332 : decode cL_law 332 = .ok (.aload_n 0, 1) := by decide +kernel
theorem dL_law_333 : decode cL_law 333 = .ok (.iload_n 3, 1) := by decide +kernel
theorem dL_law_334 : decode cL_law 334 = .ok (.iconst 1, 1) := by decide +kernel
theorem dL_law_335 : decode cL_law 335 = .ok (.iadd, 1) := by decide +kernel
theorem dL_law_336 : decode cL_law 336 = .ok (.iaload, 1) := by decide +kernel
theorem dL_law_337 : decode cL_law 337 = .ok (.invokevirtual 44, 3) := by decide +kernel
theorem dL_law_340 : decode cL_law 340 = .ok (.aload_n 2, 1) := by decide +kernel
theorem dL_law_341 : decode cL_law 341 = .ok (.aload_n 0, 1) := by decide +kernel
theorem dL_law_342 : decode cL_law 342 = .ok (.iload_n 3, 1) := by decide +kernel
theorem dL_law_343 : decode cL_law 343 = .ok (.iconst 1, 1) := by decide +kernel
theorem dL_law_344 : decode cL_law 344 = .ok (.iadd, 1) := by decide +kernel
theorem dL_law_345 : decode cL_law 345 = .ok (.iaload, 1) := by decide +kernel
theorem dL_law_346 : decode cL_law 346 = .ok (.invokevirtual 47, 3) := by decide +kernel
theorem dL_law_349 : decode cL_law 349 = .ok (.if_icmp .eq 108, 3) := by decide +kernel
theorem dL_law_352 : decode cL_law 352 = .ok (.iconst 0, 1) := by decide +kernel
theorem dL_law_353 : decode cL_law 353 = .ok (.ireturn, 1) := by decide +kernel
theorem dL_law_354 : decode cL_law 354 = .ok (.aload_n 1, 1) := by decide +kernel
theorem dL_law_355 : decode cL_law 355 = .ok (.aload_n 0, 1) := by decide +kernel
theorem dL_law_356 : decode cL_law 356 = .ok (.iload_n 3, 1) := by decide +kernel
theorem dL_law_357 : decode cL_law 357 = .ok (.iconst 1, 1) := by decide +kernel
theorem dL_law_358 : decode cL_law 358 = .ok (.iadd, 1) := by decide +kernel
theorem dL_law_359 : decode cL_law 359 = .ok (.iaload, 1) := by decide +kernel
theorem dL_law_360 : decode cL_law 360 = .ok (.invokevirtual 48, 3) := by decide +kernel
theorem dL_law_363 : decode cL_law 363 = .ok (.aload_n 2, 1) := by decide +kernel
theorem dL_law_364 : decode cL_law 364 = .ok (.aload_n 0, 1) := by decide +kernel
theorem dL_law_365 : decode cL_law 365 = .ok (.iload_n 3, 1) := by decide +kernel
theorem dL_law_366 : decode cL_law 366 = .ok (.iconst 1, 1) := by decide +kernel
theorem dL_law_367 : decode cL_law 367 = .ok (.iadd, 1) := by decide +kernel
theorem dL_law_368 : decode cL_law 368 = .ok (.iaload, 1) := by decide +kernel
theorem dL_law_369 : decode cL_law 369 = .ok (.invokevirtual 52, 3) := by decide +kernel
theorem dL_law_372 : decode cL_law 372 = .ok (.goto 85, 3) := by decide +kernel
theorem dL_law_375 : decode cL_law 375 = .ok (.aload_n 1, 1) := by decide +kernel
theorem dL_law_376 : decode cL_law 376 = .ok (.invokevirtual 53, 3) := by decide +kernel
theorem dL_law_379 : decode cL_law 379 = .ok (.aload_n 2, 1) := by decide +kernel
theorem dL_law_380 : decode cL_law 380 = .ok (.invokevirtual 57, 3) := by decide +kernel
theorem dL_law_383 : decode cL_law 383 = .ok (.if_icmp .eq 74, 3) := by decide +kernel
theorem dL_law_386 : decode cL_law 386 = .ok (.iconst 0, 1) := by decide +kernel
theorem dL_law_387 : decode cL_law 387 = .ok (.ireturn, 1) := by decide +kernel
theorem dL_law_388 : decode cL_law 388 = .ok (.aload_n 1, 1) := by decide +kernel
theorem dL_law_389 : decode cL_law 389 = .ok (.aload_n 0, 1) := by decide +kernel
theorem dL_law_390 : decode cL_law 390 = .ok (.iload_n 3, 1) := by decide +kernel
theorem dL_law_391 : decode cL_law 391 = .ok (.iconst 1, 1) := by decide +kernel
theorem dL_law_392 : decode cL_law 392 = .ok (.iadd, 1) := by decide +kernel
theorem dL_law_393 : decode cL_law 393 = .ok (.iaload, 1) := by decide +kernel
theorem dL_law_394 : decode cL_law 394 = .ok (.invokevirtual 58, 3) := by decide +kernel
theorem dL_law_397 : decode cL_law 397 = .ok (.aload_n 2, 1) := by decide +kernel
theorem dL_law_398 : decode cL_law 398 = .ok (.aload_n 0, 1) := by decide +kernel
theorem dL_law_399 : decode cL_law 399 = .ok (.iload_n 3, 1) := by decide +kernel
theorem dL_law_400 : decode cL_law 400 = .ok (.iconst 1, 1) := by decide +kernel
theorem dL_law_401 : decode cL_law 401 = .ok (.iadd, 1) := by decide +kernel
theorem dL_law_402 : decode cL_law 402 = .ok (.iaload, 1) := by decide +kernel
theorem dL_law_403 : decode cL_law 403 = .ok (.invokevirtual 61, 3) := by decide +kernel
theorem dL_law_406 : decode cL_law 406 = .ok (.if_icmp .eq 51, 3) := by decide +kernel
theorem dL_law_409 : decode cL_law 409 = .ok (.iconst 0, 1) := by decide +kernel
theorem dL_law_410 : decode cL_law 410 = .ok (.ireturn, 1) := by decide +kernel
theorem dL_law_411 : decode cL_law 411 = .ok (.aload_n 1, 1) := by decide +kernel
theorem dL_law_412 : decode cL_law 412 = .ok (.aload_n 0, 1) := by decide +kernel
theorem dL_law_413 : decode cL_law 413 = .ok (.iload_n 3, 1) := by decide +kernel
theorem dL_law_414 : decode cL_law 414 = .ok (.iconst 1, 1) := by decide +kernel
theorem dL_law_415 : decode cL_law 415 = .ok (.iadd, 1) := by decide +kernel
theorem dL_law_416 : decode cL_law 416 = .ok (.iaload, 1) := by decide +kernel
theorem dL_law_417 : decode cL_law 417 = .ok (.invokevirtual 62, 3) := by decide +kernel
theorem dL_law_420 : decode cL_law 420 = .ok (.aload_n 2, 1) := by decide +kernel
theorem dL_law_421 : decode cL_law 421 = .ok (.aload_n 0, 1) := by decide +kernel
theorem dL_law_422 : decode cL_law 422 = .ok (.iload_n 3, 1) := by decide +kernel
theorem dL_law_423 : decode cL_law 423 = .ok (.iconst 1, 1) := by decide +kernel
theorem dL_law_424 : decode cL_law 424 = .ok (.iadd, 1) := by decide +kernel
theorem dL_law_425 : decode cL_law 425 = .ok (.iaload, 1) := by decide +kernel
theorem dL_law_426 : decode cL_law 426 = .ok (.invokevirtual 65, 3) := by decide +kernel
theorem dL_law_429 : decode cL_law 429 = .ok (.if_icmp .eq 28, 3) := by decide +kernel
theorem dL_law_432 : decode cL_law 432 = .ok (.iconst 0, 1) := by decide +kernel
theorem dL_law_433 : decode cL_law 433 = .ok (.ireturn, 1) := by decide +kernel
theorem dL_law_434 : decode cL_law 434 = .ok (.aload_n 1, 1) := by decide +kernel
theorem dL_law_435 : decode cL_law 435 = .ok (.aload_n 0, 1) := by decide +kernel
theorem dL_law_436 : decode cL_law 436 = .ok (.iload_n 3, 1) := by decide +kernel
theorem dL_law_437 : decode cL_law 437 = .ok (.iconst 1, 1) := by decide +kernel
theorem dL_law_438 : decode cL_law 438 = .ok (.iadd, 1) := by decide +kernel
theorem dL_law_439 : decode cL_law 439 = .ok (.iaload, 1) := by decide +kernel
theorem dL_law_440 : decode cL_law 440 = .ok (.invokevirtual 66, 3) := by decide +kernel
theorem dL_law_443 : decode cL_law 443 = .ok (.aload_n 2, 1) := by decide +kernel
theorem dL_law_444 : decode cL_law 444 = .ok (.aload_n 0, 1) := by decide +kernel
theorem dL_law_445 : decode cL_law 445 = .ok (.iload_n 3, 1) := by decide +kernel
theorem dL_law_446 : decode cL_law 446 = .ok (.iconst 1, 1) := by decide +kernel
theorem dL_law_447 : decode cL_law 447 = .ok (.iadd, 1) := by decide +kernel
theorem dL_law_448 : decode cL_law 448 = .ok (.iaload, 1) := by decide +kernel
theorem dL_law_449 : decode cL_law 449 = .ok (.invokevirtual 70, 3) := by decide +kernel
theorem dL_law_452 : decode cL_law 452 = .ok (.if_icmp .eq 5, 3) := by decide +kernel
theorem dL_law_455 : decode cL_law 455 = .ok (.iconst 0, 1) := by decide +kernel
theorem dL_law_456 : decode cL_law 456 = .ok (.ireturn, 1) := by decide +kernel
theorem dL_law_457 : decode cL_law 457 = .ok (.iinc 3 4, 3) := by decide +kernel
theorem dL_law_460 : decode cL_law 460 = .ok (.goto (-442), 3) := by decide +kernel
theorem dL_law_463 : decode cL_law 463 = .ok (.iconst 1, 1) := by decide +kernel
theorem dL_law_464 : decode cL_law 464 = .ok (.ireturn, 1) := by decide +kernel
end
section
/-! ROWS OF OUR OWN over the kit's: one object with its arrays as ONE state S : S k j is place j of the array in field k; a number in field k is S k 0 -/
abbrev ST : Type := Nat → Nat → Int32
def bI (b : Bool) : Int32 := if b then 1 else 0
theorem bI_t : bI true = 1 := rfl
theorem bI_f : bI false = 0 := rfl
theorem bI_nar (b : Bool) : narrow .boolean (.int (bI b)) = .int (bI b) := by cases b <;> rfl
theorem bI_0 {b : Bool} : bI b = 0 ↔ b = false := by cases b <;> decide
theorem bI_1 {b : Bool} : bI b = 1 ↔ b = true := by cases b <;> decide
theorem bI_n0 {b : Bool} (h : ¬ bI b = 0) : b = true := by cases b with
  | false => exact absurd rfl h
  | true => rfl
/-- the world of one object in the state S, at the heap H, since s -/
def ig_ (D : va_G) (cl : List vw_C) (Wf : ST → va_W) (tys : List (ClassId × FieldType)) (A : Nat → Prop) (s : State) (S : ST) (H : Heap) (locs : List Loc) : Prop :=
  va_K D cl tys s ∧ va_P D cl (Wf S) H ∧ va_D A (Wf S) ∧ va_S A s.heap H locs
/-- what a method leaves -/
def bg_ (D : va_G) (cl : List vw_C) (Wf : ST → va_W) (tys : List (ClassId × FieldType)) (A : Nat → Prop) (S : ST) (t : State) : Prop :=
  va_P D cl (Wf S) t.heap ∧ va_K D cl tys t ∧ va_D A (Wf S)
/-- a contract over one object: it is in the state S before, in S' behind; the answer and S' as post says; no cell is made -/
def mi_ (l : Launch) (D : va_G) (cl : List vw_C) (Wf : ST → va_W) (tys : List (ClassId × FieldType)) (y : MethodName) (b : ByteArray) (L : Nat) (r : Option FieldType) (rm : Room) (av : List Value) (S : ST) (post : Int32 → ST → Prop) : Prop :=
  ∀ sz : Nat, Met l y (ws_ y b L r) rm (va_Pc av (fun U => U.heap.size = sz ∧ va_P D cl (Wf S) U.heap ∧ va_K D cl tys U ∧ va_D (fun _ => True) (Wf S))) (va_Qi post (bg_ D cl Wf tys (va_A (Wf S) sz)) (va_A (Wf S) sz)) 0 0 (va_A (Wf S) sz)
def mv_ (l : Launch) (D : va_G) (cl : List vw_C) (Wf : ST → va_W) (tys : List (ClassId × FieldType)) (y : MethodName) (b : ByteArray) (L : Nat) (r : Option FieldType) (rm : Room) (av : List Value) (S : ST) (post : ST → Prop) : Prop :=
  ∀ sz : Nat, Met l y (ws_ y b L r) rm (va_Pc av (fun U => U.heap.size = sz ∧ va_P D cl (Wf S) U.heap ∧ va_K D cl tys U ∧ va_D (fun _ => True) (Wf S))) (va_Qv post (bg_ D cl Wf tys (va_A (Wf S) sz)) (va_A (Wf S) sz)) 0 0 (va_A (Wf S) sz)
section IGR
variable {p : Program} {l : Launch} {e : Env} {R : Room} {s : State} {m : MethodId} {args : Array Value} {below : List Frame} {meth : Method} {c : Code} {H : Heap} {locs : List Loc} {cells slots : Nat} {Q : State → Prop}
variable {cc : ByteArray} {pc nL : Nat} {ls : Array Slot} {rest : List Value} {D : va_G} {cl : List vw_C} {A : Nat → Prop} {Wf : ST → va_W} {tys : List (ClassId × FieldType)} {S : ST} {own : String}
theorem mi_of {y : MethodName} {b : ByteArray} {L : Nat} {r : Option FieldType} {rm : Room} {av : List Value} {post : Int32 → ST → Prop} (hy : plainName y.cls = true) (hL : (lg_sl av).length ≤ L)
    (body : ∀ (p : Program) (e : Env) (s : State) (m : MethodId) (below : List Frame) (meth : Method) (c : Code) (A : Nat → Prop) (ls : Array Slot), CallFix p m c b L s av.toArray lw_all y.cls → meth.sig.returnType = r → meth.locks = false → (∀ q : Nat, s.heap.size ≤ q → A q) → ig_ D cl Wf tys A s S s.heap [] → lv_has ls L (lv_args 0 av) →
      W p l e rm s m av.toArray below meth c s.heap [] 0 0 (MQ below (va_Qi post (bg_ D cl Wf tys A) A) av.toArray s 0 0 A) (F0 m 0 ls [])) : mi_ l D cl Wf tys y b L r rm av S post := by
  intro sz
  refine Met.ofW (cc := b) (maxL := L) (ret := r) hy rfl ?_
  intro p e s m args below meth c s₁ B hml hv
  obtain ⟨rfl, hsz, hP, hK, hD0⟩ := hv
  have hts := atoms_spec (ws := ws_ y b L r) B.pre
  have hts : ∀ w ∈ lw_all, w.before _ s = true := fun w h => hts w (List.mem_cons_of_mem _ h)
  have hown : s.vm.findClass y.cls = some m.cls := findClass_of_methodNamed B.named
  have hlocks := B.notSynchronized
  have hr := B.returns
  subst hsz
  have hD := hD0.self (sz := s.heap.size)
  generalize hAe : va_A (Wf S) s.heap.size = A at hD ⊢
  have hA : ∀ q : Nat, s.heap.size ≤ q → A q := fun q h => by rw [← hAe]; exact Or.inr h
  have hl := lv_entry av (n := L) hL
  rw [lg_entry_eq]
  exact body p e s m below meth c A _ ⟨B.exec, B.bytes, hml, hown, hts⟩ hr hlocks hA ⟨hK, hP, hD, va_S.rf⟩ hl
theorem mv_of {y : MethodName} {b : ByteArray} {L : Nat} {r : Option FieldType} {rm : Room} {av : List Value} {post : ST → Prop} (hy : plainName y.cls = true) (hL : (lg_sl av).length ≤ L)
    (body : ∀ (p : Program) (e : Env) (s : State) (m : MethodId) (below : List Frame) (meth : Method) (c : Code) (A : Nat → Prop) (ls : Array Slot), CallFix p m c b L s av.toArray lw_all y.cls → meth.sig.returnType = r → meth.locks = false → (∀ q : Nat, s.heap.size ≤ q → A q) → ig_ D cl Wf tys A s S s.heap [] → lv_has ls L (lv_args 0 av) →
      W p l e rm s m av.toArray below meth c s.heap [] 0 0 (MQ below (va_Qv post (bg_ D cl Wf tys A) A) av.toArray s 0 0 A) (F0 m 0 ls [])) : mv_ l D cl Wf tys y b L r rm av S post := by
  intro sz
  refine Met.ofW (cc := b) (maxL := L) (ret := r) hy rfl ?_
  intro p e s m args below meth c s₁ B hml hv
  obtain ⟨rfl, hsz, hP, hK, hD0⟩ := hv
  have hts := atoms_spec (ws := ws_ y b L r) B.pre
  have hts : ∀ w ∈ lw_all, w.before _ s = true := fun w h => hts w (List.mem_cons_of_mem _ h)
  have hown : s.vm.findClass y.cls = some m.cls := findClass_of_methodNamed B.named
  have hlocks := B.notSynchronized
  have hr := B.returns
  subst hsz
  have hD := hD0.self (sz := s.heap.size)
  generalize hAe : va_A (Wf S) s.heap.size = A at hD ⊢
  have hA : ∀ q : Nat, s.heap.size ≤ q → A q := fun q h => by rw [← hAe]; exact Or.inr h
  have hl := lv_entry av (n := L) hL
  rw [lg_entry_eq]
  exact body p e s m below meth c A _ ⟨B.exec, B.bytes, hml, hown, hts⟩ hr hlocks hA ⟨hK, hP, hD, va_S.rf⟩ hl
/-- ends -/
theorem ig_iret (C0 : CallFix p m c cc nL s args lw_all own) (hr : meth.sig.returnType = some .int) (hlocks : meth.locks = false) (I : ig_ D cl Wf tys A s S H locs) {post : Int32 → ST → Prop} {v : Int32} (hq : post v S) (hdg : decode cc pc = .ok (.ireturn, 1)) :
    W p l e R s m args below meth c H locs 0 0 (MQ below (va_Qi post (bg_ D cl Wf tys A) A) args s 0 0 A) (F0 m pc ls [.int v]) :=
  W.iret C0.1 C0.2.1 hr (fun t ht hW => ⟨⟨v, S, rfl, hq, by rw [ht]; exact I.2.1, va_K.moved hW.alike I.1, I.2.2.1⟩, I.2.2.2.F ht⟩) I.2.2.2.2.2 hdg hlocks
theorem ig_zret (C0 : CallFix p m c cc nL s args lw_all own) (hr : meth.sig.returnType = some .boolean) (hlocks : meth.locks = false) (I : ig_ D cl Wf tys A s S H locs) {post : Int32 → ST → Prop} {v : Int32} (hn : narrow .boolean (.int v) = .int v) (hq : post v S) (hdg : decode cc pc = .ok (.ireturn, 1)) :
    W p l e R s m args below meth c H locs 0 0 (MQ below (va_Qi post (bg_ D cl Wf tys A) A) args s 0 0 A) (F0 m pc ls [.int v]) :=
  W.zret C0.1 C0.2.1 hr hn (fun t ht hW => ⟨⟨v, S, rfl, hq, by rw [ht]; exact I.2.1, va_K.moved hW.alike I.1, I.2.2.1⟩, I.2.2.2.F ht⟩) I.2.2.2.2.2 hdg hlocks
theorem ig_vret (C0 : CallFix p m c cc nL s args lw_all own) (hr : meth.sig.returnType = none) (hlocks : meth.locks = false) (I : ig_ D cl Wf tys A s S H locs) {post : ST → Prop} (hq : post S) (hdg : decode cc pc = .ok (.return_, 1)) :
    W p l e R s m args below meth c H locs 0 0 (MQ below (va_Qv post (bg_ D cl Wf tys A) A) args s 0 0 A) (F0 m pc ls []) :=
  W.vret C0.1 C0.2.1 hr (fun t ht hW => ⟨⟨S, rfl, hq, by rw [ht]; exact I.2.1, va_K.moved hW.alike I.1, I.2.2.1⟩, I.2.2.2.F ht⟩) I.2.2.2.2.2 hdg hlocks
/-- fields -/
theorem ig_get (C0 : CallFix p m c cc nL s args lw_all own) (I : ig_ D cl Wf tys A s S H locs) {C : String} {T : u_T} {N ci h : Nat} {fs : List Value} (hin : ∀ w ∈ u_ws C T N, w ∈ lw_all) (he : (Wf S)[0]? = some (h, .inr (ci, fs))) (hc : cl[ci]? = some (C, T, N)) (k : Nat) (hk : k < N) {index : Nat} (hq : Cond.fieldLink own index (T k).1 (T k).2.1 (T k).2.2.1 ∈ lw_all) {v : Value} (hv : fs[k]? = some v) (hdg : decode cc pc = .ok (.getfield index, 3))
    (kk : W p l e R s m args below meth c H locs cells slots Q (F0 m (pc + 3) ls (v :: rest))) : W p l e R s m args below meth c H locs cells slots Q (F0 m pc ls (.ref h :: rest)) :=
  va_get C0.1 C0.2.1 C0.2.2.2.2 hin C0.2.2.2.1 I.1 I.2.1 0 he hc k hk (C0.2.2.2.2 _ hq) (fun _ h9 => h9) hv hdg kk
theorem ig_put (C0 : CallFix p m c cc nL s args lw_all own) (I : ig_ D cl Wf tys A s S H locs) {C : String} {T : u_T} {N ci h : Nat} {fs : List Value} (hin : ∀ w ∈ u_ws C T N, w ∈ lw_all) (ty0 : Nat → FieldType) (hty : ∀ k, k < N → parseFieldDescriptor (T k).2.2.1 = some (ty0 k)) (hnm : ∀ a, a < N → ∀ b, b < N → a ≠ b → (T a).2.1 ≠ (T b).2.1) (he : (Wf S)[0]? = some (h, .inr (ci, fs))) (hc : cl[ci]? = some (C, T, N)) (k : Nat) (hk : k < N) {index : Nat} (hq : Cond.fieldLink own index (T k).1 (T k).2.1 (T k).2.2.1 ∈ lw_all) (hfin : (T k).2.2.2 = false) (hd : parseFieldDescriptor (T k).2.2.1 = some .int) (hl : k < fs.length) {v : Int32} (S' : ST) (hw : (Wf S).set 0 (h, .inr (ci, fs.set k (.int v))) = Wf S') (hdg : decode cc pc = .ok (.putfield index, 3))
    (kk : ∀ (H1 : Heap) (locs1 : List Loc), ig_ D cl Wf tys A s S' H1 locs1 → W p l e R s m args below meth c H1 locs1 cells slots Q (F0 m (pc + 3) ls rest)) : W p l e R s m args below meth c H locs cells slots Q (F0 m pc ls (.int v :: .ref h :: rest)) :=
  va_put C0.1 C0.2.1 C0.2.2.2.2 hin ty0 hty hnm C0.2.2.2.1 I.1 I.2.1 I.2.2.1 I.2.2.2 0 he hc k hk (C0.2.2.2.2 _ hq) (fun _ h9 => h9) hfin hd rfl rfl hl hdg (fun H1 locs1 a1 a2 a3 => kk H1 locs1 ⟨I.1, by rw [← hw]; exact a1, by rw [← hw]; exact a2, a3⟩)
/-- arrays -/
theorem ig_ald (C0 : CallFix p m c cc nL s args lw_all own) (I : ig_ D cl Wf tys A s S H locs) (k q0 t0 : Nat) {a n : Nat} {cA : ClassId} (ha : (Wf S)[q0]? = some (a, .inl (cA, n, .inl (S k)))) (ht : tys[t0]? = some (cA, .int)) {i : Int32} (j : Nat) (hi : i = nI j) (hj : j < n) (hn : n < 2 ^ 31) (hdg : decode cc pc = .ok (.iaload, 1))
    (kk : W p l e R s m args below meth c H locs cells slots Q (F0 m (pc + 1) ls (.int (S k j) :: rest))) : W p l e R s m args below meth c H locs cells slots Q (F0 m pc ls (.int i :: .ref a :: rest)) := by
  have h1 : i.toNatClampNeg = j := by rw [hi]; exact nI_clamp (by omega)
  refine va_iald C0.1 C0.2.1 I.1 I.2.1 q0 t0 ha ht (by rw [hi]; exact vp_in_nI hj hn) hdg ?_
  rw [h1]
  exact kk
theorem ig_zald (C0 : CallFix p m c cc nL s args lw_all own) (I : ig_ D cl Wf tys A s S H locs) (k q0 t0 : Nat) {a n : Nat} {cA : ClassId} (ha : (Wf S)[q0]? = some (a, .inl (cA, n, .inl (S k)))) (ht : tys[t0]? = some (cA, .boolean)) {i : Int32} (j : Nat) (hi : i = nI j) (hj : j < n) (hn : n < 2 ^ 31) (hdg : decode cc pc = .ok (.baload, 1))
    (kk : W p l e R s m args below meth c H locs cells slots Q (F0 m (pc + 1) ls (.int (S k j) :: rest))) : W p l e R s m args below meth c H locs cells slots Q (F0 m pc ls (.int i :: .ref a :: rest)) := by
  have h1 : i.toNatClampNeg = j := by rw [hi]; exact nI_clamp (by omega)
  refine va_zald C0.1 C0.2.1 I.1 I.2.1 q0 t0 ha ht (by rw [hi]; exact vp_in_nI hj hn) hdg ?_
  rw [h1]
  exact kk
theorem ig_ast (C0 : CallFix p m c cc nL s args lw_all own) (I : ig_ D cl Wf tys A s S H locs) (k q0 t0 : Nat) {a n : Nat} {cA : ClassId} (ha : (Wf S)[q0]? = some (a, .inl (cA, n, .inl (S k)))) (ht : tys[t0]? = some (cA, .int)) {i x : Int32} (j : Nat) (hi : i = nI j) (hj : j < n) (hn : n < 2 ^ 31) (S' : ST) (hw : (Wf S).set q0 (a, .inl (cA, n, .inl (upd (S k) j x))) = Wf S') (hdg : decode cc pc = .ok (.iastore, 1))
    (kk : ∀ (H1 : Heap) (locs1 : List Loc), ig_ D cl Wf tys A s S' H1 locs1 → W p l e R s m args below meth c H1 locs1 cells slots Q (F0 m (pc + 1) ls rest)) : W p l e R s m args below meth c H locs cells slots Q (F0 m pc ls (.int x :: .int i :: .ref a :: rest)) := by
  have h1 : i.toNatClampNeg = j := by rw [hi]; exact nI_clamp (by omega)
  refine va_iast C0.1 C0.2.1 I.1 I.2.1 I.2.2.1 I.2.2.2 q0 t0 ha ht (by rw [hi]; exact vp_in_nI hj hn) hdg (fun H1 locs1 a1 a2 a3 => ?_)
  rw [h1, hw] at a1 a2
  exact kk H1 locs1 ⟨I.1, a1, a2, a3⟩
theorem ig_zast (C0 : CallFix p m c cc nL s args lw_all own) (I : ig_ D cl Wf tys A s S H locs) (k q0 t0 : Nat) {a n : Nat} {cA : ClassId} (ha : (Wf S)[q0]? = some (a, .inl (cA, n, .inl (S k)))) (ht : tys[t0]? = some (cA, .boolean)) {i x : Int32} (hx : vp_nar .boolean x = x) (j : Nat) (hi : i = nI j) (hj : j < n) (hn : n < 2 ^ 31) (S' : ST) (hw : (Wf S).set q0 (a, .inl (cA, n, .inl (upd (S k) j x))) = Wf S') (hdg : decode cc pc = .ok (.bastore, 1))
    (kk : ∀ (H1 : Heap) (locs1 : List Loc), ig_ D cl Wf tys A s S' H1 locs1 → W p l e R s m args below meth c H1 locs1 cells slots Q (F0 m (pc + 1) ls rest)) : W p l e R s m args below meth c H locs cells slots Q (F0 m pc ls (.int x :: .int i :: .ref a :: rest)) := by
  have h1 : i.toNatClampNeg = j := by rw [hi]; exact nI_clamp (by omega)
  refine va_zast C0.1 C0.2.1 I.1 I.2.1 I.2.2.1 I.2.2.2 q0 t0 ha ht (by rw [hi]; exact vp_in_nI hj hn) hdg (fun H1 locs1 a1 a2 a3 => ?_)
  rw [h1, hx, hw] at a1 a2
  exact kk H1 locs1 ⟨I.1, a1, a2, a3⟩
theorem ig_free (I : ig_ D cl Wf tys A s S H locs) (hA : ∀ q : Nat, s.heap.size ≤ q → A q) : ∀ q, va_A (Wf S) H.size q → A q := by
  intro q hq
  rcases hq with ⟨k, e1, hk⟩ | hq
  · exact I.2.2.1.2 k (q, e1) hk
  · exact hA q (Nat.le_trans I.2.2.2.1 hq)
/-- calls of a method of the object, through it -/
theorem ig_calli (C0 : CallFix p m c cc nL s args lw_all own) (hA : ∀ q : Nat, s.heap.size ≤ q → A q) (I : ig_ D cl Wf tys A s S H locs) {y : MethodName} {b : ByteArray} {L : Nat} {r : Option FieldType} {rm : Room} {h : Nat} {As : List Value} {post : Int32 → ST → Prop} (hM : mi_ l D cl Wf tys y b L r rm (.ref h :: As) S post)
    {C : String} {T : u_T} {N ci : Nat} {fs : List Value} (he : (Wf S)[0]? = some (h, .inr (ci, fs))) (hc : cl[ci]? = some (C, T, N)) {index : Nat} (hg : GoodIn lw_all (wsV own index C y (ws_ y b L r))) (n : Nat) (hd : y.cls = C ∧ y.cls ≠ "java/lang/invoke/MethodHandle" ∧ y.cls ≠ "java/lang/invoke/VarHandle" ∧ (parseMethodDescriptor y.desc).map (fun d => d.parameters.length) = some n) (hrc : rm.cells = 0) (hrs : rm.slots = 0) (hR : rm.frames + 1 ≤ R.frames ∧ 8 + (L + 11) + rm.locals ≤ R.locals) (hf : cells ≤ R.cells ∧ slots ≤ R.slots)
    (hn : As.length = n) (hls : ls.size = nL) (hW : (rest.map fun v => v.category).sum ≤ 8) (hdg : decode cc pc = .ok (.invokevirtual index, 3)) {st : List Value} (hst : st = As.reverse ++ .ref h :: rest)
    (kk : ∀ (r : Int32) (S' : ST) (H1 : Heap) (locs1 : List Loc), post r S' → ig_ D cl Wf tys A s S' H1 locs1 → (∀ q : Nat, q < H.size → ¬ va_A (Wf S) H.size q → H1[q]? = H[q]?) → W p l e R s m args below meth c H1 locs1 cells slots Q (F0 m (pc + 3) ls (.int r :: rest))) : W p l e R s m args below meth c H locs cells slots Q (F0 m pc ls st) := by
  subst hst
  have hF := ig_free I hA
  obtain ⟨hK, hP, hD, hS⟩ := I
  refine va_calli (va_runV (As := As) (rest := rest) C0 (hM H.size) (cwV n C0.2.2.2.2 hg rfl hrc hrs hd hR) ⟨fun a U g mk q => by obtain ⟨q0, q1, qP, qK, qD⟩ := q; exact ⟨q0, q1, qP, va_K.moved (u := U) (U := U.calling g mk a) (Vm.Alike.refl U.vm) qK, qD⟩, va_recv hK hP (ci := ci) (q0 := 0) hc he, fun U hU hW => ⟨rfl, by rw [hU], by rw [hU]; exact hP, va_K.moved hW.alike hK, hD.weaken (fun _ _ _ _ => trivial)⟩⟩ rfl hn hls rfl (lv_room hW) hdg hf) hS (fun q _ h => hF q h) hF (fun r u t H1 locs1 ht hvm hw hB hz1 hk1 hS1 => ?_)
  obtain ⟨hP1, hK1, hD1⟩ := hB
  rw [ht] at hP1
  exact kk r u H1 locs1 hw ⟨hK, hP1, hD1.weaken (fun k q _ h => hF q.1 h), hS1⟩ hk1
theorem ig_callv (C0 : CallFix p m c cc nL s args lw_all own) (hA : ∀ q : Nat, s.heap.size ≤ q → A q) (I : ig_ D cl Wf tys A s S H locs) {y : MethodName} {b : ByteArray} {L : Nat} {r : Option FieldType} {rm : Room} {h : Nat} {As : List Value} {post : ST → Prop} (hM : mv_ l D cl Wf tys y b L r rm (.ref h :: As) S post)
    {C : String} {T : u_T} {N ci : Nat} {fs : List Value} (he : (Wf S)[0]? = some (h, .inr (ci, fs))) (hc : cl[ci]? = some (C, T, N)) {index : Nat} (hg : GoodIn lw_all (wsV own index C y (ws_ y b L r))) (n : Nat) (hd : y.cls = C ∧ y.cls ≠ "java/lang/invoke/MethodHandle" ∧ y.cls ≠ "java/lang/invoke/VarHandle" ∧ (parseMethodDescriptor y.desc).map (fun d => d.parameters.length) = some n) (hrc : rm.cells = 0) (hrs : rm.slots = 0) (hR : rm.frames + 1 ≤ R.frames ∧ 8 + (L + 11) + rm.locals ≤ R.locals) (hf : cells ≤ R.cells ∧ slots ≤ R.slots)
    (hn : As.length = n) (hls : ls.size = nL) (hW : (rest.map fun v => v.category).sum ≤ 8) (hdg : decode cc pc = .ok (.invokevirtual index, 3)) {st : List Value} (hst : st = As.reverse ++ .ref h :: rest)
    (kk : ∀ (S' : ST) (H1 : Heap) (locs1 : List Loc), post S' → ig_ D cl Wf tys A s S' H1 locs1 → (∀ q : Nat, q < H.size → ¬ va_A (Wf S) H.size q → H1[q]? = H[q]?) → W p l e R s m args below meth c H1 locs1 cells slots Q (F0 m (pc + 3) ls rest)) : W p l e R s m args below meth c H locs cells slots Q (F0 m pc ls st) := by
  subst hst
  have hF := ig_free I hA
  obtain ⟨hK, hP, hD, hS⟩ := I
  refine va_callv (va_runV (As := As) (rest := rest) C0 (hM H.size) (cwV n C0.2.2.2.2 hg rfl hrc hrs hd hR) ⟨fun a U g mk q => by obtain ⟨q0, q1, qP, qK, qD⟩ := q; exact ⟨q0, q1, qP, va_K.moved (u := U) (U := U.calling g mk a) (Vm.Alike.refl U.vm) qK, qD⟩, va_recv hK hP (ci := ci) (q0 := 0) hc he, fun U hU hW => ⟨rfl, by rw [hU], by rw [hU]; exact hP, va_K.moved hW.alike hK, hD.weaken (fun _ _ _ _ => trivial)⟩⟩ rfl hn hls rfl (lv_room hW) hdg hf) hS (fun q _ h => hF q h) hF (fun u t H1 locs1 ht hvm hw hB hz1 hk1 hS1 => ?_)
  obtain ⟨hP1, hK1, hD1⟩ := hB
  rw [ht] at hP1
  exact kk u H1 locs1 hw ⟨hK, hP1, hD1.weaken (fun k q _ h => hF q.1 h), hS1⟩ hk1
/-- another object stays as it was -/
theorem ig_keep {Wg : ST → va_W} {tys2 : List (ClassId × FieldType)} {M : ST} {w : va_W} {H1 : Heap} {locs1 : List Loc} (J : ig_ D cl Wg tys2 A s M H locs) (hS1 : va_S A s.heap H1 locs1) (hk : ∀ q : Nat, q < H.size → ¬ va_A w H.size q → H1[q]? = H[q]?) (hdis : ∀ (i j : Nat) (x y : Nat × va_E), w[i]? = some x → (Wg M)[j]? = some y → x.1 ≠ y.1) : ig_ D cl Wg tys2 A s M H1 locs1 := by
  refine ⟨J.1, J.2.1.kept (fun k q hq => ?_), J.2.2.1, hS1⟩
  have hl := (J.2.1 k q hq).lt
  refine hk q.1 hl (fun h => ?_)
  rcases h with ⟨i, e1, hi⟩ | h
  · exact hdis i k (q.1, e1) q hi hq rfl
  · omega
end IGR
/-! the two classes -/
abbrev clX : List vw_C := [(RX0, TX0, 17), (RX1, TX1, 9)]
def FX (a : Nat → Nat) (S : ST) : List Value := [.ref (a 0), .ref (a 1), .ref (a 2), .ref (a 3), .ref (a 4), .ref (a 5), .ref (a 6), .int (S 7 0), .ref (a 8), .int (S 9 0), .int (S 10 0), .int (S 11 0), .ref (a 12), .ref (a 13), .int (S 14 0), .ref (a 15), .ref (a 16)]
def WX (h : Nat) (a : Nat → Nat) (d : Nat → ClassId) (S : ST) : va_W := [(h, .inr (0, FX a S)), (a 0, .inl (d 0, 12, .inl (S 0))), (a 1, .inl (d 1, 12, .inl (S 1))), (a 2, .inl (d 2, 12, .inl (S 2))), (a 3, .inl (d 3, 72, .inl (S 3))), (a 4, .inl (d 4, 72, .inl (S 4))), (a 5, .inl (d 5, 72, .inl (S 5))), (a 6, .inl (d 6, 24, .inl (S 6))), (a 8, .inl (d 8, 24, .inl (S 8))), (a 12, .inl (d 12, 24, .inl (S 12))), (a 13, .inl (d 13, 24, .inl (S 13))), (a 15, .inl (d 15, 12, .inl (S 15))), (a 16, .inl (d 16, 12, .inl (S 16)))]
def TYX (d : Nat → ClassId) : List (ClassId × FieldType) := [(d 0, .boolean), (d 1, .int), (d 2, .int), (d 3, .int), (d 4, .int), (d 5, .int), (d 6, .int), (d 8, .int), (d 12, .int), (d 13, .int), (d 15, .int), (d 16, .int)]
def FM (a : Nat → Nat) (S : ST) : List Value := [.ref (a 0), .ref (a 1), .ref (a 2), .ref (a 3), .ref (a 4), .ref (a 5), .ref (a 6), .int (S 7 0), .int (S 8 0)]
def WM (h : Nat) (a : Nat → Nat) (d : Nat → ClassId) (S : ST) : va_W := [(h, .inr (1, FM a S)), (a 0, .inl (d 0, 12, .inl (S 0))), (a 1, .inl (d 1, 12, .inl (S 1))), (a 2, .inl (d 2, 12, .inl (S 2))), (a 3, .inl (d 3, 72, .inl (S 3))), (a 4, .inl (d 4, 72, .inl (S 4))), (a 5, .inl (d 5, 72, .inl (S 5))), (a 6, .inl (d 6, 16, .inl (S 6)))]
def TYM (d : Nat → ClassId) : List (ClassId × FieldType) := [(d 0, .boolean), (d 1, .int), (d 2, .int), (d 3, .int), (d 4, .int), (d 5, .int), (d 6, .int)]
end
section
/-! ===== Int32 by its bits: bt x i ===== -/
def bt (x : Int32) (i : Nat) : Bool := x.toBitVec.getLsbD i
theorem b_ext {x y : Int32} (h : ∀ i, i < 32 → bt x i = bt y i) : x = y := Int32.toBitVec_inj.mp (BitVec.eq_of_getLsbD_eq (fun i hi => h i hi))
theorem b_or (x y : Int32) (i : Nat) : bt (x ||| y) i = (bt x i || bt y i) := by unfold bt; rw [Int32.toBitVec_or, BitVec.getLsbD_or]
theorem b_and (x y : Int32) (i : Nat) : bt (x &&& y) i = (bt x i && bt y i) := by unfold bt; rw [Int32.toBitVec_and, BitVec.getLsbD_and]
theorem b_xor (x y : Int32) (i : Nat) : bt (x ^^^ y) i = (bt x i ^^ bt y i) := by unfold bt; rw [Int32.toBitVec_xor, BitVec.getLsbD_xor]
theorem b_big {x : Int32} {i : Nat} (h : 32 ≤ i) : bt x i = false := BitVec.getLsbD_of_ge _ _ h
theorem b_255 (i : Nat) : bt 255 i = decide (i < 8) := by
  rcases Nat.lt_or_ge i 32 with h | h
  · exact (by decide +kernel : ∀ i, i < 32 → bt 255 i = decide (i < 8)) i h
  · rw [b_big h, decide_eq_false (by omega)]
theorem b_65535 (i : Nat) : bt 65535 i = decide (i < 16) := by
  rcases Nat.lt_or_ge i 32 with h | h
  · exact (by decide +kernel : ∀ i, i < 32 → bt 65535 i = decide (i < 16)) i h
  · rw [b_big h, decide_eq_false (by omega)]
theorem b_m1 : ∀ i, i < 32 → bt (-1) i = true := by decide +kernel
theorem b_0 (i : Nat) : bt 0 i = false := BitVec.getLsbD_zero
theorem s_l : ∀ n, n < 32 → ((nI n &&& 31).toBitVec.smod 32).toNat = n := by decide +kernel
theorem s_u : ∀ n, n < 32 → (((nI n).toUInt32 &&& Int32.toUInt32 31).toBitVec % 32).toNat = n := by decide +kernel
theorem b_shl (n : Nat) (hn : n < 32) (x : Int32) {i : Nat} (hi : i < 32) : bt (x <<< (nI n &&& 31)) i = (decide (n ≤ i) && bt x (i - n)) := by
  unfold bt
  rw [Int32.toBitVec_shiftLeft]
  show (x.toBitVec <<< ((nI n &&& 31).toBitVec.smod 32).toNat).getLsbD i = _
  rw [s_l n hn, BitVec.getLsbD_shiftLeft]
  rcases Nat.lt_or_ge i n with h | h
  · simp [h, Nat.not_le.mpr h]
  · simp [hi, h, Nat.not_lt.mpr h]
theorem b_ushr (n : Nat) (hn : n < 32) (x : Int32) (i : Nat) : bt ((x.toUInt32 >>> ((nI n).toUInt32 &&& Int32.toUInt32 31)).toInt32) i = bt x (n + i) := by
  show (x.toUInt32 >>> ((nI n).toUInt32 &&& Int32.toUInt32 31)).toBitVec.getLsbD i = x.toUInt32.toBitVec.getLsbD (n + i)
  rw [UInt32.toBitVec_shiftRight]
  show (x.toUInt32.toBitVec >>> (((nI n).toUInt32 &&& Int32.toUInt32 31).toBitVec % 32).toNat).getLsbD i = _
  rw [s_u n hn, BitVec.getLsbD_ushiftRight]
theorem b_sshr (n : Nat) (hn : n < 32) (x : Int32) {i : Nat} (hi : i < 32) : bt (x >>> (nI n &&& 31)) i = if n + i < 32 then bt x (n + i) else bt x 31 := by
  unfold bt
  rw [Int32.toBitVec_shiftRight]
  show (x.toBitVec.sshiftRight ((nI n &&& 31).toBitVec.smod 32).toNat).getLsbD i = _
  rw [s_l n hn, BitVec.getLsbD_sshiftRight, BitVec.msb_eq_getLsbD_last]
  simp [hi]

theorem b_1 (i : Nat) : bt 1 i = decide (i = 0) := by
  rcases Nat.lt_or_ge i 32 with h | h
  · exact (by decide +kernel : ∀ i, i < 32 → bt 1 i = decide (i = 0)) i h
  · rw [b_big h, decide_eq_false (by omega)]
/-- one bit set -/
theorem b_one {n i : Nat} (hn : n < 32) (hi : i < 32) : bt ((1 : Int32) <<< (nI n &&& 31)) i = decide (i = n) := by
  rw [b_shl n hn 1 hi, b_1]
  by_cases h : i = n
  · subst h; simp
  · by_cases h2 : n ≤ i
    · simp [h, h2]; omega
    · simp [h, h2]
/-- bit n asked -/
theorem b_ask {n : Nat} (hn : n < 32) (x : Int32) : ((x >>> (nI n &&& 31)) &&& 1 = 1) ↔ bt x n = true := by
  have h0 : ∀ i, i < 32 → bt ((x >>> (nI n &&& 31)) &&& 1) i = (decide (i = 0) && bt x n) := by
    intro i hi
    rw [b_and, b_1]
    by_cases h : i = 0
    · subst h
      rw [b_sshr n hn x (by omega)]
      simp [hn]
    · simp [h]
  constructor
  · intro h
    have h1 := h0 0 (by omega)
    rw [h, b_1] at h1
    simpa using h1.symm
  · intro h
    refine b_ext (fun i hi => ?_)
    rw [h0 i hi, b_1, h]
    simp
def clr (x : Int32) (q : Nat) : Int32 := x &&& (((1 : Int32) <<< (nI q &&& 31)) ^^^ (-1))
def st1 (x : Int32) (q : Nat) : Int32 := x ||| ((1 : Int32) <<< (nI q &&& 31))
theorem b_clr (x : Int32) {q i : Nat} (hq : q < 32) (hi : i < 32) : bt (clr x q) i = (bt x i && !decide (i = q)) := by
  unfold clr
  rw [b_and, b_xor, b_one hq hi, b_m1 i hi]
  simp
theorem b_st1 (x : Int32) {q i : Nat} (hq : q < 32) (hi : i < 32) : bt (st1 x q) i = (bt x i || decide (i = q)) := by
  unfold st1
  rw [b_or, b_one hq hi]
/-! ===== the state's words ===== -/
def rmX (f n : Nat) : Room := { frames := f, cells := 0, slots := 0, locals := n }
def isQ (S : ST) (p : Int32) : Prop := ∃ Q, Q < 12 ∧ p = nI Q ∧ ¬ S 0 Q = 0
def isT (p : Int32) : Prop := ∃ t, t < 24 ∧ p = nI t
def okC (S : ST) : Prop := (∀ j, j < 12 → S 0 j = 0 ∨ S 0 j = 1) ∧ (∀ j, j < 12 → ∃ c, c ≤ 6 ∧ S 2 j = nI c) ∧ (∀ j, j < 72 → ∃ k, k ≤ 4 ∧ S 3 j = nI k) ∧ (∀ j, j < 72 → ¬ S 3 j = 4 → ∃ t, t < 24 ∧ S 4 j = nI t) ∧ (∀ j, j < 72 → S 3 j = 3 → ∃ t, t < 24 ∧ S 5 j = nI t)
theorem okC_of {S S1 : ST} (h0 : S1 0 = S 0) (h2 : S1 2 = S 2) (h3 : S1 3 = S 3) (h4 : S1 4 = S 4) (h5 : S1 5 = S 5) (ok : okC S) : okC S1 := by
  unfold okC
  rw [h0, h2, h3, h4, h5]
  exact ok
theorem pin_12 {p : Int32} (h0 : ¬ p < 0) (h1 : ¬ (12 : Int32) ≤ p) : ∃ Q, Q < 12 ∧ p = nI Q := by
  rcases pk_ix p (n := 12) (by decide) with h | h | h
  · exact absurd h h0
  · exact absurd h h1
  · exact h
theorem pin_24 {p : Int32} (h0 : ¬ p < 0) (h1 : ¬ (24 : Int32) ≤ p) : isT p := by
  rcases pk_ix p (n := 24) (by decide) with h | h | h
  · exact absurd h h0
  · exact absurd h h1
  · exact h
theorem nge_nI {n k : Nat} (hn : n < 2 ^ 31) (hk : k < 2 ^ 31) (h : k < n) : ¬ nI n ≤ nI k := fun q => by
  have := (nI_leI hn hk).mp q
  omega
def sureB (S : ST) (i : Nat) : Bool := decide (S 3 i = 0) || decide (S 3 i = 3)
def btB (p : Int32) : Bool := !(!decide (p < 0) && decide (p < 24))
/-! ===== clauses, over what a document says: cn t how often, bs t u right behind, num its number ===== -/
def hG (K F G : Nat → Int32) (cn : Int32 → Int32) (bs : Int32 → Int32 → Bool) (num : Int32) (j : Nat) : Bool :=
  if K j = 0 then decide (0 < cn (F j)) else if K j = 1 then decide (cn (F j) = 0) else if K j = 3 then bs (F j) (G j) else if K j = 4 then (decide (F j ≤ num) && decide (num ≤ G j)) else true
def ckG (K F G : Nat → Int32) (cn : Int32 → Int32) (bs : Int32 → Int32 → Bool) (num lst : Int32) : Nat → Nat → Int32 → Bool
  | 0, _, met => decide (lst ≤ met)
  | n + 1, j, met => if K j = 2 then ckG K F G cn bs num lst n (j + 1) (if 0 < cn (F j) then met + 1 else met) else (hG K F G cn bs num j && ckG K F G cn bs num lst n (j + 1) met)
def sc1 (K F : Nat → Int32) (cn : Int32 → Int32) (j : Nat) (x : Int32) : Int32 := if K j = 0 ∨ K j = 2 then x + cn (F j) else x
def scG (K F : Nat → Int32) (cn : Int32 → Int32) (b : Nat) : Nat → Int32
  | 0 => 0
  | n + 1 => if K (b + n) = 3 then sc1 K F cn (b + n) (scG K F cn b n) + 5 else sc1 K F cn (b + n) (scG K F cn b n)
section HG
variable {K F G : Nat → Int32} {cn : Int32 → Int32} {bs : Int32 → Int32 → Bool} {num lst : Int32} {j n : Nat} {met : Int32}
theorem hG_0 (e : K j = 0) : hG K F G cn bs num j = decide (0 < cn (F j)) := if_pos e
theorem hG_1 (e : K j = 1) : hG K F G cn bs num j = decide (cn (F j) = 0) := by unfold hG; rw [e]; rfl
theorem hG_2 (e : K j = 2) : hG K F G cn bs num j = true := by unfold hG; rw [e]; rfl
theorem hG_3 (e : K j = 3) : hG K F G cn bs num j = bs (F j) (G j) := by unfold hG; rw [e]; rfl
theorem hG_4 (e : K j = 4) : hG K F G cn bs num j = (decide (F j ≤ num) && decide (num ≤ G j)) := by unfold hG; rw [e]; rfl
theorem ck_no (h : hG K F G cn bs num j = false) : ckG K F G cn bs num lst (n + 1) j met = false := by
  have h2 : ¬ K j = 2 := fun e => by rw [hG_2 e] at h; cases h
  unfold ckG
  rw [if_neg h2, h, Bool.false_and]
theorem ck_2 (e : K j = 2) : ckG K F G cn bs num lst (n + 1) j met = ckG K F G cn bs num lst n (j + 1) (if 0 < cn (F j) then met + 1 else met) := by
  show (if _ then _ else _) = _
  rw [if_pos e]
theorem ck_n2 (e : ¬ K j = 2) (h : hG K F G cn bs num j = true) : ckG K F G cn bs num lst (n + 1) j met = ckG K F G cn bs num lst n (j + 1) met := by
  show (if _ then _ else _) = _
  rw [if_neg e, h, Bool.true_and]
theorem sc_a {x : Int32} (e : K j = 0 ∨ K j = 2) : sc1 K F cn j x = x + cn (F j) := if_pos e
theorem sc_b {x : Int32} (e : ¬ (K j = 0 ∨ K j = 2)) : sc1 K F cn j x = x := if_neg e
theorem sc_3 {b : Nat} (e : K (b + n) = 3) : scG K F cn b (n + 1) = sc1 K F cn (b + n) (scG K F cn b n) + 5 := if_pos e
theorem sc_n3 {b : Nat} (e : ¬ K (b + n) = 3) : scG K F cn b (n + 1) = sc1 K F cn (b + n) (scG K F cn b n) := if_neg e
end HG
def cnS (f : Nat → Int32) (t : Int32) : Int32 := f t.toNatClampNeg
def bsS (f : Nat → Int32) (t u : Int32) : Bool := decide (((f t.toNatClampNeg) >>> (u &&& 31)) &&& 1 = 1)
theorem cnS_n (f : Nat → Int32) {x : Int32} {t : Nat} (h : x = nI t) (ht : t < 24) : cnS f x = f t := by
  unfold cnS
  rw [h, nI_clamp (by omega)]
def hS (S : ST) (j : Nat) : Bool := hG (S 3) (S 4) (S 5) (cnS (S 12)) (bsS (S 13)) (S 10 0) j
def ckS (S : ST) (Q c : Nat) : Bool := ckG (S 3) (S 4) (S 5) (cnS (S 12)) (bsS (S 13)) (S 10 0) (S 1 Q) c (Q * 6) 0
def scS (S : ST) (Q c : Nat) : Int32 := scG (S 3) (S 4) (cnS (S 12)) (Q * 6) c
/-! ===== filing ===== -/
def FiledQ (S : ST) (Q c : Nat) : Prop := (∃ i, Q * 6 ≤ i ∧ i < Q * 6 + c ∧ sureB S i = true ∧ bt (S 6 (S 4 i).toNatClampNeg) Q = true) ∨ (S 1 Q = 0 ∧ bt (S 7 0) Q = true) ∨ (¬ S 1 Q = 0 ∧ ∀ i, Q * 6 ≤ i → i < Q * 6 + c → S 3 i = 2 → bt (S 6 (S 4 i).toNatClampNeg) Q = true)
def same3 (S S' : ST) : Prop := ∀ k, k ≠ 6 → k ≠ 7 → k ≠ 8 → S' k = S k
def fileP (S : ST) (Q c : Nat) (S' : ST) : Prop := same3 S S' ∧ (∀ q, q < 12 → q ≠ Q → bt (S' 7 0) q = bt (S 7 0) q ∧ ∀ t, t < 24 → bt (S' 6 t) q = bt (S 6 t) q) ∧ FiledQ S' Q c
def unfileP (S : ST) (Q : Nat) (S' : ST) : Prop := same3 S S' ∧ S' 7 0 = clr (S 7 0) Q ∧ ∀ t, t < 24 → S' 6 t = clr (S 6 t) Q
end
section
theorem nq_lt {S : ST} {p : Int32} (h : p < 0) : ¬ isQ S p := fun ⟨Q, hQ, e, _⟩ => nI_pos (n := Q) (by omega) (by rw [← e]; exact h)
theorem nq_ge {S : ST} {p : Int32} (h : (12 : Int32) ≤ p) : ¬ isQ S p := fun ⟨Q, hQ, e, _⟩ => nge_nI (n := 12) (k := Q) (by decide) (by omega) hQ (by rw [← e]; exact h)
theorem nq_0 {S : ST} {Q : Nat} (hQ : Q < 12) (h : S 0 Q = 0) : ¬ isQ S (nI Q) := fun ⟨K, hK, e, n⟩ => n (by rw [← (nI_eq (by omega) (by omega)).mp e]; exact h)
theorem bt_lt {p : Int32} (h : p < 0) : btB p = true := by simp [btB, h]
theorem bt_nlt {p : Int32} (h : ¬ p < 24) : btB p = true := by simp [btB, h]
theorem bt_in {p : Int32} (h0 : ¬ p < 0) (h : p < 24) : btB p = false := by simp [btB, h0, h]
theorem bt_isT {p : Int32} : btB p = false ↔ isT p := by
  constructor
  · intro h
    simp only [btB, Bool.not_eq_false', Bool.and_eq_true, Bool.not_eq_true', decide_eq_false_iff_not, decide_eq_true_eq] at h
    exact pin_24 h.1 (fun q => Int32.not_lt.mpr q h.2)
  · rintro ⟨t, ht, rfl⟩
    exact bt_in (nI_pos (by omega)) (nI_lt (b := 24) ht (by decide))
set_option maxHeartbeats 4000000 in
set_option maxRecDepth 100000 in
/-- badTerm(p): static, only answers -/
theorem metX0_badTerm (l : Launch) (p0 : Int32) : Met l yX0_badTerm (ws_ yX0_badTerm cX0_badTerm 1 (some .boolean)) (rmX 0 0) (fun v _ => v = ([.int p0] : List Value).toArray) (QcRead (bI (btB p0))) 0 0 (fun _ => False) := by
  refine Met.ofW (cc := cX0_badTerm) (maxL := 1) (ret := some .boolean) (by decide) rfl ?_
  intro p e s m args below meth c s₁ B hml hv
  obtain rfl := hv
  have hx := B.exec
  have hb := B.bytes
  have hr := B.returns
  have hlocks := B.notSynchronized
  have hl := lv_entry ([.int p0]) (n := 1) (Nat.le_of_ble_eq_true rfl)
  rw [lg_entry_eq]
  generalize (lg_sl ([.int p0]) ++ List.replicate (1 - (lg_sl ([.int p0])).length) Slot.unset).toArray = ls at hl ⊢
  have hl : lv_has ls 1 [(0, .int p0)] := hl
  refine lv_iload_n hx hb dX0_badTerm_0 rfl (lv_at hl 0 rfl) ?_
  refine lv_if_lt (tgt := 10) hx hb dX0_badTerm_1 (by decide) (fun c1 => ?_) (fun c1 => ?_)
  · refine lv_iconst (v := 1) hx hb dX0_badTerm_10 (by decide) ?_
    refine lv_goto (tgt := 15) hx hb dX0_badTerm_11 (by decide) ?_
    exact W.zret hx hb hr rfl (fun t ht hW => ⟨by rw [bt_lt c1, bI_t], ht⟩) (fun _ h => by cases h) dX0_badTerm_15
  · refine lv_iload_n hx hb dX0_badTerm_4 rfl (lv_at hl 0 rfl) ?_
    refine lv_bipush (v := 24) hx hb dX0_badTerm_5 (by decide) ?_
    refine lv_icmp_lt (tgt := 14) hx hb dX0_badTerm_7 (by decide) (fun c7 => ?_) (fun c7 => ?_)
    · refine lv_iconst (v := 0) hx hb dX0_badTerm_14 (by decide) ?_
      exact W.zret hx hb hr rfl (fun t ht hW => ⟨by rw [bt_in c1 c7, bI_f], ht⟩) (fun _ h => by cases h) dX0_badTerm_15
    · refine lv_iconst (v := 1) hx hb dX0_badTerm_10 (by decide) ?_
      refine lv_goto (tgt := 15) hx hb dX0_badTerm_11 (by decide) ?_
      exact W.zret hx hb hr rfl (fun t ht hW => ⟨by rw [bt_nlt c7, bI_t], ht⟩) (fun _ h => by cases h) dX0_badTerm_15

set_option maxHeartbeats 4000000 in
set_option maxRecDepth 100000 in
/-- noQuery(p) -/
theorem metX0_noQuery (l : Launch) (D : va_G) (h : Nat) (a : Nat → Nat) (d : Nat → ClassId) (S : ST) (p0 : Int32) : mi_ l D clX (WX h a d) (TYX d) yX0_noQuery cX0_noQuery 2 (some .boolean) (rmX 0 0) [.ref h, .int p0] S (fun r S1 => S1 = S ∧ ((r = 1 ∧ ¬ isQ S p0) ∨ (r = 0 ∧ isQ S p0))) := by
  refine mi_of (by decide) (Nat.le_of_ble_eq_true rfl) ?_
  intro p e s m below meth c A ls C0 hr hk hA I hl
  have C0 : CallFix p m c cX0_noQuery 2 s ([.ref h, .int p0] : List Value).toArray lw_all RX0 := C0
  have hl : lv_has ls 2 [(0, .ref h), (1, .int p0)] := hl
  have hx := C0.1
  have hb := C0.2.1
  refine lv_iload_n hx hb dX0_noQuery_0 rfl (lv_at hl 1 rfl) ?_
  refine lv_if_lt (tgt := 19) hx hb dX0_noQuery_1 (by decide) (fun c1 => ?_) (fun c1 => ?_)
  · skip
    refine lv_iconst (v := 1) hx hb dX0_noQuery_19 (by decide) ?_
    refine lv_goto (tgt := 24) hx hb dX0_noQuery_20 (by decide) ?_
    exact ig_zret C0 hr hk I rfl (⟨rfl, Or.inl ⟨rfl, nq_lt c1⟩⟩) dX0_noQuery_24
  · skip
    refine lv_iload_n hx hb dX0_noQuery_4 rfl (lv_at hl 1 rfl) ?_
    refine lv_bipush (v := 12) hx hb dX0_noQuery_5 (by decide) ?_
    refine lv_icmp_ge (tgt := 19) hx hb dX0_noQuery_7 (by decide) (fun c7 => ?_) (fun c7 => ?_)
    · skip
      refine lv_iconst (v := 1) hx hb dX0_noQuery_19 (by decide) ?_
      refine lv_goto (tgt := 24) hx hb dX0_noQuery_20 (by decide) ?_
      exact ig_zret C0 hr hk I rfl (⟨rfl, Or.inl ⟨rfl, nq_ge c7⟩⟩) dX0_noQuery_24
    · skip
      obtain ⟨Q, hQ, rfl⟩ := pin_12 c1 c7
      refine lv_aload_n hx hb dX0_noQuery_10 rfl (lv_at hl 0 rfl) ?_
      refine ig_get (C := RX0) (T := TX0) (N := 17) (ci := 0) (fs := FX a S) (v := .ref (a 0)) C0 I in_X0 rfl rfl 0 (by decide) q32 rfl dX0_noQuery_11 ?_
      refine lv_iload_n hx hb dX0_noQuery_14 rfl (lv_at hl 1 rfl) ?_
      refine ig_zald C0 I 0 1 0 (a := a 0) (n := 12) (cA := d 0) rfl rfl Q rfl (by omega) (by decide) dX0_noQuery_15 ?_
      refine lv_if_ne (tgt := 23) hx hb dX0_noQuery_16 (by decide) (fun c16 => ?_) (fun c16 => ?_)
      · skip
        refine lv_iconst (v := 0) hx hb dX0_noQuery_23 (by decide) ?_
        exact ig_zret C0 hr hk I rfl (⟨rfl, Or.inr ⟨rfl, Q, hQ, rfl, c16⟩⟩) dX0_noQuery_24
      · skip
        refine lv_iconst (v := 1) hx hb dX0_noQuery_19 (by decide) ?_
        refine lv_goto (tgt := 24) hx hb dX0_noQuery_20 (by decide) ?_
        exact ig_zret C0 hr hk I rfl (⟨rfl, Or.inl ⟨rfl, nq_0 hQ c16⟩⟩) dX0_noQuery_24

set_option maxHeartbeats 4000000 in
set_option maxRecDepth 100000 in
/-- sure(i) -/
theorem metX0_sure (l : Launch) (D : va_G) (h : Nat) (a : Nat → Nat) (d : Nat → ClassId) (S : ST) (i : Nat) (hi : i < 72) : mi_ l D clX (WX h a d) (TYX d) yX0_sure cX0_sure 2 (some .boolean) (rmX 0 0) [.ref h, .int (nI i)] S (fun r S1 => S1 = S ∧ r = bI (sureB S i)) := by
  refine mi_of (by decide) (Nat.le_of_ble_eq_true rfl) ?_
  intro p e s m below meth c A ls C0 hr hk hA I hl
  have C0 : CallFix p m c cX0_sure 2 s ([.ref h, .int (nI i)] : List Value).toArray lw_all RX0 := C0
  have hl : lv_has ls 2 [(0, .ref h), (1, .int (nI i))] := hl
  have hx := C0.1
  have hb := C0.2.1
  refine lv_aload_n hx hb dX0_sure_0 rfl (lv_at hl 0 rfl) ?_
  refine ig_get (C := RX0) (T := TX0) (N := 17) (ci := 0) (fs := FX a S) (v := .ref (a 3)) C0 I in_X0 rfl rfl 3 (by decide) q35 rfl dX0_sure_1 ?_
  refine lv_iload_n hx hb dX0_sure_4 rfl (lv_at hl 1 rfl) ?_
  refine ig_ald C0 I 3 4 3 (a := a 3) (n := 72) (cA := d 3) rfl rfl i rfl (by omega) (by decide) dX0_sure_5 ?_
  refine lv_if_eq (tgt := 19) hx hb dX0_sure_6 (by decide) (fun c6 => ?_) (fun c6 => ?_)
  · skip
    refine lv_iconst (v := 1) hx hb dX0_sure_19 (by decide) ?_
    refine lv_goto (tgt := 24) hx hb dX0_sure_20 (by decide) ?_
    exact ig_zret C0 hr hk I rfl (⟨rfl, by simp [sureB, c6, bI]⟩) dX0_sure_24
  · skip
    refine lv_aload_n hx hb dX0_sure_9 rfl (lv_at hl 0 rfl) ?_
    refine ig_get (C := RX0) (T := TX0) (N := 17) (ci := 0) (fs := FX a S) (v := .ref (a 3)) C0 I in_X0 rfl rfl 3 (by decide) q35 rfl dX0_sure_10 ?_
    refine lv_iload_n hx hb dX0_sure_13 rfl (lv_at hl 1 rfl) ?_
    refine ig_ald C0 I 3 4 3 (a := a 3) (n := 72) (cA := d 3) rfl rfl i rfl (by omega) (by decide) dX0_sure_14 ?_
    refine lv_iconst (v := 3) hx hb dX0_sure_15 (by decide) ?_
    refine lv_icmp_ne (tgt := 23) hx hb dX0_sure_16 (by decide) (fun c16 => ?_) (fun c16 => ?_)
    · skip
      refine lv_iconst (v := 0) hx hb dX0_sure_23 (by decide) ?_
      exact ig_zret C0 hr hk I rfl (⟨rfl, by simp [sureB, c6, c16, bI]⟩) dX0_sure_24
    · skip
      refine lv_iconst (v := 1) hx hb dX0_sure_19 (by decide) ?_
      refine lv_goto (tgt := 24) hx hb dX0_sure_20 (by decide) ?_
      exact ig_zret C0 hr hk I rfl (⟨rfl, by simp [sureB, c6, c16, bI]⟩) dX0_sure_24

theorem sure_n4 {S : ST} {i : Nat} (h : sureB S i = true) : ¬ S 3 i = 4 := by
  intro q
  rw [sureB, q] at h
  exact absurd h (by decide)
set_option maxHeartbeats 4000000 in
set_option maxRecDepth 100000 in
/-- count(q, by): only askedFor changes -/
theorem metX0_count (l : Launch) (D : va_G) (h : Nat) (a : Nat → Nat) (d : Nat → ClassId) (S : ST) (Q cq : Nat) (hQ : Q < 12) (hc : cq ≤ 6) (eC : S 2 Q = nI cq) (ok : okC S) (by0 : Int32) : mv_ l D clX (WX h a d) (TYX d) yX0_count cX0_count 4 none (rmX 1 21) [.ref h, .int (nI Q), .int by0] S (fun S1 => ∀ k, k ≠ 8 → S1 k = S k) := by
  refine mv_of (by decide) (Nat.le_of_ble_eq_true rfl) ?_
  intro p e s m below meth c A ls C0 hr hk hA I hl
  have C0 : CallFix p m c cX0_count 4 s ([.ref h, .int (nI Q), .int by0] : List Value).toArray lw_all RX0 := C0
  have hl : lv_has ls 4 [(0, .ref h), (1, .int (nI Q)), (2, .int by0)] := hl
  have hx := C0.1
  have hb := C0.2.1
  refine lv_iload_n hx hb dX0_count_0 rfl (lv_at hl 1 rfl) ?_
  refine lv_bipush (v := 6) hx hb dX0_count_1 (by decide) ?_
  refine lv_imul hx hb dX0_count_3 ?_
  refine lv_topi (fun v1 ev1 => ?_)
  obtain rfl : v1 = nI (Q * 6) := ev1.trans (pk_mul Q 6)
  refine lv_istore_n (lv' := [(3, .int (nI (Q * 6))), (0, .ref h), (1, .int (nI Q)), (2, .int by0)]) hx hb dX0_count_4 rfl hl (by decide) rfl (fun ls hl => ?_)
  have loop : ∀ (n i : Nat) (S1 : ST), Q * 6 ≤ i → i ≤ Q * 6 + cq → Q * 6 + cq < i + n → (∀ k, k ≠ 8 → S1 k = S k) → ∀ (H : Heap) (locs : List Loc) (ls : Array Slot), ig_ D clX (WX h a d) (TYX d) A s S1 H locs → lv_has ls 4 [(3, .int (nI i)), (0, .ref h), (1, .int (nI Q)), (2, .int by0)] → W p l e (rmX 1 21) s m ([.ref h, .int (nI Q), .int by0] : List Value).toArray below meth c H locs 0 0 (MQ below (va_Qv (fun S1 => ∀ k, k ≠ 8 → S1 k = S k) (bg_ D clX (WX h a d) (TYX d) A) A) ([.ref h, .int (nI Q), .int by0] : List Value).toArray s 0 0 A) (F0 m 5 ls []) := by
    intro n
    induction n with
    | zero =>
      intro i S1 h0 h1 h2
      exact absurd h2 (by omega)
    | succ n ih =>
      intro i S1 h0 h1 h2 hS1 H locs ls I hl
      have ok1 : okC S1 := okC_of (hS1 0 (by decide)) (hS1 2 (by decide)) (hS1 3 (by decide)) (hS1 4 (by decide)) (hS1 5 (by decide)) ok
      have eC1 : S1 2 Q = nI cq := by rw [hS1 2 (by decide)]; exact eC
      refine lv_iload_n hx hb dX0_count_5 rfl (lv_at hl 0 rfl) ?_
      refine lv_iload_n hx hb dX0_count_6 rfl (lv_at hl 2 rfl) ?_
      refine lv_bipush (v := 6) hx hb dX0_count_7 (by decide) ?_
      refine lv_imul hx hb dX0_count_9 ?_
      refine lv_topi (fun v2 ev2 => ?_)
      obtain rfl : v2 = nI (Q * 6) := ev2.trans (pk_mul Q 6)
      refine lv_aload_n hx hb dX0_count_10 rfl (lv_at hl 1 rfl) ?_
      refine ig_get (C := RX0) (T := TX0) (N := 17) (ci := 0) (fs := FX a S1) (v := .ref (a 2)) C0 I in_X0 rfl rfl 2 (by decide) q34 rfl dX0_count_11 ?_
      refine lv_iload_n hx hb dX0_count_14 rfl (lv_at hl 2 rfl) ?_
      refine ig_ald C0 I 2 3 2 (a := a 2) (n := 12) (cA := d 2) rfl rfl Q rfl (by omega) (by decide) dX0_count_15 ?_
      refine lv_topi (fun v3 ev3 => ?_)
      obtain rfl : v3 = nI cq := ev3.trans eC1
      refine lv_iadd hx hb dX0_count_16 ?_
      refine lv_topi (fun v4 ev4 => ?_)
      obtain rfl : v4 = nI (Q * 6 + cq) := ev4.trans (nI_add (Q * 6) cq)
      refine lv_icmp_ge (tgt := 49) hx hb dX0_count_17 (by decide) (fun c17 => ?_) (fun c17 => ?_)
      · skip
        exact ig_vret C0 hr hk I (hS1) dX0_count_49
      · skip
        have hlt : i < Q * 6 + cq := by
          rcases Nat.lt_or_ge i (Q * 6 + cq) with q | q
          · exact q
          · exact absurd (nI_le q (by omega)) c17
        refine lv_aload_n hx hb dX0_count_20 rfl (lv_at hl 1 rfl) ?_
        refine lv_iload_n hx hb dX0_count_21 rfl (lv_at hl 0 rfl) ?_
        refine ig_calli (h := h) (As := [.int (nI i)]) (rest := []) (C := RX0) (T := TX0) (N := 17) (ci := 0) (fs := FX a S1) C0 hA I (metX0_sure l D h a d S1 i (by omega)) rfl rfl (lw_V q98 q100 qs2 q22 q101) 1 (by decide +kernel) rfl rfl ⟨by decide, by decide⟩ ⟨Nat.zero_le _, Nat.zero_le _⟩ rfl hl.1 (Nat.le_of_ble_eq_true rfl) dX0_count_22 rfl (fun r5 S7 H locs hp6 I _ => ?_)
        rw [hp6.1] at I
        refine lv_if_eq (tgt := 43) hx hb dX0_count_25 (by decide) (fun c25 => ?_) (fun c25 => ?_)
        · skip
          refine lv_iinc (v := nI (i + 1)) (lv' := [(3, .int (nI (i + 1))), (0, .ref h), (1, .int (nI Q)), (2, .int by0)]) hx hb dX0_count_43 hl (k := 0) rfl (nI_1 i) (by decide) rfl (fun ls hl => ?_)
          refine lv_goto (tgt := 5) hx hb dX0_count_46 (by decide) ?_
          exact ih (i + 1) S1 (by omega) (by omega) (by omega) hS1 _ _ _ I (lv_sub hl [0, 1, 2, 3] rfl)
        · skip
          have hs : sureB S1 i = true := bI_n0 (by rw [← hp6.2]; exact c25)
          obtain ⟨t, ht, et⟩ := ok1.2.2.2.1 i (by omega) (sure_n4 hs)
          refine lv_aload_n hx hb dX0_count_28 rfl (lv_at hl 1 rfl) ?_
          refine ig_get (C := RX0) (T := TX0) (N := 17) (ci := 0) (fs := FX a S1) (v := .ref (a 8)) C0 I in_X0 rfl rfl 8 (by decide) q40 rfl dX0_count_29 ?_
          refine lv_aload_n hx hb dX0_count_32 rfl (lv_at hl 1 rfl) ?_
          refine ig_get (C := RX0) (T := TX0) (N := 17) (ci := 0) (fs := FX a S1) (v := .ref (a 4)) C0 I in_X0 rfl rfl 4 (by decide) q36 rfl dX0_count_33 ?_
          refine lv_iload_n hx hb dX0_count_36 rfl (lv_at hl 0 rfl) ?_
          refine ig_ald C0 I 4 5 4 (a := a 4) (n := 72) (cA := d 4) rfl rfl i rfl (by omega) (by decide) dX0_count_37 ?_
          refine lv_dup2_11 hx hb dX0_count_38 rfl rfl ?_
          refine ig_ald C0 I 8 8 7 (a := a 8) (n := 24) (cA := d 8) rfl rfl t et ht (by decide) dX0_count_39 ?_
          refine lv_iload_n hx hb dX0_count_40 rfl (lv_at hl 3 rfl) ?_
          refine lv_iadd hx hb dX0_count_41 ?_
          refine ig_ast C0 I 8 8 7 (a := a 8) (n := 24) (cA := d 8) rfl rfl t et ht (by decide) (va_up S1 8 (upd (S1 8) t ((S1 8 t) + by0))) rfl dX0_count_42 (fun H locs I => ?_)
          generalize eS8 : va_up S1 8 (upd (S1 8) t ((S1 8 t) + by0)) = S8 at I
          refine lv_iinc (v := nI (i + 1)) (lv' := [(3, .int (nI (i + 1))), (0, .ref h), (1, .int (nI Q)), (2, .int by0)]) hx hb dX0_count_43 hl (k := 0) rfl (nI_1 i) (by decide) rfl (fun ls hl => ?_)
          refine lv_goto (tgt := 5) hx hb dX0_count_46 (by decide) ?_
          refine ih (i + 1) S8 (by omega) (by omega) (by omega) (fun k hk => ?_) _ _ _ I (lv_sub hl [0, 1, 2, 3] rfl)
          rw [← eS8, ← hS1 k hk]
          exact if_neg hk
  exact loop (cq + 1) (Q * 6) S (Nat.le_refl _) (by omega) (by omega) (fun _ _ => rfl) _ _ _ I (lv_sub hl [0, 1, 2, 3] rfl)
end
section
theorem rr_skip {S : ST} {Q i : Nat} {b : Int32} (h0 : Q * 6 ≤ i) (hs : sureB S i = false) (hv : (b = -1 ∧ ∀ j, Q * 6 ≤ j → j < i → sureB S j = false) ∨ (∃ j, Q * 6 ≤ j ∧ j < i ∧ sureB S j = true ∧ b = S 4 j)) : (b = -1 ∧ ∀ j, Q * 6 ≤ j → j < i + 1 → sureB S j = false) ∨ (∃ j, Q * 6 ≤ j ∧ j < i + 1 ∧ sureB S j = true ∧ b = S 4 j) := by
  rcases hv with ⟨h1, h2⟩ | ⟨j, j0, j1, j2, j3⟩
  · refine Or.inl ⟨h1, fun j a1 a2 => ?_⟩
    rcases Nat.lt_or_ge j i with q | q
    · exact h2 j a1 q
    · rw [show j = i by omega]; exact hs
  · exact Or.inr ⟨j, j0, by omega, j2, j3⟩
theorem rr_keep {S : ST} {Q i : Nat} {b : Int32} (hb : ¬ b < 0) (hv : (b = -1 ∧ ∀ j, Q * 6 ≤ j → j < i → sureB S j = false) ∨ (∃ j, Q * 6 ≤ j ∧ j < i ∧ sureB S j = true ∧ b = S 4 j)) : (b = -1 ∧ ∀ j, Q * 6 ≤ j → j < i + 1 → sureB S j = false) ∨ (∃ j, Q * 6 ≤ j ∧ j < i + 1 ∧ sureB S j = true ∧ b = S 4 j) := by
  rcases hv with ⟨h1, h2⟩ | ⟨j, j0, j1, j2, j3⟩
  · exact absurd (by rw [h1]; decide) hb
  · exact Or.inr ⟨j, j0, by omega, j2, j3⟩
set_option maxHeartbeats 4000000 in
set_option maxRecDepth 100000 in
/-- rarest(q): a sure term of the query, or -1 -/
theorem metX0_rarest (l : Launch) (D : va_G) (h : Nat) (a : Nat → Nat) (d : Nat → ClassId) (S : ST) (Q cq : Nat) (hQ : Q < 12) (hc : cq ≤ 6) (eC : S 2 Q = nI cq) (ok : okC S) : mi_ l D clX (WX h a d) (TYX d) yX0_rarest cX0_rarest 4 (some .int) (rmX 1 21) [.ref h, .int (nI Q)] S (fun r S1 => S1 = S ∧ ((r = -1 ∧ ∀ j, Q * 6 ≤ j → j < Q * 6 + cq → sureB S j = false) ∨ (∃ j, Q * 6 ≤ j ∧ j < Q * 6 + cq ∧ sureB S j = true ∧ r = S 4 j))) := by
  refine mi_of (by decide) (Nat.le_of_ble_eq_true rfl) ?_
  intro p e s m below meth c A ls C0 hr hk hA I hl
  have C0 : CallFix p m c cX0_rarest 4 s ([.ref h, .int (nI Q)] : List Value).toArray lw_all RX0 := C0
  have hl : lv_has ls 4 [(0, .ref h), (1, .int (nI Q))] := hl
  have hx := C0.1
  have hb := C0.2.1
  refine lv_iconst (v := (-1)) hx hb dX0_rarest_0 (by decide) ?_
  refine lv_istore_n (lv' := [(2, .int (-1)), (0, .ref h), (1, .int (nI Q))]) hx hb dX0_rarest_1 rfl hl (by decide) rfl (fun ls hl => ?_)
  refine lv_iload_n hx hb dX0_rarest_2 rfl (lv_at hl 2 rfl) ?_
  refine lv_bipush (v := 6) hx hb dX0_rarest_3 (by decide) ?_
  refine lv_imul hx hb dX0_rarest_5 ?_
  refine lv_topi (fun v1 ev1 => ?_)
  obtain rfl : v1 = nI (Q * 6) := ev1.trans (pk_mul Q 6)
  refine lv_istore_n (lv' := [(3, .int (nI (Q * 6))), (2, .int (-1)), (0, .ref h), (1, .int (nI Q))]) hx hb dX0_rarest_6 rfl hl (by decide) rfl (fun ls hl => ?_)
  have loop : ∀ (n : Nat) (i : Nat) (b : Int32), Q * 6 ≤ i → i ≤ Q * 6 + cq → Q * 6 + cq < i + n → ((b = -1 ∧ ∀ j, Q * 6 ≤ j → j < i → sureB S j = false) ∨ (∃ j, Q * 6 ≤ j ∧ j < i ∧ sureB S j = true ∧ b = S 4 j)) → ∀ (H : Heap) (locs : List Loc) (ls : Array Slot), ig_ D clX (WX h a d) (TYX d) A s S H locs → lv_has ls 4 [(3, .int (nI i)), (2, .int b), (0, .ref h), (1, .int (nI Q))] → W p l e (rmX 1 21) s m ([.ref h, .int (nI Q)] : List Value).toArray below meth c H locs 0 0 (MQ below (va_Qi (fun r S1 => S1 = S ∧ ((r = -1 ∧ ∀ j, Q * 6 ≤ j → j < Q * 6 + cq → sureB S j = false) ∨ (∃ j, Q * 6 ≤ j ∧ j < Q * 6 + cq ∧ sureB S j = true ∧ r = S 4 j))) (bg_ D clX (WX h a d) (TYX d) A) A) ([.ref h, .int (nI Q)] : List Value).toArray s 0 0 A) (F0 m 7 ls []) := by
    intro n
    induction n with
    | zero =>
      intro i b h0 h1 h2 hv
      exact absurd h2 (by omega)
    | succ n ih =>
      intro i b h0 h1 h2 hv H locs ls I hl
      refine lv_iload_n hx hb dX0_rarest_7 rfl (lv_at hl 0 rfl) ?_
      refine lv_iload_n hx hb dX0_rarest_8 rfl (lv_at hl 3 rfl) ?_
      refine lv_bipush (v := 6) hx hb dX0_rarest_9 (by decide) ?_
      refine lv_imul hx hb dX0_rarest_11 ?_
      refine lv_topi (fun v2 ev2 => ?_)
      obtain rfl : v2 = nI (Q * 6) := ev2.trans (pk_mul Q 6)
      refine lv_aload_n hx hb dX0_rarest_12 rfl (lv_at hl 2 rfl) ?_
      refine ig_get (C := RX0) (T := TX0) (N := 17) (ci := 0) (fs := FX a S) (v := .ref (a 2)) C0 I in_X0 rfl rfl 2 (by decide) q34 rfl dX0_rarest_13 ?_
      refine lv_iload_n hx hb dX0_rarest_16 rfl (lv_at hl 3 rfl) ?_
      refine ig_ald C0 I 2 3 2 (a := a 2) (n := 12) (cA := d 2) rfl rfl Q rfl (by omega) (by decide) dX0_rarest_17 ?_
      refine lv_topi (fun v3 ev3 => ?_)
      obtain rfl : v3 = nI cq := ev3.trans eC
      refine lv_iadd hx hb dX0_rarest_18 ?_
      refine lv_topi (fun v4 ev4 => ?_)
      obtain rfl : v4 = nI (Q * 6 + cq) := ev4.trans (nI_add (Q * 6) cq)
      refine lv_icmp_ge (tgt := 67) hx hb dX0_rarest_19 (by decide) (fun c19 => ?_) (fun c19 => ?_)
      · skip
        have hge : i = Q * 6 + cq := by
          have := (nI_leI (a := Q * 6 + cq) (b := i) (by omega) (by omega)).mp c19
          omega
        subst hge
        refine lv_iload_n hx hb dX0_rarest_67 rfl (lv_at hl 1 rfl) ?_
        exact ig_iret C0 hr hk I (⟨rfl, hv⟩) dX0_rarest_68
      · skip
        have hlt : i < Q * 6 + cq := by
          rcases Nat.lt_or_ge i (Q * 6 + cq) with q | q
          · exact q
          · exact absurd (nI_le q (by omega)) c19
        refine lv_aload_n hx hb dX0_rarest_22 rfl (lv_at hl 2 rfl) ?_
        refine lv_iload_n hx hb dX0_rarest_23 rfl (lv_at hl 0 rfl) ?_
        refine ig_calli (h := h) (As := [.int (nI i)]) (rest := []) (C := RX0) (T := TX0) (N := 17) (ci := 0) (fs := FX a S) C0 hA I (metX0_sure l D h a d S i (by omega)) rfl rfl (lw_V q98 q100 qs2 q22 q101) 1 (by decide +kernel) rfl rfl ⟨by decide, by decide⟩ ⟨Nat.zero_le _, Nat.zero_le _⟩ rfl hl.1 (Nat.le_of_ble_eq_true rfl) dX0_rarest_24 rfl (fun r5 S7 H locs hp6 I _ => ?_)
        rw [hp6.1] at I
        refine lv_if_eq (tgt := 61) hx hb dX0_rarest_27 (by decide) (fun c27 => ?_) (fun c27 => ?_)
        · skip
          have hs : sureB S i = false := bI_0.mp (by rw [← hp6.2]; exact c27)
          refine lv_iinc (v := nI (i + 1)) (lv' := [(3, .int (nI (i + 1))), (2, .int b), (0, .ref h), (1, .int (nI Q))]) hx hb dX0_rarest_61 hl (k := 0) rfl (nI_1 i) (by decide) rfl (fun ls hl => ?_)
          refine lv_goto (tgt := 7) hx hb dX0_rarest_64 (by decide) ?_
          exact ih (i + 1) b (by omega) (by omega) (by omega) (rr_skip h0 hs hv) _ _ _ I (lv_sub hl [0, 1, 2, 3] rfl)
        · skip
          have hs : sureB S i = true := bI_n0 (by rw [← hp6.2]; exact c27)
          obtain ⟨t, ht, et⟩ := ok.2.2.2.1 i (by omega) (sure_n4 hs)
          refine lv_iload_n hx hb dX0_rarest_30 rfl (lv_at hl 1 rfl) ?_
          refine lv_if_lt (tgt := 54) hx hb dX0_rarest_31 (by decide) (fun c31 => ?_) (fun c31 => ?_)
          · skip
            refine lv_aload_n hx hb dX0_rarest_54 rfl (lv_at hl 2 rfl) ?_
            refine ig_get (C := RX0) (T := TX0) (N := 17) (ci := 0) (fs := FX a S) (v := .ref (a 4)) C0 I in_X0 rfl rfl 4 (by decide) q36 rfl dX0_rarest_55 ?_
            refine lv_iload_n hx hb dX0_rarest_58 rfl (lv_at hl 0 rfl) ?_
            refine ig_ald C0 I 4 5 4 (a := a 4) (n := 72) (cA := d 4) rfl rfl i rfl (by omega) (by decide) dX0_rarest_59 ?_
            refine lv_istore_n (lv' := [(2, .int (S 4 i)), (3, .int (nI i)), (0, .ref h), (1, .int (nI Q))]) hx hb dX0_rarest_60 rfl hl (by decide) rfl (fun ls hl => ?_)
            refine lv_iinc (v := nI (i + 1)) (lv' := [(3, .int (nI (i + 1))), (2, .int (S 4 i)), (0, .ref h), (1, .int (nI Q))]) hx hb dX0_rarest_61 hl (k := 1) rfl (nI_1 i) (by decide) rfl (fun ls hl => ?_)
            refine lv_goto (tgt := 7) hx hb dX0_rarest_64 (by decide) ?_
            exact ih (i + 1) (S 4 i) (by omega) (by omega) (by omega) (Or.inr ⟨i, h0, by omega, hs, rfl⟩) _ _ _ I (lv_sub hl [0, 1, 2, 3] rfl)
          · skip
            obtain ⟨u, hu, eu⟩ : ∃ u, u < 24 ∧ b = nI u := by
              rcases hv with ⟨hb1, _⟩ | ⟨j, hj0, hj1, hj2, hj3⟩
              · exact absurd (by rw [hb1]; decide) c31
              · obtain ⟨u, hu, eu⟩ := ok.2.2.2.1 j (by omega) (sure_n4 hj2)
                exact ⟨u, hu, hj3.trans eu⟩
            refine lv_aload_n hx hb dX0_rarest_34 rfl (lv_at hl 2 rfl) ?_
            refine ig_get (C := RX0) (T := TX0) (N := 17) (ci := 0) (fs := FX a S) (v := .ref (a 8)) C0 I in_X0 rfl rfl 8 (by decide) q40 rfl dX0_rarest_35 ?_
            refine lv_aload_n hx hb dX0_rarest_38 rfl (lv_at hl 2 rfl) ?_
            refine ig_get (C := RX0) (T := TX0) (N := 17) (ci := 0) (fs := FX a S) (v := .ref (a 4)) C0 I in_X0 rfl rfl 4 (by decide) q36 rfl dX0_rarest_39 ?_
            refine lv_iload_n hx hb dX0_rarest_42 rfl (lv_at hl 0 rfl) ?_
            refine ig_ald C0 I 4 5 4 (a := a 4) (n := 72) (cA := d 4) rfl rfl i rfl (by omega) (by decide) dX0_rarest_43 ?_
            refine ig_ald C0 I 8 8 7 (a := a 8) (n := 24) (cA := d 8) rfl rfl t et ht (by decide) dX0_rarest_44 ?_
            refine lv_aload_n hx hb dX0_rarest_45 rfl (lv_at hl 2 rfl) ?_
            refine ig_get (C := RX0) (T := TX0) (N := 17) (ci := 0) (fs := FX a S) (v := .ref (a 8)) C0 I in_X0 rfl rfl 8 (by decide) q40 rfl dX0_rarest_46 ?_
            refine lv_iload_n hx hb dX0_rarest_49 rfl (lv_at hl 1 rfl) ?_
            refine ig_ald C0 I 8 8 7 (a := a 8) (n := 24) (cA := d 8) rfl rfl u eu hu (by decide) dX0_rarest_50 ?_
            refine lv_icmp_ge (tgt := 61) hx hb dX0_rarest_51 (by decide) (fun c51 => ?_) (fun c51 => ?_)
            · skip
              refine lv_iinc (v := nI (i + 1)) (lv' := [(3, .int (nI (i + 1))), (2, .int b), (0, .ref h), (1, .int (nI Q))]) hx hb dX0_rarest_61 hl (k := 0) rfl (nI_1 i) (by decide) rfl (fun ls hl => ?_)
              refine lv_goto (tgt := 7) hx hb dX0_rarest_64 (by decide) ?_
              exact ih (i + 1) b (by omega) (by omega) (by omega) (rr_keep c31 hv) _ _ _ I (lv_sub hl [0, 1, 2, 3] rfl)
            · skip
              refine lv_aload_n hx hb dX0_rarest_54 rfl (lv_at hl 2 rfl) ?_
              refine ig_get (C := RX0) (T := TX0) (N := 17) (ci := 0) (fs := FX a S) (v := .ref (a 4)) C0 I in_X0 rfl rfl 4 (by decide) q36 rfl dX0_rarest_55 ?_
              refine lv_iload_n hx hb dX0_rarest_58 rfl (lv_at hl 0 rfl) ?_
              refine ig_ald C0 I 4 5 4 (a := a 4) (n := 72) (cA := d 4) rfl rfl i rfl (by omega) (by decide) dX0_rarest_59 ?_
              refine lv_istore_n (lv' := [(2, .int (S 4 i)), (3, .int (nI i)), (0, .ref h), (1, .int (nI Q))]) hx hb dX0_rarest_60 rfl hl (by decide) rfl (fun ls hl => ?_)
              refine lv_iinc (v := nI (i + 1)) (lv' := [(3, .int (nI (i + 1))), (2, .int (S 4 i)), (0, .ref h), (1, .int (nI Q))]) hx hb dX0_rarest_61 hl (k := 1) rfl (nI_1 i) (by decide) rfl (fun ls hl => ?_)
              refine lv_goto (tgt := 7) hx hb dX0_rarest_64 (by decide) ?_
              exact ih (i + 1) (S 4 i) (by omega) (by omega) (by omega) (Or.inr ⟨i, h0, by omega, hs, rfl⟩) _ _ _ I (lv_sub hl [0, 1, 2, 3] rfl)
  exact loop (cq + 1) (Q * 6) (-1) (Nat.le_refl _) (by omega) (by omega) (Or.inl ⟨rfl, fun j a1 a2 => absurd a1 (by omega)⟩) _ _ _ I (lv_sub hl [0, 1, 2, 3] rfl)

set_option maxHeartbeats 4000000 in
set_option maxRecDepth 100000 in
/-- unfile(q): the bits of q fall -/
theorem metX0_unfile (l : Launch) (D : va_G) (h : Nat) (a : Nat → Nat) (d : Nat → ClassId) (S : ST) (Q cq : Nat) (hQ : Q < 12) (hc : cq ≤ 6) (eC : S 2 Q = nI cq) (ok : okC S) : mv_ l D clX (WX h a d) (TYX d) yX0_unfile cX0_unfile 3 none (rmX 2 44) [.ref h, .int (nI Q)] S (fun S1 => unfileP S Q S1) := by
  refine mv_of (by decide) (Nat.le_of_ble_eq_true rfl) ?_
  intro p e s m below meth c A ls C0 hr hk hA I hl
  have C0 : CallFix p m c cX0_unfile 3 s ([.ref h, .int (nI Q)] : List Value).toArray lw_all RX0 := C0
  have hl : lv_has ls 3 [(0, .ref h), (1, .int (nI Q))] := hl
  have hx := C0.1
  have hb := C0.2.1
  refine lv_aload_n hx hb dX0_unfile_0 rfl (lv_at hl 0 rfl) ?_
  refine lv_dup hx hb dX0_unfile_1 rfl ?_
  refine ig_get (C := RX0) (T := TX0) (N := 17) (ci := 0) (fs := FX a S) (v := .int (S 7 0)) C0 I in_X0 rfl rfl 7 (by decide) q39 rfl dX0_unfile_2 ?_
  refine lv_iconst (v := 1) hx hb dX0_unfile_5 (by decide) ?_
  refine lv_iload_n hx hb dX0_unfile_6 rfl (lv_at hl 1 rfl) ?_
  refine lv_ishl hx hb dX0_unfile_7 ?_
  refine lv_iconst (v := (-1)) hx hb dX0_unfile_8 (by decide) ?_
  refine lv_ixor hx hb dX0_unfile_9 ?_
  refine lv_iand hx hb dX0_unfile_10 ?_
  refine ig_put (C := RX0) (T := TX0) (N := 17) (ci := 0) (fs := FX a S) (v := ((S 7 0) &&& ((1 <<< ((nI Q) &&& 31)) ^^^ (-1)))) C0 I in_X0 tyX0 tyX0_ok nmX0 rfl rfl 7 (by decide) q39 rfl (by decide +kernel) (Nat.le_of_ble_eq_true rfl) (va_up S 7 (fun _ => ((S 7 0) &&& ((1 <<< ((nI Q) &&& 31)) ^^^ (-1))))) rfl dX0_unfile_11 (fun H locs I => ?_)
  generalize eS1 : va_up S 7 (fun _ => ((S 7 0) &&& ((1 <<< ((nI Q) &&& 31)) ^^^ (-1)))) = S1 at I
  refine lv_iconst (v := 0) hx hb dX0_unfile_14 (by decide) ?_
  refine lv_istore_n (lv' := [(2, .int 0), (0, .ref h), (1, .int (nI Q))]) hx hb dX0_unfile_15 rfl hl (by decide) rfl (fun ls hl => ?_)
  have loop : ∀ (n : Nat) (i : Nat) (S2 : ST), i ≤ 24 → 24 < i + n → ((∀ k, k ≠ 6 → k ≠ 7 → S2 k = S k) ∧ S2 7 0 = clr (S 7 0) Q ∧ (∀ t, t < i → S2 6 t = clr (S 6 t) Q) ∧ ∀ t, i ≤ t → S2 6 t = S 6 t) → ∀ (H : Heap) (locs : List Loc) (ls : Array Slot), ig_ D clX (WX h a d) (TYX d) A s S2 H locs → lv_has ls 3 [(2, .int (nI i)), (0, .ref h), (1, .int (nI Q))] → W p l e (rmX 2 44) s m ([.ref h, .int (nI Q)] : List Value).toArray below meth c H locs 0 0 (MQ below (va_Qv (fun S1 => unfileP S Q S1) (bg_ D clX (WX h a d) (TYX d) A) A) ([.ref h, .int (nI Q)] : List Value).toArray s 0 0 A) (F0 m 16 ls []) := by
    intro n
    induction n with
    | zero =>
      intro i S2 h1 h2 hv
      exact absurd h2 (by omega)
    | succ n ih =>
      intro i S2 h1 h2 hv H locs ls I hl
      refine lv_iload_n hx hb dX0_unfile_16 rfl (lv_at hl 0 rfl) ?_
      refine lv_bipush (v := 24) hx hb dX0_unfile_17 (by decide) ?_
      refine lv_icmp_ge (tgt := 42) hx hb dX0_unfile_19 (by decide) (fun c19 => ?_) (fun c19 => ?_)
      · skip
        have hge : i = 24 := by
          have := (nI_leI (a := 24) (b := i) (by omega) (by omega)).mp c19
          omega
        have ok2 : okC S2 := okC_of (hv.1 0 (by decide) (by decide)) (hv.1 2 (by decide) (by decide)) (hv.1 3 (by decide) (by decide)) (hv.1 4 (by decide) (by decide)) (hv.1 5 (by decide) (by decide)) ok
        refine lv_aload_n hx hb dX0_unfile_42 rfl (lv_at hl 1 rfl) ?_
        refine lv_iload_n hx hb dX0_unfile_43 rfl (lv_at hl 2 rfl) ?_
        refine lv_iconst (v := (-1)) hx hb dX0_unfile_44 (by decide) ?_
        refine ig_callv (h := h) (As := [.int (nI Q), .int (-1)]) (rest := []) (C := RX0) (T := TX0) (N := 17) (ci := 0) (fs := FX a S2) C0 hA I (metX0_count l D h a d S2 Q cq hQ hc (by rw [hv.1 2 (by decide) (by decide)]; exact eC) ok2 (-1)) rfl rfl (lw_V q94 q96 qs1 q22 q97) 2 (by decide +kernel) rfl rfl ⟨by decide, by decide⟩ ⟨Nat.zero_le _, Nat.zero_le _⟩ rfl hl.1 (Nat.le_of_ble_eq_true rfl) dX0_unfile_45 rfl (fun S3 H locs hp3 I _ => ?_)
        exact ig_vret C0 hr hk I (⟨fun k a1 a2 a3 => (hp3 k a3).trans (hv.1 k a1 a2), by rw [hp3 7 (by decide)]; exact hv.2.1, fun t ht => by rw [hp3 6 (by decide)]; exact hv.2.2.1 t (by omega)⟩) dX0_unfile_48
      · skip
        have hlt : i < 24 := by
          rcases Nat.lt_or_ge i 24 with q | q
          · exact q
          · exact absurd (nI_le q (by omega)) c19
        refine lv_aload_n hx hb dX0_unfile_22 rfl (lv_at hl 1 rfl) ?_
        refine ig_get (C := RX0) (T := TX0) (N := 17) (ci := 0) (fs := FX a S2) (v := .ref (a 6)) C0 I in_X0 rfl rfl 6 (by decide) q38 rfl dX0_unfile_23 ?_
        refine lv_iload_n hx hb dX0_unfile_26 rfl (lv_at hl 0 rfl) ?_
        refine lv_dup2_11 hx hb dX0_unfile_27 rfl rfl ?_
        refine ig_ald C0 I 6 7 6 (a := a 6) (n := 24) (cA := d 6) rfl rfl i rfl (by omega) (by decide) dX0_unfile_28 ?_
        refine lv_iconst (v := 1) hx hb dX0_unfile_29 (by decide) ?_
        refine lv_iload_n hx hb dX0_unfile_30 rfl (lv_at hl 2 rfl) ?_
        refine lv_ishl hx hb dX0_unfile_31 ?_
        refine lv_iconst (v := (-1)) hx hb dX0_unfile_32 (by decide) ?_
        refine lv_ixor hx hb dX0_unfile_33 ?_
        refine lv_iand hx hb dX0_unfile_34 ?_
        refine ig_ast C0 I 6 7 6 (a := a 6) (n := 24) (cA := d 6) rfl rfl i rfl (by omega) (by decide) (va_up S2 6 (upd (S2 6) i ((S2 6 i) &&& ((1 <<< ((nI Q) &&& 31)) ^^^ (-1))))) rfl dX0_unfile_35 (fun H locs I => ?_)
        generalize eS4 : va_up S2 6 (upd (S2 6) i ((S2 6 i) &&& ((1 <<< ((nI Q) &&& 31)) ^^^ (-1)))) = S4 at I
        refine lv_iinc (v := nI (i + 1)) (lv' := [(2, .int (nI (i + 1))), (0, .ref h), (1, .int (nI Q))]) hx hb dX0_unfile_36 hl (k := 0) rfl (nI_1 i) (by decide) rfl (fun ls hl => ?_)
        refine lv_goto (tgt := 16) hx hb dX0_unfile_39 (by decide) ?_
        refine ih (i + 1) S4 (by omega) (by omega) ⟨fun k a1 a2 => ?_, ?_, fun t ht => ?_, fun t ht => ?_⟩ _ _ _ I (lv_sub hl [0, 1, 2] rfl)
        · rw [← eS4, ← hv.1 k a1 a2]
          exact if_neg a1
        · rw [← eS4]
          exact hv.2.1
        · rw [← eS4]
          show upd (S2 6) i _ t = _
          rcases Nat.lt_or_ge t i with q | q
          · rw [pk_un (by omega)]; exact hv.2.2.1 t q
          · rw [show t = i by omega, pk_us, hv.2.2.2 i (Nat.le_refl i)]; rfl
        · rw [← eS4]
          show upd (S2 6) i _ t = _
          rw [pk_un (by omega)]; exact hv.2.2.2 t (by omega)
  exact loop 25 0 S1 (by omega) (by omega) ⟨fun k a1 a2 => by rw [← eS1]; exact if_neg a2, by rw [← eS1]; rfl, fun t ht => absurd ht (by omega), fun t _ => by rw [← eS1]; rfl⟩ _ _ _ I (lv_sub hl [0, 1, 2] rfl)
end
section
def keepB (S S1 : ST) (Q : Nat) : Prop := ∀ q, q < 12 → q ≠ Q → bt (S1 7 0) q = bt (S 7 0) q ∧ ∀ t, t < 24 → bt (S1 6 t) q = bt (S 6 t) q
theorem fl_6 {S S1 : ST} {Q : Nat} (hQ : Q < 12) (h : keepB S S1 Q) (t : Nat) : keepB S (va_up S1 6 (upd (S1 6) t (st1 (S1 6 t) Q))) Q := by
  intro q hq hne
  refine ⟨(h q hq hne).1, fun u hu => ?_⟩
  show bt (upd (S1 6) t (st1 (S1 6 t) Q) u) q = _
  by_cases e : u = t
  · rw [e, pk_us, b_st1 _ (by omega) (by omega), decide_eq_false hne, Bool.or_false, ← e]
    exact (h q hq hne).2 u hu
  · rw [pk_un e]
    exact (h q hq hne).2 u hu
theorem fl_7 {S S1 : ST} {Q : Nat} (hQ : Q < 12) (h : keepB S S1 Q) : keepB S (va_up S1 7 (fun _ => st1 (S1 7 0) Q)) Q := by
  intro q hq hne
  refine ⟨?_, (h q hq hne).2⟩
  show bt (st1 (S1 7 0) Q) q = _
  rw [b_st1 _ (by omega) (by omega), decide_eq_false hne, Bool.or_false]
  exact (h q hq hne).1
theorem fl_up {f : Nat → Int32} {Q t u : Nat} (hQ : Q < 12) (h : u = t ∨ bt (f u) Q = true) : bt (upd f t (st1 (f t) Q) u) Q = true := by
  by_cases e : u = t
  · rw [e, pk_us, b_st1 _ (by omega) (by omega), decide_eq_true rfl, Bool.or_true]
  · rw [pk_un e]
    exact h.resolve_left e

set_option maxHeartbeats 4000000 in
set_option maxRecDepth 100000 in
/-- file(q) -/
theorem metX0_file (l : Launch) (D : va_G) (h : Nat) (a : Nat → Nat) (d : Nat → ClassId) (S : ST) (Q cq : Nat) (hQ : Q < 12) (hc : cq ≤ 6) (eC : S 2 Q = nI cq) (ok : okC S) : mv_ l D clX (WX h a d) (TYX d) yX0_file cX0_file 4 none (rmX 2 44) [.ref h, .int (nI Q)] S (fun S1 => fileP S Q cq S1) := by
  refine mv_of (by decide) (Nat.le_of_ble_eq_true rfl) ?_
  intro p e s m below meth c A ls C0 hr hk hA I hl
  have C0 : CallFix p m c cX0_file 4 s ([.ref h, .int (nI Q)] : List Value).toArray lw_all RX0 := C0
  have hl : lv_has ls 4 [(0, .ref h), (1, .int (nI Q))] := hl
  have hx := C0.1
  have hb := C0.2.1
  refine lv_aload_n hx hb dX0_file_0 rfl (lv_at hl 0 rfl) ?_
  refine lv_iload_n hx hb dX0_file_1 rfl (lv_at hl 1 rfl) ?_
  refine lv_iconst (v := 1) hx hb dX0_file_2 (by decide) ?_
  refine ig_callv (h := h) (As := [.int (nI Q), .int 1]) (rest := []) (C := RX0) (T := TX0) (N := 17) (ci := 0) (fs := FX a S) C0 hA I (metX0_count l D h a d S Q cq hQ hc eC ok 1) rfl rfl (lw_V q94 q96 qs1 q22 q97) 2 (by decide +kernel) rfl rfl ⟨by decide, by decide⟩ ⟨Nat.zero_le _, Nat.zero_le _⟩ rfl hl.1 (Nat.le_of_ble_eq_true rfl) dX0_file_3 rfl (fun S1 H locs hp2 I _ => ?_)
  have hk1 : keepB S S1 Q := fun q _ _ => ⟨by rw [hp2 7 (by decide)], fun t _ => by rw [hp2 6 (by decide)]⟩
  have ok1 : okC S1 := okC_of (hp2 0 (by decide)) (hp2 2 (by decide)) (hp2 3 (by decide)) (hp2 4 (by decide)) (hp2 5 (by decide)) ok
  have eC1 : S1 2 Q = nI cq := by rw [hp2 2 (by decide)]; exact eC
  refine lv_aload_n hx hb dX0_file_6 rfl (lv_at hl 0 rfl) ?_
  refine lv_iload_n hx hb dX0_file_7 rfl (lv_at hl 1 rfl) ?_
  refine ig_calli (h := h) (As := [.int (nI Q)]) (rest := []) (C := RX0) (T := TX0) (N := 17) (ci := 0) (fs := FX a S1) C0 hA I (metX0_rarest l D h a d S1 Q cq hQ hc eC1 ok1) rfl rfl (lw_V q102 q104 qs3 q22 q105) 1 (by decide +kernel) rfl rfl ⟨by decide, by decide⟩ ⟨Nat.zero_le _, Nat.zero_le _⟩ rfl hl.1 (Nat.le_of_ble_eq_true rfl) dX0_file_8 rfl (fun r3 S5 H locs hp4 I _ => ?_)
  rw [hp4.1] at I
  refine lv_istore_n (lv' := [(2, .int r3), (0, .ref h), (1, .int (nI Q))]) hx hb dX0_file_11 rfl hl (by decide) rfl (fun ls hl => ?_)
  refine lv_iload_n hx hb dX0_file_12 rfl (lv_at hl 0 rfl) ?_
  refine lv_if_lt (tgt := 29) hx hb dX0_file_13 (by decide) (fun c13 => ?_) (fun c13 => ?_)
  · skip
    refine lv_aload_n hx hb dX0_file_29 rfl (lv_at hl 1 rfl) ?_
    refine ig_get (C := RX0) (T := TX0) (N := 17) (ci := 0) (fs := FX a S1) (v := .ref (a 1)) C0 I in_X0 rfl rfl 1 (by decide) q33 rfl dX0_file_30 ?_
    refine lv_iload_n hx hb dX0_file_33 rfl (lv_at hl 2 rfl) ?_
    refine ig_ald C0 I 1 2 1 (a := a 1) (n := 12) (cA := d 1) rfl rfl Q rfl (by omega) (by decide) dX0_file_34 ?_
    refine lv_if_ne (tgt := 51) hx hb dX0_file_35 (by decide) (fun c35 => ?_) (fun c35 => ?_)
    · skip
      refine lv_iload_n hx hb dX0_file_51 rfl (lv_at hl 2 rfl) ?_
      refine lv_bipush (v := 6) hx hb dX0_file_52 (by decide) ?_
      refine lv_imul hx hb dX0_file_54 ?_
      refine lv_topi (fun v6 ev6 => ?_)
      obtain rfl : v6 = nI (Q * 6) := ev6.trans (pk_mul Q 6)
      refine lv_istore_n (lv' := [(3, .int (nI (Q * 6))), (2, .int r3), (0, .ref h), (1, .int (nI Q))]) hx hb dX0_file_55 rfl hl (by decide) rfl (fun ls hl => ?_)
      have loop : ∀ (n : Nat) (i : Nat) (S2 : ST), Q * 6 ≤ i → i ≤ Q * 6 + cq → Q * 6 + cq < i + n → (same3 S1 S2 ∧ keepB S S2 Q ∧ ∀ j, Q * 6 ≤ j → j < i → S1 3 j = 2 → bt (S2 6 (S1 4 j).toNatClampNeg) Q = true) → ∀ (H : Heap) (locs : List Loc) (ls : Array Slot), ig_ D clX (WX h a d) (TYX d) A s S2 H locs → lv_has ls 4 [(3, .int (nI i)), (2, .int r3), (0, .ref h), (1, .int (nI Q))] → W p l e (rmX 2 44) s m ([.ref h, .int (nI Q)] : List Value).toArray below meth c H locs 0 0 (MQ below (va_Qv (fun S1 => fileP S Q cq S1) (bg_ D clX (WX h a d) (TYX d) A) A) ([.ref h, .int (nI Q)] : List Value).toArray s 0 0 A) (F0 m 56 ls []) := by
        intro n
        induction n with
        | zero =>
          intro i S2 h0 h1 h2 hv
          exact absurd h2 (by omega)
        | succ n ih =>
          intro i S2 h0 h1 h2 hv H locs ls I hl
          have s3 := hv.1 3 (by decide) (by decide) (by decide)
          have s4 := hv.1 4 (by decide) (by decide) (by decide)
          refine lv_iload_n hx hb dX0_file_56 rfl (lv_at hl 0 rfl) ?_
          refine lv_iload_n hx hb dX0_file_57 rfl (lv_at hl 3 rfl) ?_
          refine lv_bipush (v := 6) hx hb dX0_file_58 (by decide) ?_
          refine lv_imul hx hb dX0_file_60 ?_
          refine lv_topi (fun v7 ev7 => ?_)
          obtain rfl : v7 = nI (Q * 6) := ev7.trans (pk_mul Q 6)
          refine lv_aload_n hx hb dX0_file_61 rfl (lv_at hl 2 rfl) ?_
          refine ig_get (C := RX0) (T := TX0) (N := 17) (ci := 0) (fs := FX a S2) (v := .ref (a 2)) C0 I in_X0 rfl rfl 2 (by decide) q34 rfl dX0_file_62 ?_
          refine lv_iload_n hx hb dX0_file_65 rfl (lv_at hl 3 rfl) ?_
          refine ig_ald C0 I 2 3 2 (a := a 2) (n := 12) (cA := d 2) rfl rfl Q rfl (by omega) (by decide) dX0_file_66 ?_
          refine lv_topi (fun v8 ev8 => ?_)
          obtain rfl : v8 = nI cq := ev8.trans (by rw [hv.1 2 (by decide) (by decide) (by decide)]; exact eC1)
          refine lv_iadd hx hb dX0_file_67 ?_
          refine lv_topi (fun v9 ev9 => ?_)
          obtain rfl : v9 = nI (Q * 6 + cq) := ev9.trans (nI_add (Q * 6) cq)
          refine lv_icmp_ge (tgt := 104) hx hb dX0_file_68 (by decide) (fun c68 => ?_) (fun c68 => ?_)
          · skip
            have hge : i = Q * 6 + cq := by
              have := (nI_leI (a := Q * 6 + cq) (b := i) (by omega) (by omega)).mp c68
              omega
            exact ig_vret C0 hr hk I (⟨fun k a1 a2 a3 => (hv.1 k a1 a2 a3).trans (hp2 k a3), hv.2.1, Or.inr (Or.inr ⟨by rw [hv.1 1 (by decide) (by decide) (by decide)]; exact c35, fun j j0 j1 j2 => by rw [s3] at j2; rw [s4]; exact hv.2.2 j j0 (by omega) j2⟩)⟩) dX0_file_104
          · skip
            have hlt : i < Q * 6 + cq := by
              rcases Nat.lt_or_ge i (Q * 6 + cq) with q | q
              · exact q
              · exact absurd (nI_le q (by omega)) c68
            refine lv_aload_n hx hb dX0_file_71 rfl (lv_at hl 2 rfl) ?_
            refine ig_get (C := RX0) (T := TX0) (N := 17) (ci := 0) (fs := FX a S2) (v := .ref (a 3)) C0 I in_X0 rfl rfl 3 (by decide) q35 rfl dX0_file_72 ?_
            refine lv_iload_n hx hb dX0_file_75 rfl (lv_at hl 0 rfl) ?_
            refine ig_ald C0 I 3 4 3 (a := a 3) (n := 72) (cA := d 3) rfl rfl i rfl (by omega) (by decide) dX0_file_76 ?_
            refine lv_iconst (v := 2) hx hb dX0_file_77 (by decide) ?_
            refine lv_icmp_ne (tgt := 98) hx hb dX0_file_78 (by decide) (fun c78 => ?_) (fun c78 => ?_)
            · skip
              refine lv_iinc (v := nI (i + 1)) (lv' := [(3, .int (nI (i + 1))), (2, .int r3), (0, .ref h), (1, .int (nI Q))]) hx hb dX0_file_98 hl (k := 0) rfl (nI_1 i) (by decide) rfl (fun ls hl => ?_)
              refine lv_goto (tgt := 56) hx hb dX0_file_101 (by decide) ?_
              refine ih (i + 1) S2 (by omega) (by omega) (by omega) ⟨hv.1, hv.2.1, fun j j0 j1 j2 => ?_⟩ _ _ _ I (lv_sub hl [0, 1, 2, 3] rfl)
              rcases Nat.lt_or_ge j i with q | q
              · exact hv.2.2 j j0 q j2
              · rw [show j = i by omega, ← s3] at j2
                exact absurd j2 c78
            · skip
              have e2 : S1 3 i = 2 := by rw [← s3]; exact c78
              obtain ⟨t, ht, et⟩ := ok1.2.2.2.1 i (by omega) (by rw [e2]; decide)
              have et2 : S2 4 i = nI t := by rw [s4]; exact et
              refine lv_aload_n hx hb dX0_file_81 rfl (lv_at hl 2 rfl) ?_
              refine ig_get (C := RX0) (T := TX0) (N := 17) (ci := 0) (fs := FX a S2) (v := .ref (a 6)) C0 I in_X0 rfl rfl 6 (by decide) q38 rfl dX0_file_82 ?_
              refine lv_aload_n hx hb dX0_file_85 rfl (lv_at hl 2 rfl) ?_
              refine ig_get (C := RX0) (T := TX0) (N := 17) (ci := 0) (fs := FX a S2) (v := .ref (a 4)) C0 I in_X0 rfl rfl 4 (by decide) q36 rfl dX0_file_86 ?_
              refine lv_iload_n hx hb dX0_file_89 rfl (lv_at hl 0 rfl) ?_
              refine ig_ald C0 I 4 5 4 (a := a 4) (n := 72) (cA := d 4) rfl rfl i rfl (by omega) (by decide) dX0_file_90 ?_
              refine lv_dup2_11 hx hb dX0_file_91 rfl rfl ?_
              refine ig_ald C0 I 6 7 6 (a := a 6) (n := 24) (cA := d 6) rfl rfl t et2 ht (by decide) dX0_file_92 ?_
              refine lv_iconst (v := 1) hx hb dX0_file_93 (by decide) ?_
              refine lv_iload_n hx hb dX0_file_94 rfl (lv_at hl 3 rfl) ?_
              refine lv_ishl hx hb dX0_file_95 ?_
              refine lv_ior hx hb dX0_file_96 ?_
              refine ig_ast C0 I 6 7 6 (a := a 6) (n := 24) (cA := d 6) rfl rfl t et2 ht (by decide) (va_up S2 6 (upd (S2 6) t ((S2 6 t) ||| (1 <<< ((nI Q) &&& 31))))) rfl dX0_file_97 (fun H locs I => ?_)
              generalize eS10 : va_up S2 6 (upd (S2 6) t ((S2 6 t) ||| (1 <<< ((nI Q) &&& 31)))) = S10 at I
              refine lv_iinc (v := nI (i + 1)) (lv' := [(3, .int (nI (i + 1))), (2, .int r3), (0, .ref h), (1, .int (nI Q))]) hx hb dX0_file_98 hl (k := 0) rfl (nI_1 i) (by decide) rfl (fun ls hl => ?_)
              refine lv_goto (tgt := 56) hx hb dX0_file_101 (by decide) ?_
              refine ih (i + 1) S10 (by omega) (by omega) (by omega) ⟨fun k a1 a2 a3 => ?_, ?_, fun j j0 j1 j2 => ?_⟩ _ _ _ I (lv_sub hl [0, 1, 2, 3] rfl)
              · rw [← eS10, ← hv.1 k a1 a2 a3]
                exact if_neg a1
              · rw [← eS10]
                exact fl_6 hQ hv.2.1 t
              · rw [← eS10]
                show bt (upd (S2 6) t (st1 (S2 6 t) Q) _) Q = true
                refine fl_up hQ ?_
                rcases Nat.lt_or_ge j i with q | q
                · exact Or.inr (hv.2.2 j j0 q j2)
                · exact Or.inl (by rw [show j = i by omega, et]; exact nI_clamp (by omega))
      exact loop (cq + 1) (Q * 6) S1 (Nat.le_refl _) (by omega) (by omega) ⟨fun _ _ _ _ => rfl, hk1, fun j a1 a2 => absurd a1 (by omega)⟩ _ _ _ I (lv_sub hl [0, 1, 2, 3] rfl)
    · skip
      refine lv_aload_n hx hb dX0_file_38 rfl (lv_at hl 1 rfl) ?_
      refine lv_dup hx hb dX0_file_39 rfl ?_
      refine ig_get (C := RX0) (T := TX0) (N := 17) (ci := 0) (fs := FX a S1) (v := .int (S1 7 0)) C0 I in_X0 rfl rfl 7 (by decide) q39 rfl dX0_file_40 ?_
      refine lv_iconst (v := 1) hx hb dX0_file_43 (by decide) ?_
      refine lv_iload_n hx hb dX0_file_44 rfl (lv_at hl 2 rfl) ?_
      refine lv_ishl hx hb dX0_file_45 ?_
      refine lv_ior hx hb dX0_file_46 ?_
      refine ig_put (C := RX0) (T := TX0) (N := 17) (ci := 0) (fs := FX a S1) (v := ((S1 7 0) ||| (1 <<< ((nI Q) &&& 31)))) C0 I in_X0 tyX0 tyX0_ok nmX0 rfl rfl 7 (by decide) q39 rfl (by decide +kernel) (Nat.le_of_ble_eq_true rfl) (va_up S1 7 (fun _ => ((S1 7 0) ||| (1 <<< ((nI Q) &&& 31))))) rfl dX0_file_47 (fun H locs I => ?_)
      generalize eS11 : va_up S1 7 (fun _ => ((S1 7 0) ||| (1 <<< ((nI Q) &&& 31)))) = S11 at I
      exact ig_vret C0 hr hk I (⟨fun k a1 a2 a3 => by rw [← eS11, ← hp2 k a3]; exact if_neg a2, by rw [← eS11]; exact fl_7 hQ hk1, Or.inr (Or.inl ⟨by rw [← eS11]; exact c35, by rw [← eS11]; show bt (st1 (S1 7 0) Q) Q = true; rw [b_st1 _ (by omega) (by omega), decide_eq_true rfl, Bool.or_true]⟩)⟩) dX0_file_50
  · skip
    obtain ⟨j, j0, j1, j2, j3⟩ : ∃ j, Q * 6 ≤ j ∧ j < Q * 6 + cq ∧ sureB S1 j = true ∧ r3 = S1 4 j := by
      rcases hp4.2 with ⟨q, _⟩ | q
      · exact absurd (by rw [q]; decide) c13
      · exact q
    obtain ⟨t, ht, et⟩ := ok1.2.2.2.1 j (by omega) (sure_n4 j2)
    refine lv_aload_n hx hb dX0_file_16 rfl (lv_at hl 1 rfl) ?_
    refine ig_get (C := RX0) (T := TX0) (N := 17) (ci := 0) (fs := FX a S1) (v := .ref (a 6)) C0 I in_X0 rfl rfl 6 (by decide) q38 rfl dX0_file_17 ?_
    refine lv_iload_n hx hb dX0_file_20 rfl (lv_at hl 0 rfl) ?_
    refine lv_dup2_11 hx hb dX0_file_21 rfl rfl ?_
    refine ig_ald C0 I 6 7 6 (a := a 6) (n := 24) (cA := d 6) rfl rfl t (j3.trans et) ht (by decide) dX0_file_22 ?_
    refine lv_iconst (v := 1) hx hb dX0_file_23 (by decide) ?_
    refine lv_iload_n hx hb dX0_file_24 rfl (lv_at hl 2 rfl) ?_
    refine lv_ishl hx hb dX0_file_25 ?_
    refine lv_ior hx hb dX0_file_26 ?_
    refine ig_ast C0 I 6 7 6 (a := a 6) (n := 24) (cA := d 6) rfl rfl t (j3.trans et) ht (by decide) (va_up S1 6 (upd (S1 6) t ((S1 6 t) ||| (1 <<< ((nI Q) &&& 31))))) rfl dX0_file_27 (fun H locs I => ?_)
    generalize eS12 : va_up S1 6 (upd (S1 6) t ((S1 6 t) ||| (1 <<< ((nI Q) &&& 31)))) = S12 at I
    exact ig_vret C0 hr hk I (⟨fun k a1 a2 a3 => by rw [← eS12, ← hp2 k a3]; exact if_neg a1, by rw [← eS12]; exact fl_6 hQ hk1 t, Or.inl ⟨j, j0, j1, by rw [← eS12]; exact j2, by rw [← eS12]; show bt (upd (S1 6) t (st1 (S1 6 t) Q) (S1 4 j).toNatClampNeg) Q = true; rw [et, nI_clamp (by omega)]; exact fl_up hQ (Or.inl rfl)⟩⟩) dX0_file_28

def cr3 (S : ST) (Q : Nat) (p : Int32) : ST := va_up (va_up (va_up S 0 (upd (S 0) Q 1)) 1 (upd (S 1) Q p)) 2 (upd (S 2) Q 0)
def crP (S : ST) (p r : Int32) (S' : ST) (fin : Nat → Prop) : Prop := ((p < 0 ∨ ¬ p ≤ 6) ∧ r = -4 ∧ S' = S) ∨ ((¬ p < 0 ∧ p ≤ 6) ∧ (((∀ j, j < 12 → ¬ S 0 j = 0) ∧ r = -3 ∧ S' = S) ∨ ∃ Q, Q < 12 ∧ (∀ j, j < Q → ¬ S 0 j = 0) ∧ S 0 Q = 0 ∧ r = nI Q ∧ fin Q))
theorem okC_cr3 {S : ST} {Q : Nat} (ok : okC S) (p : Int32) : okC (cr3 S Q p) := by
  refine ⟨fun j hj => ?_, fun j hj => ?_, ok.2.2.1, ok.2.2.2.1, ok.2.2.2.2⟩
  · show upd (S 0) Q 1 j = 0 ∨ upd (S 0) Q 1 j = 1
    by_cases e : j = Q
    · rw [e, pk_us]; exact Or.inr rfl
    · rw [pk_un e]; exact ok.1 j hj
  · show ∃ c, c ≤ 6 ∧ upd (S 2) Q 0 j = nI c
    by_cases e : j = Q
    · rw [e, pk_us]; exact ⟨0, by omega, rfl⟩
    · rw [pk_un e]; exact ok.2.1 j hj

set_option maxHeartbeats 4000000 in
set_option maxRecDepth 100000 in
/-- create(least) -/
theorem metX0_create (l : Launch) (D : va_G) (h : Nat) (a : Nat → Nat) (d : Nat → ClassId) (S : ST) (ok : okC S) (p0 : Int32) : mi_ l D clX (WX h a d) (TYX d) yX0_create cX0_create 3 (some .int) (rmX 3 67) [.ref h, .int p0] S (fun r S1 => crP S p0 r S1 (fun Q => fileP (cr3 S Q p0) Q 0 S1)) := by
  refine mi_of (by decide) (Nat.le_of_ble_eq_true rfl) ?_
  intro p e s m below meth c A ls C0 hr hk hA I hl
  have C0 : CallFix p m c cX0_create 3 s ([.ref h, .int p0] : List Value).toArray lw_all RX0 := C0
  have hl : lv_has ls 3 [(0, .ref h), (1, .int p0)] := hl
  have hx := C0.1
  have hb := C0.2.1
  refine lv_iload_n hx hb dX0_create_0 rfl (lv_at hl 1 rfl) ?_
  refine lv_if_lt (tgt := 10) hx hb dX0_create_1 (by decide) (fun c1 => ?_) (fun c1 => ?_)
  · skip
    refine lv_bipush (v := (-4)) hx hb dX0_create_10 (by decide) ?_
    exact ig_iret C0 hr hk I (Or.inl ⟨Or.inl c1, rfl, rfl⟩) dX0_create_12
  · skip
    refine lv_iload_n hx hb dX0_create_4 rfl (lv_at hl 1 rfl) ?_
    refine lv_bipush (v := 6) hx hb dX0_create_5 (by decide) ?_
    refine lv_icmp_le (tgt := 13) hx hb dX0_create_7 (by decide) (fun c7 => ?_) (fun c7 => ?_)
    · skip
      refine lv_iconst (v := 0) hx hb dX0_create_13 (by decide) ?_
      refine lv_istore_n (lv' := [(2, .int 0), (0, .ref h), (1, .int p0)]) hx hb dX0_create_14 rfl hl (by decide) rfl (fun ls hl => ?_)
      have loop : ∀ (n : Nat) (q : Nat), q ≤ 12 → 12 < q + n → (∀ j, j < q → ¬ S 0 j = 0) → ∀ (H : Heap) (locs : List Loc) (ls : Array Slot), ig_ D clX (WX h a d) (TYX d) A s S H locs → lv_has ls 3 [(2, .int (nI q)), (0, .ref h), (1, .int p0)] → W p l e (rmX 3 67) s m ([.ref h, .int p0] : List Value).toArray below meth c H locs 0 0 (MQ below (va_Qi (fun r S1 => crP S p0 r S1 (fun Q => fileP (cr3 S Q p0) Q 0 S1)) (bg_ D clX (WX h a d) (TYX d) A) A) ([.ref h, .int p0] : List Value).toArray s 0 0 A) (F0 m 15 ls []) := by
        intro n
        induction n with
        | zero =>
          intro q h1 h2 hv
          exact absurd h2 (by omega)
        | succ n ih =>
          intro q h1 h2 hv H locs ls I hl
          refine lv_iload_n hx hb dX0_create_15 rfl (lv_at hl 0 rfl) ?_
          refine lv_bipush (v := 12) hx hb dX0_create_16 (by decide) ?_
          refine lv_icmp_ge (tgt := 36) hx hb dX0_create_18 (by decide) (fun c18 => ?_) (fun c18 => ?_)
          · skip
            have hge : q = 12 := by
              have := (nI_leI (a := 12) (b := q) (by omega) (by omega)).mp c18
              omega
            subst hge
            refine lv_iload_n hx hb dX0_create_36 rfl (lv_at hl 0 rfl) ?_
            refine lv_bipush (v := 12) hx hb dX0_create_37 (by decide) ?_
            refine lv_icmp_ne (tgt := 45) hx hb dX0_create_39 (by decide) (fun c39 => ?_) (fun c39 => ?_)
            · skip
              exact absurd rfl c39
            · skip
              refine lv_bipush (v := (-3)) hx hb dX0_create_42 (by decide) ?_
              exact ig_iret C0 hr hk I (Or.inr ⟨⟨c1, c7⟩, Or.inl ⟨hv, rfl, rfl⟩⟩) dX0_create_44
          · skip
            have hlt : q < 12 := by
              rcases Nat.lt_or_ge q 12 with q | q
              · exact q
              · exact absurd (nI_le q (by omega)) c18
            refine lv_aload_n hx hb dX0_create_21 rfl (lv_at hl 1 rfl) ?_
            refine ig_get (C := RX0) (T := TX0) (N := 17) (ci := 0) (fs := FX a S) (v := .ref (a 0)) C0 I in_X0 rfl rfl 0 (by decide) q32 rfl dX0_create_22 ?_
            refine lv_iload_n hx hb dX0_create_25 rfl (lv_at hl 0 rfl) ?_
            refine ig_zald C0 I 0 1 0 (a := a 0) (n := 12) (cA := d 0) rfl rfl q rfl (by omega) (by decide) dX0_create_26 ?_
            refine lv_if_eq (tgt := 36) hx hb dX0_create_27 (by decide) (fun c27 => ?_) (fun c27 => ?_)
            · skip
              refine lv_iload_n hx hb dX0_create_36 rfl (lv_at hl 0 rfl) ?_
              refine lv_bipush (v := 12) hx hb dX0_create_37 (by decide) ?_
              refine lv_icmp_ne (tgt := 45) hx hb dX0_create_39 (by decide) (fun c39 => ?_) (fun c39 => ?_)
              · skip
                refine lv_aload_n hx hb dX0_create_45 rfl (lv_at hl 1 rfl) ?_
                refine ig_get (C := RX0) (T := TX0) (N := 17) (ci := 0) (fs := FX a S) (v := .ref (a 0)) C0 I in_X0 rfl rfl 0 (by decide) q32 rfl dX0_create_46 ?_
                refine lv_iload_n hx hb dX0_create_49 rfl (lv_at hl 0 rfl) ?_
                refine lv_iconst (v := 1) hx hb dX0_create_50 (by decide) ?_
                refine ig_zast C0 I 0 1 0 (a := a 0) (n := 12) (cA := d 0) rfl rfl rfl q rfl (by omega) (by decide) (va_up S 0 (upd (S 0) q 1)) rfl dX0_create_51 (fun H locs I => ?_)
                generalize eS1 : va_up S 0 (upd (S 0) q 1) = S1 at I
                refine lv_aload_n hx hb dX0_create_52 rfl (lv_at hl 1 rfl) ?_
                refine ig_get (C := RX0) (T := TX0) (N := 17) (ci := 0) (fs := FX a S1) (v := .ref (a 1)) C0 I in_X0 rfl rfl 1 (by decide) q33 rfl dX0_create_53 ?_
                refine lv_iload_n hx hb dX0_create_56 rfl (lv_at hl 0 rfl) ?_
                refine lv_iload_n hx hb dX0_create_57 rfl (lv_at hl 2 rfl) ?_
                refine ig_ast C0 I 1 2 1 (a := a 1) (n := 12) (cA := d 1) rfl rfl q rfl (by omega) (by decide) (va_up S1 1 (upd (S1 1) q p0)) rfl dX0_create_58 (fun H locs I => ?_)
                generalize eS2 : va_up S1 1 (upd (S1 1) q p0) = S2 at I
                refine lv_aload_n hx hb dX0_create_59 rfl (lv_at hl 1 rfl) ?_
                refine ig_get (C := RX0) (T := TX0) (N := 17) (ci := 0) (fs := FX a S2) (v := .ref (a 2)) C0 I in_X0 rfl rfl 2 (by decide) q34 rfl dX0_create_60 ?_
                refine lv_iload_n hx hb dX0_create_63 rfl (lv_at hl 0 rfl) ?_
                refine lv_iconst (v := 0) hx hb dX0_create_64 (by decide) ?_
                refine ig_ast C0 I 2 3 2 (a := a 2) (n := 12) (cA := d 2) rfl rfl q rfl (by omega) (by decide) (va_up S2 2 (upd (S2 2) q 0)) rfl dX0_create_65 (fun H locs I => ?_)
                generalize eS3 : va_up S2 2 (upd (S2 2) q 0) = S3 at I
                refine lv_aload_n hx hb dX0_create_66 rfl (lv_at hl 1 rfl) ?_
                refine lv_iload_n hx hb dX0_create_67 rfl (lv_at hl 0 rfl) ?_
                have ec : S3 = cr3 S q p0 := by rw [← eS3, ← eS2, ← eS1]; rfl
                refine ig_callv (h := h) (As := [.int (nI q)]) (rest := []) (C := RX0) (T := TX0) (N := 17) (ci := 0) (fs := FX a S3) C0 hA I (metX0_file l D h a d S3 q 0 hlt (by omega) (by rw [ec]; exact pk_us) (by rw [ec]; exact okC_cr3 ok p0)) rfl rfl (lw_V q90 q92 qs0 q22 q93) 1 (by decide +kernel) rfl rfl ⟨by decide, by decide⟩ ⟨Nat.zero_le _, Nat.zero_le _⟩ rfl hl.1 (Nat.le_of_ble_eq_true rfl) dX0_create_68 rfl (fun S9 H locs hp5 I _ => ?_)
                refine lv_iload_n hx hb dX0_create_71 rfl (lv_at hl 0 rfl) ?_
                exact ig_iret C0 hr hk I (Or.inr ⟨⟨c1, c7⟩, Or.inr ⟨q, hlt, hv, c27, rfl, by show fileP (cr3 S q p0) q 0 S9; rw [← ec]; exact hp5⟩⟩) dX0_create_72
              · skip
                exact absurd ((nI_eq (a := q) (b := 12) (by omega) (by omega)).mp c39) (by omega)
            · skip
              refine lv_iinc (v := nI (q + 1)) (lv' := [(2, .int (nI (q + 1))), (0, .ref h), (1, .int p0)]) hx hb dX0_create_30 hl (k := 0) rfl (nI_1 q) (by decide) rfl (fun ls hl => ?_)
              refine lv_goto (tgt := 15) hx hb dX0_create_33 (by decide) ?_
              refine ih (q + 1) (by omega) (by omega) (fun j hj => ?_) _ _ _ I (lv_sub hl [0, 1, 2] rfl)
              rcases Nat.lt_or_ge j q with z | z
              · exact hv j z
              · rw [show j = q by omega]; exact c27
      exact loop 13 0 (by omega) (by omega) (fun j hj => absurd hj (by omega)) _ _ _ I (lv_sub hl [0, 1, 2] rfl)
    · skip
      refine lv_bipush (v := (-4)) hx hb dX0_create_10 (by decide) ?_
      exact ig_iret C0 hr hk I (Or.inl ⟨Or.inr c7, rfl, rfl⟩) dX0_create_12
end
section
def ad5 (S : ST) (Q c : Nat) (w x y : Int32) : ST := va_up (va_up (va_up (va_up S 3 (upd (S 3) (Q * 6 + c) w)) 4 (upd (S 4) (Q * 6 + c) x)) 5 (upd (S 5) (Q * 6 + c) y)) 2 (upd (S 2) Q (nI (c + 1)))
theorem okC_ad5 {S : ST} {Q c : Nat} {w x y : Int32} (ok : okC S) (hc : c < 6) (hw : ∃ k, k ≤ 4 ∧ w = nI k) (hx : ¬ w = 4 → isT x) (hy : w = 3 → isT y) : okC (ad5 S Q c w x y) := by
  refine ⟨ok.1, fun j hj => ?_, fun j hj => ?_, fun j hj => ?_, fun j hj => ?_⟩
  · show ∃ k, k ≤ 6 ∧ upd (S 2) Q (nI (c + 1)) j = nI k
    by_cases e : j = Q
    · rw [e, pk_us]; exact ⟨c + 1, by omega, rfl⟩
    · rw [pk_un e]; exact ok.2.1 j hj
  · show ∃ k, k ≤ 4 ∧ upd (S 3) (Q * 6 + c) w j = nI k
    by_cases e : j = Q * 6 + c
    · rw [e, pk_us]; exact hw
    · rw [pk_un e]; exact ok.2.2.1 j hj
  · show ¬ upd (S 3) (Q * 6 + c) w j = 4 → ∃ t, t < 24 ∧ upd (S 4) (Q * 6 + c) x j = nI t
    by_cases e : j = Q * 6 + c
    · rw [e, pk_us, pk_us]; exact hx
    · rw [pk_un e, pk_un e]; exact ok.2.2.2.1 j hj
  · show upd (S 3) (Q * 6 + c) w j = 3 → ∃ t, t < 24 ∧ upd (S 5) (Q * 6 + c) y j = nI t
    by_cases e : j = Q * 6 + c
    · rw [e, pk_us, pk_us]; exact hy
    · rw [pk_un e, pk_un e]; exact ok.2.2.2.2 j hj
def addP (S : ST) (Q c : Nat) (w x y r : Int32) (S' : ST) : Prop := (c = 6 ∧ r = -3 ∧ S' = S) ∨ (c < 6 ∧ r = nI (c + 1) ∧ ∃ S1, unfileP S Q S1 ∧ fileP (ad5 S1 Q c w x y) Q (c + 1) S')
/-- add of a checked query: what all of must, not, should, phrase, range do behind their checks -/
def addQ (S : ST) (p w x y r : Int32) (S' : ST) : Prop := ∃ Q c, Q < 12 ∧ p = nI Q ∧ ¬ S 0 Q = 0 ∧ c ≤ 6 ∧ S 2 Q = nI c ∧ addP S Q c w x y r S'
def termP (S : ST) (p w t r : Int32) (S' : ST) : Prop := (¬ isQ S p ∧ r = -1 ∧ S' = S) ∨ (isQ S p ∧ ¬ isT t ∧ r = -2 ∧ S' = S) ∨ (isT t ∧ addQ S p w t 0 r S')
def phrP (S : ST) (p t u r : Int32) (S' : ST) : Prop := (¬ isQ S p ∧ r = -1 ∧ S' = S) ∨ (isQ S p ∧ ¬ (isT t ∧ isT u) ∧ r = -2 ∧ S' = S) ∨ (isT t ∧ isT u ∧ addQ S p 3 t u r S')
def rngP (S : ST) (p t u r : Int32) (S' : ST) : Prop := (¬ isQ S p ∧ r = -1 ∧ S' = S) ∨ addQ S p 4 t u r S'
def cntU (f : Nat → Int32) : Nat → Nat
  | 0 => 0
  | n + 1 => if f n = 0 then cntU f n else cntU f n + 1
theorem cntU_le (f : Nat → Int32) : ∀ n, cntU f n ≤ n
  | 0 => Nat.le_refl 0
  | n + 1 => by
    have := cntU_le f n
    unfold cntU
    split <;> omega
def remP (S : ST) (p r : Int32) (S' : ST) : Prop := (¬ isQ S p ∧ r = -1 ∧ S' = S) ∨ ∃ Q, Q < 12 ∧ p = nI Q ∧ ¬ S 0 Q = 0 ∧ ∃ S1, unfileP S Q S1 ∧ S' = va_up S1 0 (upd (S1 0) Q 0) ∧ r = nI (cntU (S' 0) 12)

set_option maxHeartbeats 4000000 in
set_option maxRecDepth 100000 in
/-- add(q, what, a, b) -/
theorem metX0_add (l : Launch) (D : va_G) (h : Nat) (a : Nat → Nat) (d : Nat → ClassId) (S : ST) (Q cq : Nat) (hQ : Q < 12) (hc : cq ≤ 6) (eC : S 2 Q = nI cq) (ok : okC S) (w0 x0 y0 : Int32) (hw : ∃ k, k ≤ 4 ∧ w0 = nI k) (hx0 : ¬ w0 = 4 → isT x0) (hy0 : w0 = 3 → isT y0) : mi_ l D clX (WX h a d) (TYX d) yX0_add cX0_add 6 (some .int) (rmX 3 67) [.ref h, .int (nI Q), .int w0, .int x0, .int y0] S (fun r S1 => addP S Q cq w0 x0 y0 r S1) := by
  refine mi_of (by decide) (Nat.le_of_ble_eq_true rfl) ?_
  intro p e s m below meth c A ls C0 hr hk hA I hl
  have C0 : CallFix p m c cX0_add 6 s ([.ref h, .int (nI Q), .int w0, .int x0, .int y0] : List Value).toArray lw_all RX0 := C0
  have hl : lv_has ls 6 [(0, .ref h), (1, .int (nI Q)), (2, .int w0), (3, .int x0), (4, .int y0)] := hl
  have hx := C0.1
  have hb := C0.2.1
  refine lv_aload_n hx hb dX0_add_0 rfl (lv_at hl 0 rfl) ?_
  refine ig_get (C := RX0) (T := TX0) (N := 17) (ci := 0) (fs := FX a S) (v := .ref (a 2)) C0 I in_X0 rfl rfl 2 (by decide) q34 rfl dX0_add_1 ?_
  refine lv_iload_n hx hb dX0_add_4 rfl (lv_at hl 1 rfl) ?_
  refine ig_ald C0 I 2 3 2 (a := a 2) (n := 12) (cA := d 2) rfl rfl Q rfl (by omega) (by decide) dX0_add_5 ?_
  refine lv_topi (fun v1 ev1 => ?_)
  obtain rfl : v1 = nI cq := ev1.trans eC
  refine lv_bipush (v := 6) hx hb dX0_add_6 (by decide) ?_
  refine lv_icmp_lt (tgt := 14) hx hb dX0_add_8 (by decide) (fun c8 => ?_) (fun c8 => ?_)
  · skip
    have hlt : cq < 6 := (nI_ltI (a := cq) (b := 6) (by omega) (by omega)).mp c8
    refine lv_aload_n hx hb dX0_add_14 rfl (lv_at hl 0 rfl) ?_
    refine lv_iload_n hx hb dX0_add_15 rfl (lv_at hl 1 rfl) ?_
    refine ig_callv (h := h) (As := [.int (nI Q)]) (rest := []) (C := RX0) (T := TX0) (N := 17) (ci := 0) (fs := FX a S) C0 hA I (metX0_unfile l D h a d S Q cq hQ hc eC ok) rfl rfl (lw_V q125 q127 qs7 q22 q128) 1 (by decide +kernel) rfl rfl ⟨by decide, by decide⟩ ⟨Nat.zero_le _, Nat.zero_le _⟩ rfl hl.1 (Nat.le_of_ble_eq_true rfl) dX0_add_16 rfl (fun S1 H locs hp3 I _ => ?_)
    have q2 := hp3.1 2 (by decide) (by decide) (by decide)
    have ok1 : okC S1 := okC_of (hp3.1 0 (by decide) (by decide) (by decide)) q2 (hp3.1 3 (by decide) (by decide) (by decide)) (hp3.1 4 (by decide) (by decide) (by decide)) (hp3.1 5 (by decide) (by decide) (by decide)) ok
    have eC1 : S1 2 Q = nI cq := by rw [q2]; exact eC
    refine lv_iload_n hx hb dX0_add_19 rfl (lv_at hl 1 rfl) ?_
    refine lv_bipush (v := 6) hx hb dX0_add_20 (by decide) ?_
    refine lv_imul hx hb dX0_add_22 ?_
    refine lv_topi (fun v4 ev4 => ?_)
    obtain rfl : v4 = nI (Q * 6) := ev4.trans (pk_mul Q 6)
    refine lv_aload_n hx hb dX0_add_23 rfl (lv_at hl 0 rfl) ?_
    refine ig_get (C := RX0) (T := TX0) (N := 17) (ci := 0) (fs := FX a S1) (v := .ref (a 2)) C0 I in_X0 rfl rfl 2 (by decide) q34 rfl dX0_add_24 ?_
    refine lv_iload_n hx hb dX0_add_27 rfl (lv_at hl 1 rfl) ?_
    refine ig_ald C0 I 2 3 2 (a := a 2) (n := 12) (cA := d 2) rfl rfl Q rfl (by omega) (by decide) dX0_add_28 ?_
    refine lv_topi (fun v5 ev5 => ?_)
    obtain rfl : v5 = nI cq := ev5.trans eC1
    refine lv_iadd hx hb dX0_add_29 ?_
    refine lv_topi (fun v6 ev6 => ?_)
    obtain rfl : v6 = nI (Q * 6 + cq) := ev6.trans (nI_add (Q * 6) cq)
    refine lv_istore (lv' := [(5, .int (nI (Q * 6 + cq))), (0, .ref h), (1, .int (nI Q)), (2, .int w0), (3, .int x0), (4, .int y0)]) hx hb dX0_add_30 hl (by decide) rfl (fun ls hl => ?_)
    refine lv_aload_n hx hb dX0_add_32 rfl (lv_at hl 1 rfl) ?_
    refine ig_get (C := RX0) (T := TX0) (N := 17) (ci := 0) (fs := FX a S1) (v := .ref (a 3)) C0 I in_X0 rfl rfl 3 (by decide) q35 rfl dX0_add_33 ?_
    refine lv_iload hx hb dX0_add_36 (lv_at hl 0 rfl) ?_
    refine lv_iload_n hx hb dX0_add_38 rfl (lv_at hl 3 rfl) ?_
    refine ig_ast C0 I 3 4 3 (a := a 3) (n := 72) (cA := d 3) rfl rfl (Q * 6 + cq) rfl (by omega) (by decide) (va_up S1 3 (upd (S1 3) (Q * 6 + cq) w0)) rfl dX0_add_39 (fun H locs I => ?_)
    generalize eS7 : va_up S1 3 (upd (S1 3) (Q * 6 + cq) w0) = S7 at I
    refine lv_aload_n hx hb dX0_add_40 rfl (lv_at hl 1 rfl) ?_
    refine ig_get (C := RX0) (T := TX0) (N := 17) (ci := 0) (fs := FX a S7) (v := .ref (a 4)) C0 I in_X0 rfl rfl 4 (by decide) q36 rfl dX0_add_41 ?_
    refine lv_iload hx hb dX0_add_44 (lv_at hl 0 rfl) ?_
    refine lv_iload_n hx hb dX0_add_46 rfl (lv_at hl 4 rfl) ?_
    refine ig_ast C0 I 4 5 4 (a := a 4) (n := 72) (cA := d 4) rfl rfl (Q * 6 + cq) rfl (by omega) (by decide) (va_up S7 4 (upd (S7 4) (Q * 6 + cq) x0)) rfl dX0_add_47 (fun H locs I => ?_)
    generalize eS8 : va_up S7 4 (upd (S7 4) (Q * 6 + cq) x0) = S8 at I
    refine lv_aload_n hx hb dX0_add_48 rfl (lv_at hl 1 rfl) ?_
    refine ig_get (C := RX0) (T := TX0) (N := 17) (ci := 0) (fs := FX a S8) (v := .ref (a 5)) C0 I in_X0 rfl rfl 5 (by decide) q37 rfl dX0_add_49 ?_
    refine lv_iload hx hb dX0_add_52 (lv_at hl 0 rfl) ?_
    refine lv_iload hx hb dX0_add_54 (lv_at hl 5 rfl) ?_
    refine ig_ast C0 I 5 6 5 (a := a 5) (n := 72) (cA := d 5) rfl rfl (Q * 6 + cq) rfl (by omega) (by decide) (va_up S8 5 (upd (S8 5) (Q * 6 + cq) y0)) rfl dX0_add_56 (fun H locs I => ?_)
    generalize eS9 : va_up S8 5 (upd (S8 5) (Q * 6 + cq) y0) = S9 at I
    have eC4 : S9 2 Q = nI cq := by rw [← eS9, ← eS8, ← eS7]; exact eC1
    refine lv_aload_n hx hb dX0_add_57 rfl (lv_at hl 1 rfl) ?_
    refine ig_get (C := RX0) (T := TX0) (N := 17) (ci := 0) (fs := FX a S9) (v := .ref (a 2)) C0 I in_X0 rfl rfl 2 (by decide) q34 rfl dX0_add_58 ?_
    refine lv_iload_n hx hb dX0_add_61 rfl (lv_at hl 2 rfl) ?_
    refine lv_dup2_11 hx hb dX0_add_62 rfl rfl ?_
    refine ig_ald C0 I 2 3 2 (a := a 2) (n := 12) (cA := d 2) rfl rfl Q rfl (by omega) (by decide) dX0_add_63 ?_
    refine lv_topi (fun v10 ev10 => ?_)
    obtain rfl : v10 = nI cq := ev10.trans eC4
    refine lv_iconst (v := 1) hx hb dX0_add_64 (by decide) ?_
    refine lv_iadd hx hb dX0_add_65 ?_
    refine lv_topi (fun v11 ev11 => ?_)
    obtain rfl : v11 = nI (cq + 1) := ev11.trans (nI_add cq 1)
    refine ig_ast C0 I 2 3 2 (a := a 2) (n := 12) (cA := d 2) rfl rfl Q rfl (by omega) (by decide) (va_up S9 2 (upd (S9 2) Q (nI (cq + 1)))) rfl dX0_add_66 (fun H locs I => ?_)
    generalize eS12 : va_up S9 2 (upd (S9 2) Q (nI (cq + 1))) = S12 at I
    have ec : S12 = ad5 S1 Q cq w0 x0 y0 := by rw [← eS12, ← eS9, ← eS8, ← eS7]; rfl
    have e5 : S12 2 Q = nI (cq + 1) := by rw [ec]; exact pk_us
    refine lv_aload_n hx hb dX0_add_67 rfl (lv_at hl 1 rfl) ?_
    refine lv_iload_n hx hb dX0_add_68 rfl (lv_at hl 2 rfl) ?_
    refine ig_callv (h := h) (As := [.int (nI Q)]) (rest := []) (C := RX0) (T := TX0) (N := 17) (ci := 0) (fs := FX a S12) C0 hA I (metX0_file l D h a d S12 Q (cq + 1) hQ (by omega) e5 (by rw [ec]; exact okC_ad5 ok1 hlt hw hx0 hy0)) rfl rfl (lw_V q90 q92 qs0 q22 q93) 1 (by decide +kernel) rfl rfl ⟨by decide, by decide⟩ ⟨Nat.zero_le _, Nat.zero_le _⟩ rfl hl.1 (Nat.le_of_ble_eq_true rfl) dX0_add_69 rfl (fun S9 H locs hp14 I _ => ?_)
    have e9 : S9 2 Q = nI (cq + 1) := by rw [hp14.1 2 (by decide) (by decide) (by decide)]; exact e5
    refine lv_aload_n hx hb dX0_add_72 rfl (lv_at hl 1 rfl) ?_
    refine ig_get (C := RX0) (T := TX0) (N := 17) (ci := 0) (fs := FX a S9) (v := .ref (a 2)) C0 I in_X0 rfl rfl 2 (by decide) q34 rfl dX0_add_73 ?_
    refine lv_iload_n hx hb dX0_add_76 rfl (lv_at hl 2 rfl) ?_
    refine ig_ald C0 I 2 3 2 (a := a 2) (n := 12) (cA := d 2) rfl rfl Q rfl (by omega) (by decide) dX0_add_77 ?_
    refine lv_topi (fun v15 ev15 => ?_)
    obtain rfl : v15 = nI (cq + 1) := ev15.trans e9
    exact ig_iret C0 hr hk I (Or.inr ⟨hlt, rfl, S1, hp3, by rw [← ec]; exact hp14⟩) dX0_add_78
  · skip
    have hge : cq = 6 := by
      have : ¬ cq < 6 := fun z => c8 (nI_lt (b := 6) z (by decide))
      omega
    refine lv_bipush (v := (-3)) hx hb dX0_add_11 (by decide) ?_
    exact ig_iret C0 hr hk I (Or.inl ⟨hge, rfl, rfl⟩) dX0_add_13

set_option maxHeartbeats 4000000 in
set_option maxRecDepth 100000 in
/-- addTerm(q, what, t) -/
theorem metX0_addTerm (l : Launch) (D : va_G) (h : Nat) (a : Nat → Nat) (d : Nat → ClassId) (S : ST) (ok : okC S) (p0 w0 t0 : Int32) (hw : ∃ k, k ≤ 3 ∧ w0 = nI k) (hw3 : ¬ w0 = 3) : mi_ l D clX (WX h a d) (TYX d) yX0_addTerm cX0_addTerm 4 (some .int) (rmX 4 92) [.ref h, .int p0, .int w0, .int t0] S (fun r S1 => termP S p0 w0 t0 r S1) := by
  refine mi_of (by decide) (Nat.le_of_ble_eq_true rfl) ?_
  intro p e s m below meth c A ls C0 hr hk hA I hl
  have C0 : CallFix p m c cX0_addTerm 4 s ([.ref h, .int p0, .int w0, .int t0] : List Value).toArray lw_all RX0 := C0
  have hl : lv_has ls 4 [(0, .ref h), (1, .int p0), (2, .int w0), (3, .int t0)] := hl
  have hx := C0.1
  have hb := C0.2.1
  refine lv_aload_n hx hb dX0_addTerm_0 rfl (lv_at hl 0 rfl) ?_
  refine lv_iload_n hx hb dX0_addTerm_1 rfl (lv_at hl 1 rfl) ?_
  refine ig_calli (h := h) (As := [.int p0]) (rest := []) (C := RX0) (T := TX0) (N := 17) (ci := 0) (fs := FX a S) C0 hA I (metX0_noQuery l D h a d S p0) rfl rfl (lw_V q114 q116 qs5 q22 q117) 1 (by decide +kernel) rfl rfl ⟨by decide, by decide⟩ ⟨Nat.zero_le _, Nat.zero_le _⟩ rfl hl.1 (Nat.le_of_ble_eq_true rfl) dX0_addTerm_2 rfl (fun r1 S3 H locs hp2 I _ => ?_)
  rw [hp2.1] at I
  refine lv_if_eq (tgt := 10) hx hb dX0_addTerm_5 (by decide) (fun c5 => ?_) (fun c5 => ?_)
  · skip
    have hq : isQ S p0 := by
      rcases hp2.2 with q | q
      · exact absurd (q.1.symm.trans c5) (by decide)
      · exact q.2
    refine lv_iload_n hx hb dX0_addTerm_10 rfl (lv_at hl 3 rfl) ?_
    refine W.callR (r := bI (btB t0)) (W.runS (As := [.int t0]) (rest := []) C0 (metX0_badTerm l t0) (va_cwS 1 C0.2.2.2.2 (lw_S q118 q119 q22 q120) rfl rfl rfl (by decide +kernel) ⟨by decide, by decide⟩) preEq rfl rfl hl.1 rfl (lv_room (Nat.le_of_ble_eq_true rfl)) dX0_addTerm_11 ⟨Nat.zero_le _, Nat.zero_le _⟩) ?_
    refine W.eq (g2 := F0 m 14 ls [.int (bI (btB t0))]) rfl ?_
    refine lv_if_eq (tgt := 20) hx hb dX0_addTerm_14 (by decide) (fun c14 => ?_) (fun c14 => ?_)
    · skip
      have ht : isT t0 := bt_isT.mp (bI_0.mp c14)
      obtain ⟨Q, hQ, rfl, hu⟩ := hq
      obtain ⟨cq, hc, eC⟩ := ok.2.1 Q hQ
      refine lv_aload_n hx hb dX0_addTerm_20 rfl (lv_at hl 0 rfl) ?_
      refine lv_iload_n hx hb dX0_addTerm_21 rfl (lv_at hl 1 rfl) ?_
      refine lv_iload_n hx hb dX0_addTerm_22 rfl (lv_at hl 2 rfl) ?_
      refine lv_iload_n hx hb dX0_addTerm_23 rfl (lv_at hl 3 rfl) ?_
      refine lv_iconst (v := 0) hx hb dX0_addTerm_24 (by decide) ?_
      refine ig_calli (h := h) (As := [.int (nI Q), .int w0, .int t0, .int 0]) (rest := []) (C := RX0) (T := TX0) (N := 17) (ci := 0) (fs := FX a S) C0 hA I (metX0_add l D h a d S Q cq hQ hc eC ok w0 t0 0 (by obtain ⟨k, k1, k2⟩ := hw; exact ⟨k, by omega, k2⟩) (fun _ => ht) (fun z => absurd z hw3)) rfl rfl (lw_V q121 q123 qs6 q22 q124) 4 (by decide +kernel) rfl rfl ⟨by decide, by decide⟩ ⟨Nat.zero_le _, Nat.zero_le _⟩ rfl hl.1 (Nat.le_of_ble_eq_true rfl) dX0_addTerm_25 rfl (fun r4 S2 H locs hp5 I _ => ?_)
      exact ig_iret C0 hr hk I (Or.inr (Or.inr ⟨ht, Q, cq, hQ, rfl, hu, hc, eC, hp5⟩)) dX0_addTerm_28
    · skip
      refine lv_bipush (v := (-2)) hx hb dX0_addTerm_17 (by decide) ?_
      exact ig_iret C0 hr hk I (Or.inr (Or.inl ⟨hq, fun z => c14 (bI_0.mpr (bt_isT.mpr z)), rfl, rfl⟩)) dX0_addTerm_19
  · skip
    have hq : ¬ isQ S p0 := by
      rcases hp2.2 with q | q
      · exact q.2
      · exact absurd q.1 c5
    refine lv_iconst (v := (-1)) hx hb dX0_addTerm_8 (by decide) ?_
    exact ig_iret C0 hr hk I (Or.inl ⟨hq, rfl, rfl⟩) dX0_addTerm_9

set_option maxHeartbeats 4000000 in
set_option maxRecDepth 100000 in
/-- must(q, t) -/
theorem metX0_must (l : Launch) (D : va_G) (h : Nat) (a : Nat → Nat) (d : Nat → ClassId) (S : ST) (ok : okC S) (p0 t0 : Int32) : mi_ l D clX (WX h a d) (TYX d) yX0_must cX0_must 3 (some .int) (rmX 5 115) [.ref h, .int p0, .int t0] S (fun r S1 => termP S p0 0 t0 r S1) := by
  refine mi_of (by decide) (Nat.le_of_ble_eq_true rfl) ?_
  intro p e s m below meth c A ls C0 hr hk hA I hl
  have C0 : CallFix p m c cX0_must 3 s ([.ref h, .int p0, .int t0] : List Value).toArray lw_all RX0 := C0
  have hl : lv_has ls 3 [(0, .ref h), (1, .int p0), (2, .int t0)] := hl
  have hx := C0.1
  have hb := C0.2.1
  refine lv_aload_n hx hb dX0_must_0 rfl (lv_at hl 0 rfl) ?_
  refine lv_iload_n hx hb dX0_must_1 rfl (lv_at hl 1 rfl) ?_
  refine lv_iconst (v := 0) hx hb dX0_must_2 (by decide) ?_
  refine lv_iload_n hx hb dX0_must_3 rfl (lv_at hl 2 rfl) ?_
  refine ig_calli (h := h) (As := [.int p0, .int 0, .int t0]) (rest := []) (C := RX0) (T := TX0) (N := 17) (ci := 0) (fs := FX a S) C0 hA I (metX0_addTerm l D h a d S ok p0 0 t0 ⟨0, by omega, rfl⟩ (by decide)) rfl rfl (lw_V q110 q112 qs4 q22 q113) 3 (by decide +kernel) rfl rfl ⟨by decide, by decide⟩ ⟨Nat.zero_le _, Nat.zero_le _⟩ rfl hl.1 (Nat.le_of_ble_eq_true rfl) dX0_must_4 rfl (fun r1 S1 H locs hp2 I _ => ?_)
  exact ig_iret C0 hr hk I (hp2) dX0_must_7

set_option maxHeartbeats 4000000 in
set_option maxRecDepth 100000 in
/-- not(q, t) -/
theorem metX0_not (l : Launch) (D : va_G) (h : Nat) (a : Nat → Nat) (d : Nat → ClassId) (S : ST) (ok : okC S) (p0 t0 : Int32) : mi_ l D clX (WX h a d) (TYX d) yX0_not cX0_not 3 (some .int) (rmX 5 115) [.ref h, .int p0, .int t0] S (fun r S1 => termP S p0 1 t0 r S1) := by
  refine mi_of (by decide) (Nat.le_of_ble_eq_true rfl) ?_
  intro p e s m below meth c A ls C0 hr hk hA I hl
  have C0 : CallFix p m c cX0_not 3 s ([.ref h, .int p0, .int t0] : List Value).toArray lw_all RX0 := C0
  have hl : lv_has ls 3 [(0, .ref h), (1, .int p0), (2, .int t0)] := hl
  have hx := C0.1
  have hb := C0.2.1
  refine lv_aload_n hx hb dX0_not_0 rfl (lv_at hl 0 rfl) ?_
  refine lv_iload_n hx hb dX0_not_1 rfl (lv_at hl 1 rfl) ?_
  refine lv_iconst (v := 1) hx hb dX0_not_2 (by decide) ?_
  refine lv_iload_n hx hb dX0_not_3 rfl (lv_at hl 2 rfl) ?_
  refine ig_calli (h := h) (As := [.int p0, .int 1, .int t0]) (rest := []) (C := RX0) (T := TX0) (N := 17) (ci := 0) (fs := FX a S) C0 hA I (metX0_addTerm l D h a d S ok p0 1 t0 ⟨1, by omega, rfl⟩ (by decide)) rfl rfl (lw_V q110 q112 qs4 q22 q113) 3 (by decide +kernel) rfl rfl ⟨by decide, by decide⟩ ⟨Nat.zero_le _, Nat.zero_le _⟩ rfl hl.1 (Nat.le_of_ble_eq_true rfl) dX0_not_4 rfl (fun r1 S1 H locs hp2 I _ => ?_)
  exact ig_iret C0 hr hk I (hp2) dX0_not_7

set_option maxHeartbeats 4000000 in
set_option maxRecDepth 100000 in
/-- should(q, t) -/
theorem metX0_should (l : Launch) (D : va_G) (h : Nat) (a : Nat → Nat) (d : Nat → ClassId) (S : ST) (ok : okC S) (p0 t0 : Int32) : mi_ l D clX (WX h a d) (TYX d) yX0_should cX0_should 3 (some .int) (rmX 5 115) [.ref h, .int p0, .int t0] S (fun r S1 => termP S p0 2 t0 r S1) := by
  refine mi_of (by decide) (Nat.le_of_ble_eq_true rfl) ?_
  intro p e s m below meth c A ls C0 hr hk hA I hl
  have C0 : CallFix p m c cX0_should 3 s ([.ref h, .int p0, .int t0] : List Value).toArray lw_all RX0 := C0
  have hl : lv_has ls 3 [(0, .ref h), (1, .int p0), (2, .int t0)] := hl
  have hx := C0.1
  have hb := C0.2.1
  refine lv_aload_n hx hb dX0_should_0 rfl (lv_at hl 0 rfl) ?_
  refine lv_iload_n hx hb dX0_should_1 rfl (lv_at hl 1 rfl) ?_
  refine lv_iconst (v := 2) hx hb dX0_should_2 (by decide) ?_
  refine lv_iload_n hx hb dX0_should_3 rfl (lv_at hl 2 rfl) ?_
  refine ig_calli (h := h) (As := [.int p0, .int 2, .int t0]) (rest := []) (C := RX0) (T := TX0) (N := 17) (ci := 0) (fs := FX a S) C0 hA I (metX0_addTerm l D h a d S ok p0 2 t0 ⟨2, by omega, rfl⟩ (by decide)) rfl rfl (lw_V q110 q112 qs4 q22 q113) 3 (by decide +kernel) rfl rfl ⟨by decide, by decide⟩ ⟨Nat.zero_le _, Nat.zero_le _⟩ rfl hl.1 (Nat.le_of_ble_eq_true rfl) dX0_should_4 rfl (fun r1 S1 H locs hp2 I _ => ?_)
  exact ig_iret C0 hr hk I (hp2) dX0_should_7

set_option maxHeartbeats 4000000 in
set_option maxRecDepth 100000 in
/-- phrase(q, t, u) -/
theorem metX0_phrase (l : Launch) (D : va_G) (h : Nat) (a : Nat → Nat) (d : Nat → ClassId) (S : ST) (ok : okC S) (p0 t0 u0 : Int32) : mi_ l D clX (WX h a d) (TYX d) yX0_phrase cX0_phrase 4 (some .int) (rmX 4 92) [.ref h, .int p0, .int t0, .int u0] S (fun r S1 => phrP S p0 t0 u0 r S1) := by
  refine mi_of (by decide) (Nat.le_of_ble_eq_true rfl) ?_
  intro p e s m below meth c A ls C0 hr hk hA I hl
  have C0 : CallFix p m c cX0_phrase 4 s ([.ref h, .int p0, .int t0, .int u0] : List Value).toArray lw_all RX0 := C0
  have hl : lv_has ls 4 [(0, .ref h), (1, .int p0), (2, .int t0), (3, .int u0)] := hl
  have hx := C0.1
  have hb := C0.2.1
  refine lv_aload_n hx hb dX0_phrase_0 rfl (lv_at hl 0 rfl) ?_
  refine lv_iload_n hx hb dX0_phrase_1 rfl (lv_at hl 1 rfl) ?_
  refine ig_calli (h := h) (As := [.int p0]) (rest := []) (C := RX0) (T := TX0) (N := 17) (ci := 0) (fs := FX a S) C0 hA I (metX0_noQuery l D h a d S p0) rfl rfl (lw_V q114 q116 qs5 q22 q117) 1 (by decide +kernel) rfl rfl ⟨by decide, by decide⟩ ⟨Nat.zero_le _, Nat.zero_le _⟩ rfl hl.1 (Nat.le_of_ble_eq_true rfl) dX0_phrase_2 rfl (fun r1 S3 H locs hp2 I _ => ?_)
  rw [hp2.1] at I
  refine lv_if_eq (tgt := 10) hx hb dX0_phrase_5 (by decide) (fun c5 => ?_) (fun c5 => ?_)
  · skip
    have hq : isQ S p0 := by
      rcases hp2.2 with q | q
      · exact absurd (q.1.symm.trans c5) (by decide)
      · exact q.2
    refine lv_iload_n hx hb dX0_phrase_10 rfl (lv_at hl 2 rfl) ?_
    refine W.callR (r := bI (btB t0)) (W.runS (As := [.int t0]) (rest := []) C0 (metX0_badTerm l t0) (va_cwS 1 C0.2.2.2.2 (lw_S q118 q119 q22 q120) rfl rfl rfl (by decide +kernel) ⟨by decide, by decide⟩) preEq rfl rfl hl.1 rfl (lv_room (Nat.le_of_ble_eq_true rfl)) dX0_phrase_11 ⟨Nat.zero_le _, Nat.zero_le _⟩) ?_
    refine W.eq (g2 := F0 m 14 ls [.int (bI (btB t0))]) rfl ?_
    refine lv_if_ne (tgt := 24) hx hb dX0_phrase_14 (by decide) (fun c14 => ?_) (fun c14 => ?_)
    · skip
      refine lv_bipush (v := (-2)) hx hb dX0_phrase_24 (by decide) ?_
      exact ig_iret C0 hr hk I (Or.inr (Or.inl ⟨hq, fun z => c14 (bI_0.mpr (bt_isT.mpr z.1)), rfl, rfl⟩)) dX0_phrase_26
    · skip
      have ht : isT t0 := bt_isT.mp (bI_0.mp c14)
      refine lv_iload_n hx hb dX0_phrase_17 rfl (lv_at hl 3 rfl) ?_
      refine W.callR (r := bI (btB u0)) (W.runS (As := [.int u0]) (rest := []) C0 (metX0_badTerm l u0) (va_cwS 1 C0.2.2.2.2 (lw_S q118 q119 q22 q120) rfl rfl rfl (by decide +kernel) ⟨by decide, by decide⟩) preEq rfl rfl hl.1 rfl (lv_room (Nat.le_of_ble_eq_true rfl)) dX0_phrase_18 ⟨Nat.zero_le _, Nat.zero_le _⟩) ?_
      refine W.eq (g2 := F0 m 21 ls [.int (bI (btB u0))]) rfl ?_
      refine lv_if_eq (tgt := 27) hx hb dX0_phrase_21 (by decide) (fun c21 => ?_) (fun c21 => ?_)
      · skip
        have hu0 : isT u0 := bt_isT.mp (bI_0.mp c21)
        obtain ⟨Q, hQ, rfl, hu⟩ := hq
        obtain ⟨cq, hc, eC⟩ := ok.2.1 Q hQ
        refine lv_aload_n hx hb dX0_phrase_27 rfl (lv_at hl 0 rfl) ?_
        refine lv_iload_n hx hb dX0_phrase_28 rfl (lv_at hl 1 rfl) ?_
        refine lv_iconst (v := 3) hx hb dX0_phrase_29 (by decide) ?_
        refine lv_iload_n hx hb dX0_phrase_30 rfl (lv_at hl 2 rfl) ?_
        refine lv_iload_n hx hb dX0_phrase_31 rfl (lv_at hl 3 rfl) ?_
        refine ig_calli (h := h) (As := [.int (nI Q), .int 3, .int t0, .int u0]) (rest := []) (C := RX0) (T := TX0) (N := 17) (ci := 0) (fs := FX a S) C0 hA I (metX0_add l D h a d S Q cq hQ hc eC ok 3 t0 u0 ⟨3, by omega, rfl⟩ (fun _ => ht) (fun _ => hu0)) rfl rfl (lw_V q121 q123 qs6 q22 q124) 4 (by decide +kernel) rfl rfl ⟨by decide, by decide⟩ ⟨Nat.zero_le _, Nat.zero_le _⟩ rfl hl.1 (Nat.le_of_ble_eq_true rfl) dX0_phrase_32 rfl (fun r4 S2 H locs hp5 I _ => ?_)
        exact ig_iret C0 hr hk I (Or.inr (Or.inr ⟨ht, hu0, Q, cq, hQ, rfl, hu, hc, eC, hp5⟩)) dX0_phrase_35
      · skip
        refine lv_bipush (v := (-2)) hx hb dX0_phrase_24 (by decide) ?_
        exact ig_iret C0 hr hk I (Or.inr (Or.inl ⟨hq, fun z => c21 (bI_0.mpr (bt_isT.mpr z.2)), rfl, rfl⟩)) dX0_phrase_26
  · skip
    have hq : ¬ isQ S p0 := by
      rcases hp2.2 with q | q
      · exact q.2
      · exact absurd q.1 c5
    refine lv_iconst (v := (-1)) hx hb dX0_phrase_8 (by decide) ?_
    exact ig_iret C0 hr hk I (Or.inl ⟨hq, rfl, rfl⟩) dX0_phrase_9

set_option maxHeartbeats 4000000 in
set_option maxRecDepth 100000 in
/-- range(q, lo, hi) -/
theorem metX0_range (l : Launch) (D : va_G) (h : Nat) (a : Nat → Nat) (d : Nat → ClassId) (S : ST) (ok : okC S) (p0 t0 u0 : Int32) : mi_ l D clX (WX h a d) (TYX d) yX0_range cX0_range 4 (some .int) (rmX 4 92) [.ref h, .int p0, .int t0, .int u0] S (fun r S1 => rngP S p0 t0 u0 r S1) := by
  refine mi_of (by decide) (Nat.le_of_ble_eq_true rfl) ?_
  intro p e s m below meth c A ls C0 hr hk hA I hl
  have C0 : CallFix p m c cX0_range 4 s ([.ref h, .int p0, .int t0, .int u0] : List Value).toArray lw_all RX0 := C0
  have hl : lv_has ls 4 [(0, .ref h), (1, .int p0), (2, .int t0), (3, .int u0)] := hl
  have hx := C0.1
  have hb := C0.2.1
  refine lv_aload_n hx hb dX0_range_0 rfl (lv_at hl 0 rfl) ?_
  refine lv_iload_n hx hb dX0_range_1 rfl (lv_at hl 1 rfl) ?_
  refine ig_calli (h := h) (As := [.int p0]) (rest := []) (C := RX0) (T := TX0) (N := 17) (ci := 0) (fs := FX a S) C0 hA I (metX0_noQuery l D h a d S p0) rfl rfl (lw_V q114 q116 qs5 q22 q117) 1 (by decide +kernel) rfl rfl ⟨by decide, by decide⟩ ⟨Nat.zero_le _, Nat.zero_le _⟩ rfl hl.1 (Nat.le_of_ble_eq_true rfl) dX0_range_2 rfl (fun r1 S3 H locs hp2 I _ => ?_)
  rw [hp2.1] at I
  refine lv_if_eq (tgt := 10) hx hb dX0_range_5 (by decide) (fun c5 => ?_) (fun c5 => ?_)
  · skip
    have hq : isQ S p0 := by
      rcases hp2.2 with q | q
      · exact absurd (q.1.symm.trans c5) (by decide)
      · exact q.2
    obtain ⟨Q, hQ, rfl, hu⟩ := hq
    obtain ⟨cq, hc, eC⟩ := ok.2.1 Q hQ
    refine lv_aload_n hx hb dX0_range_10 rfl (lv_at hl 0 rfl) ?_
    refine lv_iload_n hx hb dX0_range_11 rfl (lv_at hl 1 rfl) ?_
    refine lv_iconst (v := 4) hx hb dX0_range_12 (by decide) ?_
    refine lv_iload_n hx hb dX0_range_13 rfl (lv_at hl 2 rfl) ?_
    refine lv_iload_n hx hb dX0_range_14 rfl (lv_at hl 3 rfl) ?_
    refine ig_calli (h := h) (As := [.int (nI Q), .int 4, .int t0, .int u0]) (rest := []) (C := RX0) (T := TX0) (N := 17) (ci := 0) (fs := FX a S) C0 hA I (metX0_add l D h a d S Q cq hQ hc eC ok 4 t0 u0 ⟨4, by omega, rfl⟩ (fun z => absurd rfl z) (fun z => absurd z (by decide))) rfl rfl (lw_V q121 q123 qs6 q22 q124) 4 (by decide +kernel) rfl rfl ⟨by decide, by decide⟩ ⟨Nat.zero_le _, Nat.zero_le _⟩ rfl hl.1 (Nat.le_of_ble_eq_true rfl) dX0_range_15 rfl (fun r4 S2 H locs hp5 I _ => ?_)
    exact ig_iret C0 hr hk I (Or.inr ⟨Q, cq, hQ, rfl, hu, hc, eC, hp5⟩) dX0_range_18
  · skip
    have hq : ¬ isQ S p0 := by
      rcases hp2.2 with q | q
      · exact q.2
      · exact absurd q.1 c5
    refine lv_iconst (v := (-1)) hx hb dX0_range_8 (by decide) ?_
    exact ig_iret C0 hr hk I (Or.inl ⟨hq, rfl, rfl⟩) dX0_range_9

set_option maxHeartbeats 4000000 in
set_option maxRecDepth 100000 in
/-- remove(q) -/
theorem metX0_remove (l : Launch) (D : va_G) (h : Nat) (a : Nat → Nat) (d : Nat → ClassId) (S : ST) (ok : okC S) (p0 : Int32) : mi_ l D clX (WX h a d) (TYX d) yX0_remove cX0_remove 4 (some .int) (rmX 3 66) [.ref h, .int p0] S (fun r S1 => remP S p0 r S1) := by
  refine mi_of (by decide) (Nat.le_of_ble_eq_true rfl) ?_
  intro p e s m below meth c A ls C0 hr hk hA I hl
  have C0 : CallFix p m c cX0_remove 4 s ([.ref h, .int p0] : List Value).toArray lw_all RX0 := C0
  have hl : lv_has ls 4 [(0, .ref h), (1, .int p0)] := hl
  have hx := C0.1
  have hb := C0.2.1
  refine lv_aload_n hx hb dX0_remove_0 rfl (lv_at hl 0 rfl) ?_
  refine lv_iload_n hx hb dX0_remove_1 rfl (lv_at hl 1 rfl) ?_
  refine ig_calli (h := h) (As := [.int p0]) (rest := []) (C := RX0) (T := TX0) (N := 17) (ci := 0) (fs := FX a S) C0 hA I (metX0_noQuery l D h a d S p0) rfl rfl (lw_V q114 q116 qs5 q22 q117) 1 (by decide +kernel) rfl rfl ⟨by decide, by decide⟩ ⟨Nat.zero_le _, Nat.zero_le _⟩ rfl hl.1 (Nat.le_of_ble_eq_true rfl) dX0_remove_2 rfl (fun r1 S3 H locs hp2 I _ => ?_)
  rw [hp2.1] at I
  refine lv_if_eq (tgt := 10) hx hb dX0_remove_5 (by decide) (fun c5 => ?_) (fun c5 => ?_)
  · skip
    have hq : isQ S p0 := by
      rcases hp2.2 with q | q
      · exact absurd (q.1.symm.trans c5) (by decide)
      · exact q.2
    obtain ⟨Q, hQ, rfl, hu⟩ := hq
    obtain ⟨cq, hc, eC⟩ := ok.2.1 Q hQ
    refine lv_aload_n hx hb dX0_remove_10 rfl (lv_at hl 0 rfl) ?_
    refine lv_iload_n hx hb dX0_remove_11 rfl (lv_at hl 1 rfl) ?_
    refine ig_callv (h := h) (As := [.int (nI Q)]) (rest := []) (C := RX0) (T := TX0) (N := 17) (ci := 0) (fs := FX a S) C0 hA I (metX0_unfile l D h a d S Q cq hQ hc eC ok) rfl rfl (lw_V q125 q127 qs7 q22 q128) 1 (by decide +kernel) rfl rfl ⟨by decide, by decide⟩ ⟨Nat.zero_le _, Nat.zero_le _⟩ rfl hl.1 (Nat.le_of_ble_eq_true rfl) dX0_remove_12 rfl (fun S1 H locs hp5 I _ => ?_)
    refine lv_aload_n hx hb dX0_remove_15 rfl (lv_at hl 0 rfl) ?_
    refine ig_get (C := RX0) (T := TX0) (N := 17) (ci := 0) (fs := FX a S1) (v := .ref (a 0)) C0 I in_X0 rfl rfl 0 (by decide) q32 rfl dX0_remove_16 ?_
    refine lv_iload_n hx hb dX0_remove_19 rfl (lv_at hl 1 rfl) ?_
    refine lv_iconst (v := 0) hx hb dX0_remove_20 (by decide) ?_
    refine ig_zast C0 I 0 1 0 (a := a 0) (n := 12) (cA := d 0) rfl rfl rfl Q rfl (by omega) (by decide) (va_up S1 0 (upd (S1 0) Q 0)) rfl dX0_remove_21 (fun H locs I => ?_)
    generalize eS6 : va_up S1 0 (upd (S1 0) Q 0) = S6 at I
    refine lv_iconst (v := 0) hx hb dX0_remove_22 (by decide) ?_
    refine lv_istore_n (lv' := [(2, .int 0), (0, .ref h), (1, .int (nI Q))]) hx hb dX0_remove_23 rfl hl (by decide) rfl (fun ls hl => ?_)
    refine lv_iconst (v := 0) hx hb dX0_remove_24 (by decide) ?_
    refine lv_istore_n (lv' := [(3, .int 0), (2, .int 0), (0, .ref h), (1, .int (nI Q))]) hx hb dX0_remove_25 rfl hl (by decide) rfl (fun ls hl => ?_)
    have loop : ∀ (n : Nat) (i : Nat), i ≤ 12 → 12 < i + n → ∀ (H : Heap) (locs : List Loc) (ls : Array Slot), ig_ D clX (WX h a d) (TYX d) A s S6 H locs → lv_has ls 4 [(3, .int (nI i)), (2, .int (nI (cntU (S6 0) i))), (0, .ref h), (1, .int (nI Q))] → W p l e (rmX 3 66) s m ([.ref h, .int (nI Q)] : List Value).toArray below meth c H locs 0 0 (MQ below (va_Qi (fun r S1 => remP S (nI Q) r S1) (bg_ D clX (WX h a d) (TYX d) A) A) ([.ref h, .int (nI Q)] : List Value).toArray s 0 0 A) (F0 m 26 ls []) := by
      intro n
      induction n with
      | zero =>
        intro i h1 h2
        exact absurd h2 (by omega)
      | succ n ih =>
        intro i h1 h2 H locs ls I hl
        refine lv_iload_n hx hb dX0_remove_26 rfl (lv_at hl 0 rfl) ?_
        refine lv_bipush (v := 12) hx hb dX0_remove_27 (by decide) ?_
        refine lv_icmp_ge (tgt := 50) hx hb dX0_remove_29 (by decide) (fun c29 => ?_) (fun c29 => ?_)
        · skip
          have hge : i = 12 := by
            have := (nI_leI (a := 12) (b := i) (by omega) (by omega)).mp c29
            omega
          subst hge
          refine lv_iload_n hx hb dX0_remove_50 rfl (lv_at hl 1 rfl) ?_
          exact ig_iret C0 hr hk I (Or.inr ⟨Q, hQ, rfl, hu, S1, hp5, eS6.symm, rfl⟩) dX0_remove_51
        · skip
          have hlt : i < 12 := by
            rcases Nat.lt_or_ge i 12 with q | q
            · exact q
            · exact absurd (nI_le q (by omega)) c29
          refine lv_aload_n hx hb dX0_remove_32 rfl (lv_at hl 2 rfl) ?_
          refine ig_get (C := RX0) (T := TX0) (N := 17) (ci := 0) (fs := FX a S6) (v := .ref (a 0)) C0 I in_X0 rfl rfl 0 (by decide) q32 rfl dX0_remove_33 ?_
          refine lv_iload_n hx hb dX0_remove_36 rfl (lv_at hl 0 rfl) ?_
          refine ig_zald C0 I 0 1 0 (a := a 0) (n := 12) (cA := d 0) rfl rfl i rfl (by omega) (by decide) dX0_remove_37 ?_
          refine lv_if_eq (tgt := 44) hx hb dX0_remove_38 (by decide) (fun c38 => ?_) (fun c38 => ?_)
          · skip
            have ec : cntU (S6 0) (i + 1) = cntU (S6 0) i := by show (if _ then _ else _) = _; rw [if_pos c38]
            rw [← ec] at hl
            refine lv_iinc (v := nI (i + 1)) (lv' := [(3, .int (nI (i + 1))), (2, .int (nI (cntU (S6 0) (i + 1)))), (0, .ref h), (1, .int (nI Q))]) hx hb dX0_remove_44 hl (k := 0) rfl (nI_1 i) (by decide) rfl (fun ls hl => ?_)
            refine lv_goto (tgt := 26) hx hb dX0_remove_47 (by decide) ?_
            exact ih (i + 1) (by omega) (by omega) _ _ _ I (lv_sub hl [0, 1, 2, 3] rfl)
          · skip
            have ec : cntU (S6 0) (i + 1) = cntU (S6 0) i + 1 := by show (if _ then _ else _) = _; rw [if_neg c38]
            refine lv_iinc (v := nI (cntU (S6 0) i + 1)) (lv' := [(2, .int (nI (cntU (S6 0) i + 1))), (3, .int (nI i)), (0, .ref h), (1, .int (nI Q))]) hx hb dX0_remove_41 hl (k := 1) rfl (nI_1 (cntU (S6 0) i)) (by decide) rfl (fun ls hl => ?_)
            rw [← ec] at hl
            refine lv_iinc (v := nI (i + 1)) (lv' := [(3, .int (nI (i + 1))), (2, .int (nI (cntU (S6 0) (i + 1)))), (0, .ref h), (1, .int (nI Q))]) hx hb dX0_remove_44 hl (k := 1) rfl (nI_1 i) (by decide) rfl (fun ls hl => ?_)
            refine lv_goto (tgt := 26) hx hb dX0_remove_47 (by decide) ?_
            exact ih (i + 1) (by omega) (by omega) _ _ _ I (lv_sub hl [0, 1, 2, 3] rfl)
    exact loop 13 0 (by omega) (by omega) _ _ _ I (lv_sub hl [0, 1, 2, 3] rfl)
  · skip
    have hq : ¬ isQ S p0 := by
      rcases hp2.2 with q | q
      · exact q.2
      · exact absurd q.1 c5
    refine lv_iconst (v := (-1)) hx hb dX0_remove_8 (by decide) ?_
    exact ig_iret C0 hr hk I (Or.inl ⟨hq, rfl, rfl⟩) dX0_remove_9
end
section
def wordP (S : ST) (L : Nat) (p r : Int32) (S' : ST) : Prop := (¬ isT p ∧ r = -2 ∧ S' = S) ∨ (isT p ∧ L = 16 ∧ r = -3 ∧ S' = S) ∨ (L < 16 ∧ r = nI (L + 1) ∧ ∃ t, t < 24 ∧ p = nI t ∧ (∀ k, k ≠ 9 → k ≠ 11 → k ≠ 12 → k ≠ 13 → S' k = S k) ∧ S' 9 0 = nI (L + 1) ∧ S' 11 0 = nI t ∧ S' 12 = upd (S 12) t (S 12 t + 1) ∧ ((S 11 0 = -1 ∧ S' 13 = S 13) ∨ ∃ u, u < 24 ∧ S 11 0 = nI u ∧ S' 13 = upd (S 13) u (st1 (S 13 u) t)))
def docP (S : ST) (p : Int32) (S' : ST) : Prop := (∀ k, k ≠ 9 → k ≠ 10 → k ≠ 11 → k ≠ 12 → k ≠ 13 → S' k = S k) ∧ S' 9 0 = 0 ∧ S' 10 0 = p ∧ S' 11 0 = -1 ∧ ∀ t, t < 24 → S' 12 t = 0 ∧ S' 13 t = 0

set_option maxHeartbeats 4000000 in
set_option maxRecDepth 100000 in
/-- word(t) -/
theorem metX0_word (l : Launch) (D : va_G) (h : Nat) (a : Nat → Nat) (d : Nat → ClassId) (S : ST) (L : Nat) (hL : L ≤ 16) (eL : S 9 0 = nI L) (hlw : S 11 0 = -1 ∨ ∃ u, u < 24 ∧ S 11 0 = nI u) (p0 : Int32) : mi_ l D clX (WX h a d) (TYX d) yX0_word cX0_word 2 (some .int) (rmX 1 20) [.ref h, .int p0] S (fun r S1 => wordP S L p0 r S1) := by
  refine mi_of (by decide) (Nat.le_of_ble_eq_true rfl) ?_
  intro p e s m below meth c A ls C0 hr hk hA I hl
  have C0 : CallFix p m c cX0_word 2 s ([.ref h, .int p0] : List Value).toArray lw_all RX0 := C0
  have hl : lv_has ls 2 [(0, .ref h), (1, .int p0)] := hl
  have hx := C0.1
  have hb := C0.2.1
  refine lv_iload_n hx hb dX0_word_0 rfl (lv_at hl 1 rfl) ?_
  refine W.callR (r := bI (btB p0)) (W.runS (As := [.int p0]) (rest := []) C0 (metX0_badTerm l p0) (va_cwS 1 C0.2.2.2.2 (lw_S q118 q119 q22 q120) rfl rfl rfl (by decide +kernel) ⟨by decide, by decide⟩) preEq rfl rfl hl.1 rfl (lv_room (Nat.le_of_ble_eq_true rfl)) dX0_word_1 ⟨Nat.zero_le _, Nat.zero_le _⟩) ?_
  refine W.eq (g2 := F0 m 4 ls [.int (bI (btB p0))]) rfl ?_
  refine lv_if_eq (tgt := 10) hx hb dX0_word_4 (by decide) (fun c4 => ?_) (fun c4 => ?_)
  · skip
    have ht0 : isT p0 := bt_isT.mp (bI_0.mp c4)
    refine lv_aload_n hx hb dX0_word_10 rfl (lv_at hl 0 rfl) ?_
    refine ig_get (C := RX0) (T := TX0) (N := 17) (ci := 0) (fs := FX a S) (v := .int (S 9 0)) C0 I in_X0 rfl rfl 9 (by decide) q41 rfl dX0_word_11 ?_
    refine lv_topi (fun v1 ev1 => ?_)
    obtain rfl : v1 = nI L := ev1.trans eL
    refine lv_bipush (v := 16) hx hb dX0_word_14 (by decide) ?_
    refine lv_icmp_lt (tgt := 22) hx hb dX0_word_16 (by decide) (fun c16 => ?_) (fun c16 => ?_)
    · skip
      have hlt : L < 16 := (nI_ltI (a := L) (b := 16) (by omega) (by omega)).mp c16
      obtain ⟨t, ht, rfl⟩ := ht0
      refine lv_aload_n hx hb dX0_word_22 rfl (lv_at hl 0 rfl) ?_
      refine ig_get (C := RX0) (T := TX0) (N := 17) (ci := 0) (fs := FX a S) (v := .ref (a 12)) C0 I in_X0 rfl rfl 12 (by decide) q44 rfl dX0_word_23 ?_
      refine lv_iload_n hx hb dX0_word_26 rfl (lv_at hl 1 rfl) ?_
      refine lv_dup2_11 hx hb dX0_word_27 rfl rfl ?_
      refine ig_ald C0 I 12 9 8 (a := a 12) (n := 24) (cA := d 12) rfl rfl t rfl (by omega) (by decide) dX0_word_28 ?_
      refine lv_iconst (v := 1) hx hb dX0_word_29 (by decide) ?_
      refine lv_iadd hx hb dX0_word_30 ?_
      refine ig_ast C0 I 12 9 8 (a := a 12) (n := 24) (cA := d 12) rfl rfl t rfl (by omega) (by decide) (va_up S 12 (upd (S 12) t ((S 12 t) + 1))) rfl dX0_word_31 (fun H locs I => ?_)
      generalize eS2 : va_up S 12 (upd (S 12) t ((S 12 t) + 1)) = S2 at I
      have l1 : S2 11 0 = S 11 0 := by rw [← eS2]; rfl
      refine lv_aload_n hx hb dX0_word_32 rfl (lv_at hl 0 rfl) ?_
      refine ig_get (C := RX0) (T := TX0) (N := 17) (ci := 0) (fs := FX a S2) (v := .int (S2 11 0)) C0 I in_X0 rfl rfl 11 (by decide) q43 rfl dX0_word_33 ?_
      refine lv_if_lt (tgt := 54) hx hb dX0_word_36 (by decide) (fun c36 => ?_) (fun c36 => ?_)
      · skip
        have hm : S 11 0 = -1 := by
          rcases hlw with q | ⟨u, hu, q⟩
          · exact q
          · exact absurd (by rw [← q, ← l1]; exact c36) (nI_pos (n := u) (by omega))
        refine lv_aload_n hx hb dX0_word_54 rfl (lv_at hl 0 rfl) ?_
        refine lv_iload_n hx hb dX0_word_55 rfl (lv_at hl 1 rfl) ?_
        refine ig_put (C := RX0) (T := TX0) (N := 17) (ci := 0) (fs := FX a S2) (v := (nI t)) C0 I in_X0 tyX0 tyX0_ok nmX0 rfl rfl 11 (by decide) q43 rfl (by decide +kernel) (Nat.le_of_ble_eq_true rfl) (va_up S2 11 (fun _ => (nI t))) rfl dX0_word_56 (fun H locs I => ?_)
        generalize eS3 : va_up S2 11 (fun _ => (nI t)) = S3 at I
        have w4 : S3 9 0 = nI L := by rw [← eS3, ← eS2]; exact eL
        refine lv_aload_n hx hb dX0_word_59 rfl (lv_at hl 0 rfl) ?_
        refine lv_dup hx hb dX0_word_60 rfl ?_
        refine ig_get (C := RX0) (T := TX0) (N := 17) (ci := 0) (fs := FX a S3) (v := .int (S3 9 0)) C0 I in_X0 rfl rfl 9 (by decide) q41 rfl dX0_word_61 ?_
        refine lv_topi (fun v4 ev4 => ?_)
        obtain rfl : v4 = nI L := ev4.trans w4
        refine lv_iconst (v := 1) hx hb dX0_word_64 (by decide) ?_
        refine lv_iadd hx hb dX0_word_65 ?_
        refine lv_topi (fun v5 ev5 => ?_)
        obtain rfl : v5 = nI (L + 1) := ev5.trans (nI_add L 1)
        refine ig_put (C := RX0) (T := TX0) (N := 17) (ci := 0) (fs := FX a S3) (v := (nI (L + 1))) C0 I in_X0 tyX0 tyX0_ok nmX0 rfl rfl 9 (by decide) q41 rfl (by decide +kernel) (Nat.le_of_ble_eq_true rfl) (va_up S3 9 (fun _ => (nI (L + 1)))) rfl dX0_word_66 (fun H locs I => ?_)
        generalize eS6 : va_up S3 9 (fun _ => (nI (L + 1))) = S6 at I
        have w5 : S6 9 0 = nI (L + 1) := by rw [← eS6]; rfl
        refine lv_aload_n hx hb dX0_word_69 rfl (lv_at hl 0 rfl) ?_
        refine ig_get (C := RX0) (T := TX0) (N := 17) (ci := 0) (fs := FX a S6) (v := .int (S6 9 0)) C0 I in_X0 rfl rfl 9 (by decide) q41 rfl dX0_word_70 ?_
        refine lv_topi (fun v7 ev7 => ?_)
        obtain rfl : v7 = nI (L + 1) := ev7.trans w5
        exact ig_iret C0 hr hk I (Or.inr (Or.inr ⟨hlt, rfl, t, ht, rfl, fun k a9 a11 a12 a13 => by rw [← eS6, ← eS3, ← eS2]; simp only [va_up, if_neg a9, if_neg a11, if_neg a12, if_neg a13], w5, by rw [← eS6, ← eS3]; rfl, by rw [← eS6, ← eS3, ← eS2]; rfl, Or.inl ⟨hm, by rw [← eS6, ← eS3, ← eS2]; rfl⟩⟩)) dX0_word_73
      · skip
        obtain ⟨u, hu, eu⟩ : ∃ u, u < 24 ∧ S 11 0 = nI u := by
          rcases hlw with q | q
          · exact absurd (by rw [l1, q]; decide) c36
          · exact q
        have l2 : S2 11 0 = nI u := l1.trans eu
        refine lv_aload_n hx hb dX0_word_39 rfl (lv_at hl 0 rfl) ?_
        refine ig_get (C := RX0) (T := TX0) (N := 17) (ci := 0) (fs := FX a S2) (v := .ref (a 13)) C0 I in_X0 rfl rfl 13 (by decide) q45 rfl dX0_word_40 ?_
        refine lv_aload_n hx hb dX0_word_43 rfl (lv_at hl 0 rfl) ?_
        refine ig_get (C := RX0) (T := TX0) (N := 17) (ci := 0) (fs := FX a S2) (v := .int (S2 11 0)) C0 I in_X0 rfl rfl 11 (by decide) q43 rfl dX0_word_44 ?_
        refine lv_dup2_11 hx hb dX0_word_47 rfl rfl ?_
        refine ig_ald C0 I 13 10 9 (a := a 13) (n := 24) (cA := d 13) rfl rfl u l2 hu (by decide) dX0_word_48 ?_
        refine lv_iconst (v := 1) hx hb dX0_word_49 (by decide) ?_
        refine lv_iload_n hx hb dX0_word_50 rfl (lv_at hl 1 rfl) ?_
        refine lv_ishl hx hb dX0_word_51 ?_
        refine lv_ior hx hb dX0_word_52 ?_
        refine ig_ast C0 I 13 10 9 (a := a 13) (n := 24) (cA := d 13) rfl rfl u l2 hu (by decide) (va_up S2 13 (upd (S2 13) u ((S2 13 u) ||| (1 <<< ((nI t) &&& 31))))) rfl dX0_word_53 (fun H locs I => ?_)
        generalize eS8 : va_up S2 13 (upd (S2 13) u ((S2 13 u) ||| (1 <<< ((nI t) &&& 31)))) = S8 at I
        refine lv_aload_n hx hb dX0_word_54 rfl (lv_at hl 0 rfl) ?_
        refine lv_iload_n hx hb dX0_word_55 rfl (lv_at hl 1 rfl) ?_
        refine ig_put (C := RX0) (T := TX0) (N := 17) (ci := 0) (fs := FX a S8) (v := (nI t)) C0 I in_X0 tyX0 tyX0_ok nmX0 rfl rfl 11 (by decide) q43 rfl (by decide +kernel) (Nat.le_of_ble_eq_true rfl) (va_up S8 11 (fun _ => (nI t))) rfl dX0_word_56 (fun H locs I => ?_)
        generalize eS9 : va_up S8 11 (fun _ => (nI t)) = S9 at I
        have w4 : S9 9 0 = nI L := by rw [← eS9, ← eS8, ← eS2]; exact eL
        refine lv_aload_n hx hb dX0_word_59 rfl (lv_at hl 0 rfl) ?_
        refine lv_dup hx hb dX0_word_60 rfl ?_
        refine ig_get (C := RX0) (T := TX0) (N := 17) (ci := 0) (fs := FX a S9) (v := .int (S9 9 0)) C0 I in_X0 rfl rfl 9 (by decide) q41 rfl dX0_word_61 ?_
        refine lv_topi (fun v10 ev10 => ?_)
        obtain rfl : v10 = nI L := ev10.trans w4
        refine lv_iconst (v := 1) hx hb dX0_word_64 (by decide) ?_
        refine lv_iadd hx hb dX0_word_65 ?_
        refine lv_topi (fun v11 ev11 => ?_)
        obtain rfl : v11 = nI (L + 1) := ev11.trans (nI_add L 1)
        refine ig_put (C := RX0) (T := TX0) (N := 17) (ci := 0) (fs := FX a S9) (v := (nI (L + 1))) C0 I in_X0 tyX0 tyX0_ok nmX0 rfl rfl 9 (by decide) q41 rfl (by decide +kernel) (Nat.le_of_ble_eq_true rfl) (va_up S9 9 (fun _ => (nI (L + 1)))) rfl dX0_word_66 (fun H locs I => ?_)
        generalize eS12 : va_up S9 9 (fun _ => (nI (L + 1))) = S12 at I
        have w5 : S12 9 0 = nI (L + 1) := by rw [← eS12]; rfl
        refine lv_aload_n hx hb dX0_word_69 rfl (lv_at hl 0 rfl) ?_
        refine ig_get (C := RX0) (T := TX0) (N := 17) (ci := 0) (fs := FX a S12) (v := .int (S12 9 0)) C0 I in_X0 rfl rfl 9 (by decide) q41 rfl dX0_word_70 ?_
        refine lv_topi (fun v13 ev13 => ?_)
        obtain rfl : v13 = nI (L + 1) := ev13.trans w5
        exact ig_iret C0 hr hk I (Or.inr (Or.inr ⟨hlt, rfl, t, ht, rfl, fun k a9 a11 a12 a13 => by rw [← eS12, ← eS9, ← eS8, ← eS2]; simp only [va_up, if_neg a9, if_neg a11, if_neg a12, if_neg a13], w5, by rw [← eS12, ← eS9]; rfl, by rw [← eS12, ← eS9, ← eS8, ← eS2]; rfl, Or.inr ⟨u, hu, eu, by rw [← eS12, ← eS9, ← eS8, ← eS2]; rfl⟩⟩)) dX0_word_73
    · skip
      have hge : L = 16 := by
        have : ¬ L < 16 := fun z => c16 (nI_lt (b := 16) z (by decide))
        omega
      refine lv_bipush (v := (-3)) hx hb dX0_word_19 (by decide) ?_
      exact ig_iret C0 hr hk I (Or.inr (Or.inl ⟨ht0, hge, rfl, rfl⟩)) dX0_word_21
  · skip
    refine lv_bipush (v := (-2)) hx hb dX0_word_7 (by decide) ?_
    exact ig_iret C0 hr hk I (Or.inl ⟨fun z => c4 (bI_0.mpr (bt_isT.mpr z)), rfl, rfl⟩) dX0_word_9

set_option maxHeartbeats 4000000 in
set_option maxRecDepth 100000 in
/-- document(number) -/
theorem metX0_document (l : Launch) (D : va_G) (h : Nat) (a : Nat → Nat) (d : Nat → ClassId) (S : ST) (p0 : Int32) : mv_ l D clX (WX h a d) (TYX d) yX0_document cX0_document 3 none (rmX 0 0) [.ref h, .int p0] S (fun S1 => docP S p0 S1) := by
  refine mv_of (by decide) (Nat.le_of_ble_eq_true rfl) ?_
  intro p e s m below meth c A ls C0 hr hk hA I hl
  have C0 : CallFix p m c cX0_document 3 s ([.ref h, .int p0] : List Value).toArray lw_all RX0 := C0
  have hl : lv_has ls 3 [(0, .ref h), (1, .int p0)] := hl
  have hx := C0.1
  have hb := C0.2.1
  refine lv_aload_n hx hb dX0_document_0 rfl (lv_at hl 0 rfl) ?_
  refine lv_iload_n hx hb dX0_document_1 rfl (lv_at hl 1 rfl) ?_
  refine ig_put (C := RX0) (T := TX0) (N := 17) (ci := 0) (fs := FX a S) (v := p0) C0 I in_X0 tyX0 tyX0_ok nmX0 rfl rfl 10 (by decide) q42 rfl (by decide +kernel) (Nat.le_of_ble_eq_true rfl) (va_up S 10 (fun _ => p0)) rfl dX0_document_2 (fun H locs I => ?_)
  generalize eS1 : va_up S 10 (fun _ => p0) = S1 at I
  refine lv_aload_n hx hb dX0_document_5 rfl (lv_at hl 0 rfl) ?_
  refine lv_iconst (v := 0) hx hb dX0_document_6 (by decide) ?_
  refine ig_put (C := RX0) (T := TX0) (N := 17) (ci := 0) (fs := FX a S1) (v := 0) C0 I in_X0 tyX0 tyX0_ok nmX0 rfl rfl 9 (by decide) q41 rfl (by decide +kernel) (Nat.le_of_ble_eq_true rfl) (va_up S1 9 (fun _ => 0)) rfl dX0_document_7 (fun H locs I => ?_)
  generalize eS2 : va_up S1 9 (fun _ => 0) = S2 at I
  refine lv_aload_n hx hb dX0_document_10 rfl (lv_at hl 0 rfl) ?_
  refine lv_iconst (v := (-1)) hx hb dX0_document_11 (by decide) ?_
  refine ig_put (C := RX0) (T := TX0) (N := 17) (ci := 0) (fs := FX a S2) (v := (-1)) C0 I in_X0 tyX0 tyX0_ok nmX0 rfl rfl 11 (by decide) q43 rfl (by decide +kernel) (Nat.le_of_ble_eq_true rfl) (va_up S2 11 (fun _ => (-1))) rfl dX0_document_12 (fun H locs I => ?_)
  generalize eS3 : va_up S2 11 (fun _ => (-1)) = S3 at I
  refine lv_iconst (v := 0) hx hb dX0_document_15 (by decide) ?_
  refine lv_istore_n (lv' := [(2, .int 0), (0, .ref h), (1, .int p0)]) hx hb dX0_document_16 rfl hl (by decide) rfl (fun ls hl => ?_)
  have loop : ∀ (n : Nat) (i : Nat) (Z : ST), i ≤ 24 → 24 < i + n → ((∀ k, k ≠ 9 → k ≠ 10 → k ≠ 11 → k ≠ 12 → k ≠ 13 → Z k = S k) ∧ Z 9 0 = 0 ∧ Z 10 0 = p0 ∧ Z 11 0 = -1 ∧ ∀ t, t < i → Z 12 t = 0 ∧ Z 13 t = 0) → ∀ (H : Heap) (locs : List Loc) (ls : Array Slot), ig_ D clX (WX h a d) (TYX d) A s Z H locs → lv_has ls 3 [(2, .int (nI i)), (0, .ref h), (1, .int p0)] → W p l e (rmX 0 0) s m ([.ref h, .int p0] : List Value).toArray below meth c H locs 0 0 (MQ below (va_Qv (fun S1 => docP S p0 S1) (bg_ D clX (WX h a d) (TYX d) A) A) ([.ref h, .int p0] : List Value).toArray s 0 0 A) (F0 m 17 ls []) := by
    intro n
    induction n with
    | zero =>
      intro i Z h1 h2 hv
      exact absurd h2 (by omega)
    | succ n ih =>
      intro i Z h1 h2 hv H locs ls I hl
      refine lv_iload_n hx hb dX0_document_17 rfl (lv_at hl 0 rfl) ?_
      refine lv_bipush (v := 24) hx hb dX0_document_18 (by decide) ?_
      refine lv_icmp_ge (tgt := 43) hx hb dX0_document_20 (by decide) (fun c20 => ?_) (fun c20 => ?_)
      · skip
        have hge : i = 24 := by
          have := (nI_leI (a := 24) (b := i) (by omega) (by omega)).mp c20
          omega
        exact ig_vret C0 hr hk I (⟨hv.1, hv.2.1, hv.2.2.1, hv.2.2.2.1, fun t ht => hv.2.2.2.2 t (by omega)⟩) dX0_document_43
      · skip
        have hlt : i < 24 := by
          rcases Nat.lt_or_ge i 24 with q | q
          · exact q
          · exact absurd (nI_le q (by omega)) c20
        refine lv_aload_n hx hb dX0_document_23 rfl (lv_at hl 1 rfl) ?_
        refine ig_get (C := RX0) (T := TX0) (N := 17) (ci := 0) (fs := FX a Z) (v := .ref (a 12)) C0 I in_X0 rfl rfl 12 (by decide) q44 rfl dX0_document_24 ?_
        refine lv_iload_n hx hb dX0_document_27 rfl (lv_at hl 0 rfl) ?_
        refine lv_iconst (v := 0) hx hb dX0_document_28 (by decide) ?_
        refine ig_ast C0 I 12 9 8 (a := a 12) (n := 24) (cA := d 12) rfl rfl i rfl (by omega) (by decide) (va_up Z 12 (upd (Z 12) i 0)) rfl dX0_document_29 (fun H locs I => ?_)
        generalize eS4 : va_up Z 12 (upd (Z 12) i 0) = S4 at I
        refine lv_aload_n hx hb dX0_document_30 rfl (lv_at hl 1 rfl) ?_
        refine ig_get (C := RX0) (T := TX0) (N := 17) (ci := 0) (fs := FX a S4) (v := .ref (a 13)) C0 I in_X0 rfl rfl 13 (by decide) q45 rfl dX0_document_31 ?_
        refine lv_iload_n hx hb dX0_document_34 rfl (lv_at hl 0 rfl) ?_
        refine lv_iconst (v := 0) hx hb dX0_document_35 (by decide) ?_
        refine ig_ast C0 I 13 10 9 (a := a 13) (n := 24) (cA := d 13) rfl rfl i rfl (by omega) (by decide) (va_up S4 13 (upd (S4 13) i 0)) rfl dX0_document_36 (fun H locs I => ?_)
        generalize eS5 : va_up S4 13 (upd (S4 13) i 0) = S5 at I
        refine lv_iinc (v := nI (i + 1)) (lv' := [(2, .int (nI (i + 1))), (0, .ref h), (1, .int p0)]) hx hb dX0_document_37 hl (k := 0) rfl (nI_1 i) (by decide) rfl (fun ls hl => ?_)
        refine lv_goto (tgt := 17) hx hb dX0_document_40 (by decide) ?_
        refine ih (i + 1) S5 (by omega) (by omega) ⟨fun k a9 a10 a11 a12 a13 => ?_, ?_, ?_, ?_, fun t ht => ?_⟩ _ _ _ I (lv_sub hl [0, 1, 2] rfl)
        · rw [← eS5, ← eS4, ← hv.1 k a9 a10 a11 a12 a13]
          simp only [va_up, if_neg a12, if_neg a13]
        · rw [← eS5, ← eS4]; exact hv.2.1
        · rw [← eS5, ← eS4]; exact hv.2.2.1
        · rw [← eS5, ← eS4]; exact hv.2.2.2.1
        · rw [← eS5, ← eS4]
          show upd (Z 12) i 0 t = 0 ∧ upd (Z 13) i 0 t = 0
          rcases Nat.lt_or_ge t i with q | q
          · rw [pk_un (by omega), pk_un (by omega)]; exact hv.2.2.2.2 t q
          · rw [show t = i by omega, pk_us, pk_us]; exact ⟨rfl, rfl⟩
  exact loop 25 0 S3 (by omega) (by omega) ⟨fun k a9 a10 a11 a12 a13 => by rw [← eS3, ← eS2, ← eS1]; simp only [va_up, if_neg a9, if_neg a10, if_neg a11], by rw [← eS3, ← eS2]; rfl, by rw [← eS3, ← eS2, ← eS1]; rfl, by rw [← eS3]; rfl, fun t ht => absurd ht (by omega)⟩ _ _ _ I (lv_sub hl [0, 1, 2] rfl)

set_option maxHeartbeats 4000000 in
set_option maxRecDepth 100000 in
/-- holds(i) -/
theorem metX0_holds (l : Launch) (D : va_G) (h : Nat) (a : Nat → Nat) (d : Nat → ClassId) (S : ST) (i : Nat) (hi : i < 72) (ok : okC S) : mi_ l D clX (WX h a d) (TYX d) yX0_holds cX0_holds 2 (some .boolean) (rmX 0 0) [.ref h, .int (nI i)] S (fun r S1 => S1 = S ∧ r = bI (hS S i)) := by
  refine mi_of (by decide) (Nat.le_of_ble_eq_true rfl) ?_
  intro p e s m below meth c A ls C0 hr hk hA I hl
  have C0 : CallFix p m c cX0_holds 2 s ([.ref h, .int (nI i)] : List Value).toArray lw_all RX0 := C0
  have hl : lv_has ls 2 [(0, .ref h), (1, .int (nI i))] := hl
  have hx := C0.1
  have hb := C0.2.1
  obtain ⟨k, hk4, ek⟩ := ok.2.2.1 i hi
  refine lv_aload_n hx hb dX0_holds_0 rfl (lv_at hl 0 rfl) ?_
  refine ig_get (C := RX0) (T := TX0) (N := 17) (ci := 0) (fs := FX a S) (v := .ref (a 3)) C0 I in_X0 rfl rfl 3 (by decide) q35 rfl dX0_holds_1 ?_
  refine lv_iload_n hx hb dX0_holds_4 rfl (lv_at hl 1 rfl) ?_
  refine ig_ald C0 I 3 4 3 (a := a 3) (n := 72) (cA := d 3) rfl rfl i rfl (by omega) (by decide) dX0_holds_5 ?_
  refine lv_topi (fun v1 ev1 => ?_)
  obtain rfl : v1 = nI k := ev1.trans ek
  rcases (show k = 0 ∨ k = 1 ∨ k = 2 ∨ k = 3 ∨ k = 4 by omega) with rfl | rfl | rfl | rfl | rfl
  · skip
    refine lv_tableIn (off := 34) (tgt := 40) hx hb dX0_holds_6 (by decide) (by decide) rfl (by decide) ?_
    obtain ⟨t, ht, et⟩ := ok.2.2.2.1 i hi (by rw [ek]; decide)
    have e3 : S 3 i = 0 := ek
    refine lv_aload_n hx hb dX0_holds_40 rfl (lv_at hl 0 rfl) ?_
    refine ig_get (C := RX0) (T := TX0) (N := 17) (ci := 0) (fs := FX a S) (v := .ref (a 12)) C0 I in_X0 rfl rfl 12 (by decide) q44 rfl dX0_holds_41 ?_
    refine lv_aload_n hx hb dX0_holds_44 rfl (lv_at hl 0 rfl) ?_
    refine ig_get (C := RX0) (T := TX0) (N := 17) (ci := 0) (fs := FX a S) (v := .ref (a 4)) C0 I in_X0 rfl rfl 4 (by decide) q36 rfl dX0_holds_45 ?_
    refine lv_iload_n hx hb dX0_holds_48 rfl (lv_at hl 1 rfl) ?_
    refine ig_ald C0 I 4 5 4 (a := a 4) (n := 72) (cA := d 4) rfl rfl i rfl (by omega) (by decide) dX0_holds_49 ?_
    refine ig_ald C0 I 12 9 8 (a := a 12) (n := 24) (cA := d 12) rfl rfl t et ht (by decide) dX0_holds_50 ?_
    refine lv_if_le (tgt := 58) hx hb dX0_holds_51 (by decide) (fun c51 => ?_) (fun c51 => ?_)
    · skip
      refine lv_iconst (v := 0) hx hb dX0_holds_58 (by decide) ?_
      exact ig_zret C0 hr hk I rfl (⟨rfl, by rw [hS, hG_0 e3, cnS_n _ et ht, decide_eq_false (Int32.not_lt.mpr c51)]; rfl⟩) dX0_holds_59
    · skip
      refine lv_iconst (v := 1) hx hb dX0_holds_54 (by decide) ?_
      refine lv_goto (tgt := 59) hx hb dX0_holds_55 (by decide) ?_
      exact ig_zret C0 hr hk I rfl (⟨rfl, by rw [hS, hG_0 e3, cnS_n _ et ht, decide_eq_true (Int32.not_le.mp c51)]; rfl⟩) dX0_holds_59
  · skip
    refine lv_tableIn (off := 54) (tgt := 60) hx hb dX0_holds_6 (by decide) (by decide) rfl (by decide) ?_
    obtain ⟨t, ht, et⟩ := ok.2.2.2.1 i hi (by rw [ek]; decide)
    have e3 : S 3 i = 1 := ek
    refine lv_aload_n hx hb dX0_holds_60 rfl (lv_at hl 0 rfl) ?_
    refine ig_get (C := RX0) (T := TX0) (N := 17) (ci := 0) (fs := FX a S) (v := .ref (a 12)) C0 I in_X0 rfl rfl 12 (by decide) q44 rfl dX0_holds_61 ?_
    refine lv_aload_n hx hb dX0_holds_64 rfl (lv_at hl 0 rfl) ?_
    refine ig_get (C := RX0) (T := TX0) (N := 17) (ci := 0) (fs := FX a S) (v := .ref (a 4)) C0 I in_X0 rfl rfl 4 (by decide) q36 rfl dX0_holds_65 ?_
    refine lv_iload_n hx hb dX0_holds_68 rfl (lv_at hl 1 rfl) ?_
    refine ig_ald C0 I 4 5 4 (a := a 4) (n := 72) (cA := d 4) rfl rfl i rfl (by omega) (by decide) dX0_holds_69 ?_
    refine ig_ald C0 I 12 9 8 (a := a 12) (n := 24) (cA := d 12) rfl rfl t et ht (by decide) dX0_holds_70 ?_
    refine lv_if_ne (tgt := 78) hx hb dX0_holds_71 (by decide) (fun c71 => ?_) (fun c71 => ?_)
    · skip
      refine lv_iconst (v := 0) hx hb dX0_holds_78 (by decide) ?_
      exact ig_zret C0 hr hk I rfl (⟨rfl, by rw [hS, hG_1 e3, cnS_n _ et ht, decide_eq_false c71]; rfl⟩) dX0_holds_79
    · skip
      refine lv_iconst (v := 1) hx hb dX0_holds_74 (by decide) ?_
      refine lv_goto (tgt := 79) hx hb dX0_holds_75 (by decide) ?_
      exact ig_zret C0 hr hk I rfl (⟨rfl, by rw [hS, hG_1 e3, cnS_n _ et ht, decide_eq_true c71]; rfl⟩) dX0_holds_79
  · skip
    refine lv_tableIn (off := 136) (tgt := 142) hx hb dX0_holds_6 (by decide) (by decide) rfl (by decide) ?_
    have e3 : S 3 i = 2 := ek
    refine lv_iconst (v := 1) hx hb dX0_holds_142 (by decide) ?_
    exact ig_zret C0 hr hk I rfl (⟨rfl, by rw [hS, hG_2 e3]; rfl⟩) dX0_holds_143
  · skip
    refine lv_tableIn (off := 74) (tgt := 80) hx hb dX0_holds_6 (by decide) (by decide) rfl (by decide) ?_
    obtain ⟨t, ht, et⟩ := ok.2.2.2.1 i hi (by rw [ek]; decide)
    have e3 : S 3 i = 3 := ek
    refine lv_aload_n hx hb dX0_holds_80 rfl (lv_at hl 0 rfl) ?_
    refine ig_get (C := RX0) (T := TX0) (N := 17) (ci := 0) (fs := FX a S) (v := .ref (a 13)) C0 I in_X0 rfl rfl 13 (by decide) q45 rfl dX0_holds_81 ?_
    refine lv_aload_n hx hb dX0_holds_84 rfl (lv_at hl 0 rfl) ?_
    refine ig_get (C := RX0) (T := TX0) (N := 17) (ci := 0) (fs := FX a S) (v := .ref (a 4)) C0 I in_X0 rfl rfl 4 (by decide) q36 rfl dX0_holds_85 ?_
    refine lv_iload_n hx hb dX0_holds_88 rfl (lv_at hl 1 rfl) ?_
    refine ig_ald C0 I 4 5 4 (a := a 4) (n := 72) (cA := d 4) rfl rfl i rfl (by omega) (by decide) dX0_holds_89 ?_
    refine ig_ald C0 I 13 10 9 (a := a 13) (n := 24) (cA := d 13) rfl rfl t et ht (by decide) dX0_holds_90 ?_
    refine lv_aload_n hx hb dX0_holds_91 rfl (lv_at hl 0 rfl) ?_
    refine ig_get (C := RX0) (T := TX0) (N := 17) (ci := 0) (fs := FX a S) (v := .ref (a 5)) C0 I in_X0 rfl rfl 5 (by decide) q37 rfl dX0_holds_92 ?_
    refine lv_iload_n hx hb dX0_holds_95 rfl (lv_at hl 1 rfl) ?_
    refine ig_ald C0 I 5 6 5 (a := a 5) (n := 72) (cA := d 5) rfl rfl i rfl (by omega) (by decide) dX0_holds_96 ?_
    refine lv_ishr hx hb dX0_holds_97 ?_
    refine lv_iconst (v := 1) hx hb dX0_holds_98 (by decide) ?_
    refine lv_iand hx hb dX0_holds_99 ?_
    refine lv_iconst (v := 1) hx hb dX0_holds_100 (by decide) ?_
    refine lv_icmp_ne (tgt := 108) hx hb dX0_holds_101 (by decide) (fun c101 => ?_) (fun c101 => ?_)
    · skip
      refine lv_iconst (v := 0) hx hb dX0_holds_108 (by decide) ?_
      exact ig_zret C0 hr hk I rfl (⟨rfl, by rw [hS, hG_3 e3, bsS, et, nI_clamp (by omega), decide_eq_false c101]; rfl⟩) dX0_holds_109
    · skip
      refine lv_iconst (v := 1) hx hb dX0_holds_104 (by decide) ?_
      refine lv_goto (tgt := 109) hx hb dX0_holds_105 (by decide) ?_
      exact ig_zret C0 hr hk I rfl (⟨rfl, by rw [hS, hG_3 e3, bsS, et, nI_clamp (by omega), decide_eq_true c101]; rfl⟩) dX0_holds_109
  · skip
    refine lv_tableIn (off := 104) (tgt := 110) hx hb dX0_holds_6 (by decide) (by decide) rfl (by decide) ?_
    have e3 : S 3 i = 4 := ek
    refine lv_aload_n hx hb dX0_holds_110 rfl (lv_at hl 0 rfl) ?_
    refine ig_get (C := RX0) (T := TX0) (N := 17) (ci := 0) (fs := FX a S) (v := .ref (a 4)) C0 I in_X0 rfl rfl 4 (by decide) q36 rfl dX0_holds_111 ?_
    refine lv_iload_n hx hb dX0_holds_114 rfl (lv_at hl 1 rfl) ?_
    refine ig_ald C0 I 4 5 4 (a := a 4) (n := 72) (cA := d 4) rfl rfl i rfl (by omega) (by decide) dX0_holds_115 ?_
    refine lv_aload_n hx hb dX0_holds_116 rfl (lv_at hl 0 rfl) ?_
    refine ig_get (C := RX0) (T := TX0) (N := 17) (ci := 0) (fs := FX a S) (v := .int (S 10 0)) C0 I in_X0 rfl rfl 10 (by decide) q42 rfl dX0_holds_117 ?_
    refine lv_icmp_gt (tgt := 140) hx hb dX0_holds_120 (by decide) (fun c120 => ?_) (fun c120 => ?_)
    · skip
      refine lv_iconst (v := 0) hx hb dX0_holds_140 (by decide) ?_
      exact ig_zret C0 hr hk I rfl (⟨rfl, by rw [hS, hG_4 e3, decide_eq_false (Int32.not_le.mpr c120)]; rfl⟩) dX0_holds_141
    · skip
      refine lv_aload_n hx hb dX0_holds_123 rfl (lv_at hl 0 rfl) ?_
      refine ig_get (C := RX0) (T := TX0) (N := 17) (ci := 0) (fs := FX a S) (v := .int (S 10 0)) C0 I in_X0 rfl rfl 10 (by decide) q42 rfl dX0_holds_124 ?_
      refine lv_aload_n hx hb dX0_holds_127 rfl (lv_at hl 0 rfl) ?_
      refine ig_get (C := RX0) (T := TX0) (N := 17) (ci := 0) (fs := FX a S) (v := .ref (a 5)) C0 I in_X0 rfl rfl 5 (by decide) q37 rfl dX0_holds_128 ?_
      refine lv_iload_n hx hb dX0_holds_131 rfl (lv_at hl 1 rfl) ?_
      refine ig_ald C0 I 5 6 5 (a := a 5) (n := 72) (cA := d 5) rfl rfl i rfl (by omega) (by decide) dX0_holds_132 ?_
      refine lv_icmp_gt (tgt := 140) hx hb dX0_holds_133 (by decide) (fun c133 => ?_) (fun c133 => ?_)
      · skip
        refine lv_iconst (v := 0) hx hb dX0_holds_140 (by decide) ?_
        exact ig_zret C0 hr hk I rfl (⟨rfl, by rw [hS, hG_4 e3, decide_eq_false (Int32.not_le.mpr c133), Bool.and_false]; rfl⟩) dX0_holds_141
      · skip
        refine lv_iconst (v := 1) hx hb dX0_holds_136 (by decide) ?_
        refine lv_goto (tgt := 141) hx hb dX0_holds_137 (by decide) ?_
        exact ig_zret C0 hr hk I rfl (⟨rfl, by rw [hS, hG_4 e3, decide_eq_true (Int32.not_lt.mp c120), decide_eq_true (Int32.not_lt.mp c133)]; rfl⟩) dX0_holds_141

set_option maxHeartbeats 4000000 in
set_option maxRecDepth 100000 in
/-- check(q) -/
theorem metX0_check (l : Launch) (D : va_G) (h : Nat) (a : Nat → Nat) (d : Nat → ClassId) (S : ST) (Q cq : Nat) (hQ : Q < 12) (hc : cq ≤ 6) (eC : S 2 Q = nI cq) (ok : okC S) : mi_ l D clX (WX h a d) (TYX d) yX0_check cX0_check 5 (some .boolean) (rmX 1 21) [.ref h, .int (nI Q)] S (fun r S1 => S1 = S ∧ r = bI (ckS S Q cq)) := by
  refine mi_of (by decide) (Nat.le_of_ble_eq_true rfl) ?_
  intro p e s m below meth c A ls C0 hr hk hA I hl
  have C0 : CallFix p m c cX0_check 5 s ([.ref h, .int (nI Q)] : List Value).toArray lw_all RX0 := C0
  have hl : lv_has ls 5 [(0, .ref h), (1, .int (nI Q))] := hl
  have hx := C0.1
  have hb := C0.2.1
  refine lv_iconst (v := 0) hx hb dX0_check_0 (by decide) ?_
  refine lv_istore_n (lv' := [(2, .int 0), (0, .ref h), (1, .int (nI Q))]) hx hb dX0_check_1 rfl hl (by decide) rfl (fun ls hl => ?_)
  refine lv_iload_n hx hb dX0_check_2 rfl (lv_at hl 2 rfl) ?_
  refine lv_bipush (v := 6) hx hb dX0_check_3 (by decide) ?_
  refine lv_imul hx hb dX0_check_5 ?_
  refine lv_topi (fun v1 ev1 => ?_)
  obtain rfl : v1 = nI (Q * 6) := ev1.trans (pk_mul Q 6)
  refine lv_istore_n (lv' := [(3, .int (nI (Q * 6))), (2, .int 0), (0, .ref h), (1, .int (nI Q))]) hx hb dX0_check_6 rfl hl (by decide) rfl (fun ls hl => ?_)
  have loop : ∀ (n : Nat) (i : Nat) (k : Nat) (b : Int32), Q * 6 ≤ i → i + k = Q * 6 + cq → k < n → ckG (S 3) (S 4) (S 5) (cnS (S 12)) (bsS (S 13)) (S 10 0) (S 1 Q) k i b = ckS S Q cq → ∀ (H : Heap) (locs : List Loc) (ls : Array Slot), ig_ D clX (WX h a d) (TYX d) A s S H locs → lv_has ls 5 [(3, .int (nI i)), (2, .int b), (0, .ref h), (1, .int (nI Q))] → W p l e (rmX 1 21) s m ([.ref h, .int (nI Q)] : List Value).toArray below meth c H locs 0 0 (MQ below (va_Qi (fun r S1 => S1 = S ∧ r = bI (ckS S Q cq)) (bg_ D clX (WX h a d) (TYX d) A) A) ([.ref h, .int (nI Q)] : List Value).toArray s 0 0 A) (F0 m 7 ls []) := by
    intro n
    induction n with
    | zero =>
      intro i k b h0 h1 h2 hv
      exact absurd h2 (by omega)
    | succ n ih =>
      intro i k b h0 h1 h2 hv H locs ls I hl
      refine lv_iload_n hx hb dX0_check_7 rfl (lv_at hl 0 rfl) ?_
      refine lv_iload_n hx hb dX0_check_8 rfl (lv_at hl 3 rfl) ?_
      refine lv_bipush (v := 6) hx hb dX0_check_9 (by decide) ?_
      refine lv_imul hx hb dX0_check_11 ?_
      refine lv_topi (fun v2 ev2 => ?_)
      obtain rfl : v2 = nI (Q * 6) := ev2.trans (pk_mul Q 6)
      refine lv_aload_n hx hb dX0_check_12 rfl (lv_at hl 2 rfl) ?_
      refine ig_get (C := RX0) (T := TX0) (N := 17) (ci := 0) (fs := FX a S) (v := .ref (a 2)) C0 I in_X0 rfl rfl 2 (by decide) q34 rfl dX0_check_13 ?_
      refine lv_iload_n hx hb dX0_check_16 rfl (lv_at hl 3 rfl) ?_
      refine ig_ald C0 I 2 3 2 (a := a 2) (n := 12) (cA := d 2) rfl rfl Q rfl (by omega) (by decide) dX0_check_17 ?_
      refine lv_topi (fun v3 ev3 => ?_)
      obtain rfl : v3 = nI cq := ev3.trans eC
      refine lv_iadd hx hb dX0_check_18 ?_
      refine lv_topi (fun v4 ev4 => ?_)
      obtain rfl : v4 = nI (Q * 6 + cq) := ev4.trans (nI_add (Q * 6) cq)
      refine lv_icmp_ge (tgt := 69) hx hb dX0_check_19 (by decide) (fun c19 => ?_) (fun c19 => ?_)
      · skip
        have hge : k = 0 := by
          have := (nI_leI (a := Q * 6 + cq) (b := i) (by omega) (by omega)).mp c19
          omega
        subst hge
        refine lv_iload_n hx hb dX0_check_69 rfl (lv_at hl 1 rfl) ?_
        refine lv_aload_n hx hb dX0_check_70 rfl (lv_at hl 2 rfl) ?_
        refine ig_get (C := RX0) (T := TX0) (N := 17) (ci := 0) (fs := FX a S) (v := .ref (a 1)) C0 I in_X0 rfl rfl 1 (by decide) q33 rfl dX0_check_71 ?_
        refine lv_iload_n hx hb dX0_check_74 rfl (lv_at hl 3 rfl) ?_
        refine ig_ald C0 I 1 2 1 (a := a 1) (n := 12) (cA := d 1) rfl rfl Q rfl (by omega) (by decide) dX0_check_75 ?_
        refine lv_icmp_lt (tgt := 83) hx hb dX0_check_76 (by decide) (fun c76 => ?_) (fun c76 => ?_)
        · skip
          refine lv_iconst (v := 0) hx hb dX0_check_83 (by decide) ?_
          exact ig_zret C0 hr hk I rfl (⟨rfl, by rw [← hv, ckG, decide_eq_false (Int32.not_le.mpr c76)]; rfl⟩) dX0_check_84
        · skip
          refine lv_iconst (v := 1) hx hb dX0_check_79 (by decide) ?_
          refine lv_goto (tgt := 84) hx hb dX0_check_80 (by decide) ?_
          exact ig_zret C0 hr hk I rfl (⟨rfl, by rw [← hv, ckG, decide_eq_true (Int32.not_lt.mp c76)]; rfl⟩) dX0_check_84
      · skip
        have hlt : i < Q * 6 + cq := by
          rcases Nat.lt_or_ge i (Q * 6 + cq) with q | q
          · exact q
          · exact absurd (nI_le q (by omega)) c19
        obtain ⟨k, rfl⟩ : ∃ z, k = z + 1 := ⟨k - 1, by omega⟩
        refine lv_aload_n hx hb dX0_check_22 rfl (lv_at hl 2 rfl) ?_
        refine lv_iload_n hx hb dX0_check_23 rfl (lv_at hl 0 rfl) ?_
        refine ig_calli (h := h) (As := [.int (nI i)]) (rest := []) (C := RX0) (T := TX0) (N := 17) (ci := 0) (fs := FX a S) C0 hA I (metX0_holds l D h a d S i (by omega) ok) rfl rfl (lw_V q169 q171 qs10 q22 q172) 1 (by decide +kernel) rfl rfl ⟨by decide, by decide⟩ ⟨Nat.zero_le _, Nat.zero_le _⟩ rfl hl.1 (Nat.le_of_ble_eq_true rfl) dX0_check_24 rfl (fun r5 S7 H locs hp6 I _ => ?_)
        rw [hp6.1] at I
        refine lv_istore (lv' := [(4, .int r5), (3, .int (nI i)), (2, .int b), (0, .ref h), (1, .int (nI Q))]) hx hb dX0_check_27 hl (by decide) rfl (fun ls hl => ?_)
        refine lv_iload hx hb dX0_check_29 (lv_at hl 0 rfl) ?_
        refine lv_if_ne (tgt := 36) hx hb dX0_check_31 (by decide) (fun c31 => ?_) (fun c31 => ?_)
        · skip
          have hg : hS S i = true := bI_n0 (by rw [← hp6.2]; exact c31)
          refine lv_aload_n hx hb dX0_check_36 rfl (lv_at hl 3 rfl) ?_
          refine ig_get (C := RX0) (T := TX0) (N := 17) (ci := 0) (fs := FX a S) (v := .ref (a 3)) C0 I in_X0 rfl rfl 3 (by decide) q35 rfl dX0_check_37 ?_
          refine lv_iload_n hx hb dX0_check_40 rfl (lv_at hl 1 rfl) ?_
          refine ig_ald C0 I 3 4 3 (a := a 3) (n := 72) (cA := d 3) rfl rfl i rfl (by omega) (by decide) dX0_check_41 ?_
          refine lv_iconst (v := 2) hx hb dX0_check_42 (by decide) ?_
          refine lv_icmp_ne (tgt := 63) hx hb dX0_check_43 (by decide) (fun c43 => ?_) (fun c43 => ?_)
          · skip
            refine lv_iinc (v := nI (i + 1)) (lv' := [(3, .int (nI (i + 1))), (4, .int r5), (2, .int b), (0, .ref h), (1, .int (nI Q))]) hx hb dX0_check_63 hl (k := 1) rfl (nI_1 i) (by decide) rfl (fun ls hl => ?_)
            refine lv_goto (tgt := 7) hx hb dX0_check_66 (by decide) ?_
            exact ih (i + 1) k b (by omega) (by omega) (by omega) (by rw [← hv, ck_n2 c43 hg]) _ _ _ I (lv_sub hl [0, 2, 3, 4] rfl)
          · skip
            obtain ⟨t, ht, et⟩ := ok.2.2.2.1 i (by omega) (by rw [c43]; decide)
            refine lv_aload_n hx hb dX0_check_46 rfl (lv_at hl 3 rfl) ?_
            refine ig_get (C := RX0) (T := TX0) (N := 17) (ci := 0) (fs := FX a S) (v := .ref (a 12)) C0 I in_X0 rfl rfl 12 (by decide) q44 rfl dX0_check_47 ?_
            refine lv_aload_n hx hb dX0_check_50 rfl (lv_at hl 3 rfl) ?_
            refine ig_get (C := RX0) (T := TX0) (N := 17) (ci := 0) (fs := FX a S) (v := .ref (a 4)) C0 I in_X0 rfl rfl 4 (by decide) q36 rfl dX0_check_51 ?_
            refine lv_iload_n hx hb dX0_check_54 rfl (lv_at hl 1 rfl) ?_
            refine ig_ald C0 I 4 5 4 (a := a 4) (n := 72) (cA := d 4) rfl rfl i rfl (by omega) (by decide) dX0_check_55 ?_
            refine ig_ald C0 I 12 9 8 (a := a 12) (n := 24) (cA := d 12) rfl rfl t et ht (by decide) dX0_check_56 ?_
            refine lv_if_le (tgt := 63) hx hb dX0_check_57 (by decide) (fun c57 => ?_) (fun c57 => ?_)
            · skip
              refine lv_iinc (v := nI (i + 1)) (lv' := [(3, .int (nI (i + 1))), (4, .int r5), (2, .int b), (0, .ref h), (1, .int (nI Q))]) hx hb dX0_check_63 hl (k := 1) rfl (nI_1 i) (by decide) rfl (fun ls hl => ?_)
              refine lv_goto (tgt := 7) hx hb dX0_check_66 (by decide) ?_
              exact ih (i + 1) k b (by omega) (by omega) (by omega) (by rw [← hv, ck_2 c43, cnS_n _ et ht, if_neg (Int32.not_lt.mpr c57)]) _ _ _ I (lv_sub hl [0, 2, 3, 4] rfl)
            · skip
              refine lv_iinc (v := b + 1) (lv' := [(2, .int (b + 1)), (4, .int r5), (3, .int (nI i)), (0, .ref h), (1, .int (nI Q))]) hx hb dX0_check_60 hl (k := 2) rfl rfl (by decide) rfl (fun ls hl => ?_)
              refine lv_iinc (v := nI (i + 1)) (lv' := [(3, .int (nI (i + 1))), (2, .int (b + 1)), (4, .int r5), (0, .ref h), (1, .int (nI Q))]) hx hb dX0_check_63 hl (k := 2) rfl (nI_1 i) (by decide) rfl (fun ls hl => ?_)
              refine lv_goto (tgt := 7) hx hb dX0_check_66 (by decide) ?_
              exact ih (i + 1) k (b + 1) (by omega) (by omega) (by omega) (by rw [← hv, ck_2 c43, cnS_n _ et ht, if_pos (Int32.not_le.mp c57)]) _ _ _ I (lv_sub hl [0, 1, 3, 4] rfl)
        · skip
          have hg : hS S i = false := bI_0.mp (by rw [← hp6.2]; exact c31)
          refine lv_iconst (v := 0) hx hb dX0_check_34 (by decide) ?_
          exact ig_zret C0 hr hk I rfl (⟨rfl, by rw [← hv, ck_no hg]; rfl⟩) dX0_check_35
  exact loop (cq + 1) (Q * 6) cq 0 (Nat.le_refl _) rfl (by omega) rfl _ _ _ I (lv_sub hl [0, 1, 2, 3] rfl)

set_option maxHeartbeats 4000000 in
set_option maxRecDepth 100000 in
/-- scoreOf(q) -/
theorem metX0_scoreOf (l : Launch) (D : va_G) (h : Nat) (a : Nat → Nat) (d : Nat → ClassId) (S : ST) (Q cq : Nat) (hQ : Q < 12) (hc : cq ≤ 6) (eC : S 2 Q = nI cq) (ok : okC S) : mi_ l D clX (WX h a d) (TYX d) yX0_scoreOf cX0_scoreOf 4 (some .int) (rmX 0 0) [.ref h, .int (nI Q)] S (fun r S1 => S1 = S ∧ r = scS S Q cq) := by
  refine mi_of (by decide) (Nat.le_of_ble_eq_true rfl) ?_
  intro p e s m below meth c A ls C0 hr hk hA I hl
  have C0 : CallFix p m c cX0_scoreOf 4 s ([.ref h, .int (nI Q)] : List Value).toArray lw_all RX0 := C0
  have hl : lv_has ls 4 [(0, .ref h), (1, .int (nI Q))] := hl
  have hx := C0.1
  have hb := C0.2.1
  refine lv_iconst (v := 0) hx hb dX0_scoreOf_0 (by decide) ?_
  refine lv_istore_n (lv' := [(2, .int 0), (0, .ref h), (1, .int (nI Q))]) hx hb dX0_scoreOf_1 rfl hl (by decide) rfl (fun ls hl => ?_)
  refine lv_iload_n hx hb dX0_scoreOf_2 rfl (lv_at hl 2 rfl) ?_
  refine lv_bipush (v := 6) hx hb dX0_scoreOf_3 (by decide) ?_
  refine lv_imul hx hb dX0_scoreOf_5 ?_
  refine lv_topi (fun v1 ev1 => ?_)
  obtain rfl : v1 = nI (Q * 6) := ev1.trans (pk_mul Q 6)
  refine lv_istore_n (lv' := [(3, .int (nI (Q * 6))), (2, .int 0), (0, .ref h), (1, .int (nI Q))]) hx hb dX0_scoreOf_6 rfl hl (by decide) rfl (fun ls hl => ?_)
  have loop : ∀ (n : Nat) (j : Nat) (b : Int32), j ≤ cq → cq < j + n → b = scG (S 3) (S 4) (cnS (S 12)) (Q * 6) j → ∀ (H : Heap) (locs : List Loc) (ls : Array Slot), ig_ D clX (WX h a d) (TYX d) A s S H locs → lv_has ls 4 [(3, .int (nI (Q * 6 + j))), (2, .int b), (0, .ref h), (1, .int (nI Q))] → W p l e (rmX 0 0) s m ([.ref h, .int (nI Q)] : List Value).toArray below meth c H locs 0 0 (MQ below (va_Qi (fun r S1 => S1 = S ∧ r = scS S Q cq) (bg_ D clX (WX h a d) (TYX d) A) A) ([.ref h, .int (nI Q)] : List Value).toArray s 0 0 A) (F0 m 7 ls []) := by
    intro n
    induction n with
    | zero =>
      intro j b h1 h2 hv
      exact absurd h2 (by omega)
    | succ n ih =>
      intro j b h1 h2 hv H locs ls I hl
      refine lv_iload_n hx hb dX0_scoreOf_7 rfl (lv_at hl 0 rfl) ?_
      refine lv_iload_n hx hb dX0_scoreOf_8 rfl (lv_at hl 3 rfl) ?_
      refine lv_bipush (v := 6) hx hb dX0_scoreOf_9 (by decide) ?_
      refine lv_imul hx hb dX0_scoreOf_11 ?_
      refine lv_topi (fun v2 ev2 => ?_)
      obtain rfl : v2 = nI (Q * 6) := ev2.trans (pk_mul Q 6)
      refine lv_aload_n hx hb dX0_scoreOf_12 rfl (lv_at hl 2 rfl) ?_
      refine ig_get (C := RX0) (T := TX0) (N := 17) (ci := 0) (fs := FX a S) (v := .ref (a 2)) C0 I in_X0 rfl rfl 2 (by decide) q34 rfl dX0_scoreOf_13 ?_
      refine lv_iload_n hx hb dX0_scoreOf_16 rfl (lv_at hl 3 rfl) ?_
      refine ig_ald C0 I 2 3 2 (a := a 2) (n := 12) (cA := d 2) rfl rfl Q rfl (by omega) (by decide) dX0_scoreOf_17 ?_
      refine lv_topi (fun v3 ev3 => ?_)
      obtain rfl : v3 = nI cq := ev3.trans eC
      refine lv_iadd hx hb dX0_scoreOf_18 ?_
      refine lv_topi (fun v4 ev4 => ?_)
      obtain rfl : v4 = nI (Q * 6 + cq) := ev4.trans (nI_add (Q * 6) cq)
      refine lv_icmp_ge (tgt := 74) hx hb dX0_scoreOf_19 (by decide) (fun c19 => ?_) (fun c19 => ?_)
      · skip
        have hge : j = cq := by
          have := (nI_leI (a := Q * 6 + cq) (b := Q * 6 + j) (by omega) (by omega)).mp c19
          omega
        subst hge
        refine lv_iload_n hx hb dX0_scoreOf_74 rfl (lv_at hl 1 rfl) ?_
        exact ig_iret C0 hr hk I (⟨rfl, hv⟩) dX0_scoreOf_75
      · skip
        have hlt : j < cq := by
          rcases Nat.lt_or_ge j cq with q | q
          · exact q
          · exact absurd (nI_le (a := Q * 6 + cq) (b := Q * 6 + j) (by omega) (by omega)) c19
        refine lv_aload_n hx hb dX0_scoreOf_22 rfl (lv_at hl 2 rfl) ?_
        refine ig_get (C := RX0) (T := TX0) (N := 17) (ci := 0) (fs := FX a S) (v := .ref (a 3)) C0 I in_X0 rfl rfl 3 (by decide) q35 rfl dX0_scoreOf_23 ?_
        refine lv_iload_n hx hb dX0_scoreOf_26 rfl (lv_at hl 0 rfl) ?_
        refine ig_ald C0 I 3 4 3 (a := a 3) (n := 72) (cA := d 3) rfl rfl (Q * 6 + j) rfl (by omega) (by decide) dX0_scoreOf_27 ?_
        refine lv_if_eq (tgt := 41) hx hb dX0_scoreOf_28 (by decide) (fun c28 => ?_) (fun c28 => ?_)
        · skip
          obtain ⟨t, ht, et⟩ := ok.2.2.2.1 (Q * 6 + j) (by omega) (by rw [c28]; decide)
          refine lv_iload_n hx hb dX0_scoreOf_41 rfl (lv_at hl 1 rfl) ?_
          refine lv_aload_n hx hb dX0_scoreOf_42 rfl (lv_at hl 2 rfl) ?_
          refine ig_get (C := RX0) (T := TX0) (N := 17) (ci := 0) (fs := FX a S) (v := .ref (a 12)) C0 I in_X0 rfl rfl 12 (by decide) q44 rfl dX0_scoreOf_43 ?_
          refine lv_aload_n hx hb dX0_scoreOf_46 rfl (lv_at hl 2 rfl) ?_
          refine ig_get (C := RX0) (T := TX0) (N := 17) (ci := 0) (fs := FX a S) (v := .ref (a 4)) C0 I in_X0 rfl rfl 4 (by decide) q36 rfl dX0_scoreOf_47 ?_
          refine lv_iload_n hx hb dX0_scoreOf_50 rfl (lv_at hl 0 rfl) ?_
          refine ig_ald C0 I 4 5 4 (a := a 4) (n := 72) (cA := d 4) rfl rfl (Q * 6 + j) rfl (by omega) (by decide) dX0_scoreOf_51 ?_
          refine ig_ald C0 I 12 9 8 (a := a 12) (n := 24) (cA := d 12) rfl rfl t et ht (by decide) dX0_scoreOf_52 ?_
          refine lv_iadd hx hb dX0_scoreOf_53 ?_
          refine lv_istore_n (lv' := [(2, .int (b + (S 12 t))), (3, .int (nI (Q * 6 + j))), (0, .ref h), (1, .int (nI Q))]) hx hb dX0_scoreOf_54 rfl hl (by decide) rfl (fun ls hl => ?_)
          have hb1 : sc1 (S 3) (S 4) (cnS (S 12)) (Q * 6 + j) b = b + S 12 t := by rw [sc_a (by rw [c28]; decide), cnS_n _ et ht]
          refine lv_aload_n hx hb dX0_scoreOf_55 rfl (lv_at hl 2 rfl) ?_
          refine ig_get (C := RX0) (T := TX0) (N := 17) (ci := 0) (fs := FX a S) (v := .ref (a 3)) C0 I in_X0 rfl rfl 3 (by decide) q35 rfl dX0_scoreOf_56 ?_
          refine lv_iload_n hx hb dX0_scoreOf_59 rfl (lv_at hl 1 rfl) ?_
          refine ig_ald C0 I 3 4 3 (a := a 3) (n := 72) (cA := d 3) rfl rfl (Q * 6 + j) rfl (by omega) (by decide) dX0_scoreOf_60 ?_
          refine lv_iconst (v := 3) hx hb dX0_scoreOf_61 (by decide) ?_
          refine lv_icmp_ne (tgt := 68) hx hb dX0_scoreOf_62 (by decide) (fun c62 => ?_) (fun c62 => ?_)
          · skip
            refine lv_iinc (v := nI (Q * 6 + j + 1)) (lv' := [(3, .int (nI (Q * 6 + j + 1))), (2, .int (b + (S 12 t))), (0, .ref h), (1, .int (nI Q))]) hx hb dX0_scoreOf_68 hl (k := 1) rfl (nI_1 (Q * 6 + j)) (by decide) rfl (fun ls hl => ?_)
            refine lv_goto (tgt := 7) hx hb dX0_scoreOf_71 (by decide) ?_
            exact ih (j + 1) (b + S 12 t) (by omega) (by omega) (by rw [sc_n3 c62, ← hv, hb1]) _ _ _ I (lv_sub hl [0, 1, 2, 3] rfl)
          · skip
            refine lv_iinc (v := (b + (S 12 t)) + 5) (lv' := [(2, .int ((b + (S 12 t)) + 5)), (3, .int (nI (Q * 6 + j))), (0, .ref h), (1, .int (nI Q))]) hx hb dX0_scoreOf_65 hl (k := 0) rfl rfl (by decide) rfl (fun ls hl => ?_)
            refine lv_iinc (v := nI (Q * 6 + j + 1)) (lv' := [(3, .int (nI (Q * 6 + j + 1))), (2, .int ((b + (S 12 t)) + 5)), (0, .ref h), (1, .int (nI Q))]) hx hb dX0_scoreOf_68 hl (k := 1) rfl (nI_1 (Q * 6 + j)) (by decide) rfl (fun ls hl => ?_)
            refine lv_goto (tgt := 7) hx hb dX0_scoreOf_71 (by decide) ?_
            exact ih (j + 1) (b + S 12 t + 5) (by omega) (by omega) (by rw [sc_3 c62, ← hv, hb1]) _ _ _ I (lv_sub hl [0, 1, 2, 3] rfl)
        · skip
          refine lv_aload_n hx hb dX0_scoreOf_31 rfl (lv_at hl 2 rfl) ?_
          refine ig_get (C := RX0) (T := TX0) (N := 17) (ci := 0) (fs := FX a S) (v := .ref (a 3)) C0 I in_X0 rfl rfl 3 (by decide) q35 rfl dX0_scoreOf_32 ?_
          refine lv_iload_n hx hb dX0_scoreOf_35 rfl (lv_at hl 0 rfl) ?_
          refine ig_ald C0 I 3 4 3 (a := a 3) (n := 72) (cA := d 3) rfl rfl (Q * 6 + j) rfl (by omega) (by decide) dX0_scoreOf_36 ?_
          refine lv_iconst (v := 2) hx hb dX0_scoreOf_37 (by decide) ?_
          refine lv_icmp_ne (tgt := 55) hx hb dX0_scoreOf_38 (by decide) (fun c38 => ?_) (fun c38 => ?_)
          · skip
            have hb1 : sc1 (S 3) (S 4) (cnS (S 12)) (Q * 6 + j) b = b := sc_b (fun q => q.elim c28 c38)
            refine lv_aload_n hx hb dX0_scoreOf_55 rfl (lv_at hl 2 rfl) ?_
            refine ig_get (C := RX0) (T := TX0) (N := 17) (ci := 0) (fs := FX a S) (v := .ref (a 3)) C0 I in_X0 rfl rfl 3 (by decide) q35 rfl dX0_scoreOf_56 ?_
            refine lv_iload_n hx hb dX0_scoreOf_59 rfl (lv_at hl 0 rfl) ?_
            refine ig_ald C0 I 3 4 3 (a := a 3) (n := 72) (cA := d 3) rfl rfl (Q * 6 + j) rfl (by omega) (by decide) dX0_scoreOf_60 ?_
            refine lv_iconst (v := 3) hx hb dX0_scoreOf_61 (by decide) ?_
            refine lv_icmp_ne (tgt := 68) hx hb dX0_scoreOf_62 (by decide) (fun c62 => ?_) (fun c62 => ?_)
            · skip
              refine lv_iinc (v := nI (Q * 6 + j + 1)) (lv' := [(3, .int (nI (Q * 6 + j + 1))), (2, .int b), (0, .ref h), (1, .int (nI Q))]) hx hb dX0_scoreOf_68 hl (k := 0) rfl (nI_1 (Q * 6 + j)) (by decide) rfl (fun ls hl => ?_)
              refine lv_goto (tgt := 7) hx hb dX0_scoreOf_71 (by decide) ?_
              exact ih (j + 1) (b) (by omega) (by omega) (by rw [sc_n3 c62, ← hv, hb1]) _ _ _ I (lv_sub hl [0, 1, 2, 3] rfl)
            · skip
              refine lv_iinc (v := b + 5) (lv' := [(2, .int (b + 5)), (3, .int (nI (Q * 6 + j))), (0, .ref h), (1, .int (nI Q))]) hx hb dX0_scoreOf_65 hl (k := 1) rfl rfl (by decide) rfl (fun ls hl => ?_)
              refine lv_iinc (v := nI (Q * 6 + j + 1)) (lv' := [(3, .int (nI (Q * 6 + j + 1))), (2, .int (b + 5)), (0, .ref h), (1, .int (nI Q))]) hx hb dX0_scoreOf_68 hl (k := 1) rfl (nI_1 (Q * 6 + j)) (by decide) rfl (fun ls hl => ?_)
              refine lv_goto (tgt := 7) hx hb dX0_scoreOf_71 (by decide) ?_
              exact ih (j + 1) (b + 5) (by omega) (by omega) (by rw [sc_3 c62, ← hv, hb1]) _ _ _ I (lv_sub hl [0, 1, 2, 3] rfl)
          · skip
            obtain ⟨t, ht, et⟩ := ok.2.2.2.1 (Q * 6 + j) (by omega) (by rw [c38]; decide)
            refine lv_iload_n hx hb dX0_scoreOf_41 rfl (lv_at hl 1 rfl) ?_
            refine lv_aload_n hx hb dX0_scoreOf_42 rfl (lv_at hl 2 rfl) ?_
            refine ig_get (C := RX0) (T := TX0) (N := 17) (ci := 0) (fs := FX a S) (v := .ref (a 12)) C0 I in_X0 rfl rfl 12 (by decide) q44 rfl dX0_scoreOf_43 ?_
            refine lv_aload_n hx hb dX0_scoreOf_46 rfl (lv_at hl 2 rfl) ?_
            refine ig_get (C := RX0) (T := TX0) (N := 17) (ci := 0) (fs := FX a S) (v := .ref (a 4)) C0 I in_X0 rfl rfl 4 (by decide) q36 rfl dX0_scoreOf_47 ?_
            refine lv_iload_n hx hb dX0_scoreOf_50 rfl (lv_at hl 0 rfl) ?_
            refine ig_ald C0 I 4 5 4 (a := a 4) (n := 72) (cA := d 4) rfl rfl (Q * 6 + j) rfl (by omega) (by decide) dX0_scoreOf_51 ?_
            refine ig_ald C0 I 12 9 8 (a := a 12) (n := 24) (cA := d 12) rfl rfl t et ht (by decide) dX0_scoreOf_52 ?_
            refine lv_iadd hx hb dX0_scoreOf_53 ?_
            refine lv_istore_n (lv' := [(2, .int (b + (S 12 t))), (3, .int (nI (Q * 6 + j))), (0, .ref h), (1, .int (nI Q))]) hx hb dX0_scoreOf_54 rfl hl (by decide) rfl (fun ls hl => ?_)
            have hb1 : sc1 (S 3) (S 4) (cnS (S 12)) (Q * 6 + j) b = b + S 12 t := by rw [sc_a (by rw [c38]; decide), cnS_n _ et ht]
            refine lv_aload_n hx hb dX0_scoreOf_55 rfl (lv_at hl 2 rfl) ?_
            refine ig_get (C := RX0) (T := TX0) (N := 17) (ci := 0) (fs := FX a S) (v := .ref (a 3)) C0 I in_X0 rfl rfl 3 (by decide) q35 rfl dX0_scoreOf_56 ?_
            refine lv_iload_n hx hb dX0_scoreOf_59 rfl (lv_at hl 1 rfl) ?_
            refine ig_ald C0 I 3 4 3 (a := a 3) (n := 72) (cA := d 3) rfl rfl (Q * 6 + j) rfl (by omega) (by decide) dX0_scoreOf_60 ?_
            refine lv_iconst (v := 3) hx hb dX0_scoreOf_61 (by decide) ?_
            refine lv_icmp_ne (tgt := 68) hx hb dX0_scoreOf_62 (by decide) (fun c62 => ?_) (fun c62 => ?_)
            · skip
              refine lv_iinc (v := nI (Q * 6 + j + 1)) (lv' := [(3, .int (nI (Q * 6 + j + 1))), (2, .int (b + (S 12 t))), (0, .ref h), (1, .int (nI Q))]) hx hb dX0_scoreOf_68 hl (k := 1) rfl (nI_1 (Q * 6 + j)) (by decide) rfl (fun ls hl => ?_)
              refine lv_goto (tgt := 7) hx hb dX0_scoreOf_71 (by decide) ?_
              exact ih (j + 1) (b + S 12 t) (by omega) (by omega) (by rw [sc_n3 c62, ← hv, hb1]) _ _ _ I (lv_sub hl [0, 1, 2, 3] rfl)
            · skip
              refine lv_iinc (v := (b + (S 12 t)) + 5) (lv' := [(2, .int ((b + (S 12 t)) + 5)), (3, .int (nI (Q * 6 + j))), (0, .ref h), (1, .int (nI Q))]) hx hb dX0_scoreOf_65 hl (k := 0) rfl rfl (by decide) rfl (fun ls hl => ?_)
              refine lv_iinc (v := nI (Q * 6 + j + 1)) (lv' := [(3, .int (nI (Q * 6 + j + 1))), (2, .int ((b + (S 12 t)) + 5)), (0, .ref h), (1, .int (nI Q))]) hx hb dX0_scoreOf_68 hl (k := 1) rfl (nI_1 (Q * 6 + j)) (by decide) rfl (fun ls hl => ?_)
              refine lv_goto (tgt := 7) hx hb dX0_scoreOf_71 (by decide) ?_
              exact ih (j + 1) (b + S 12 t + 5) (by omega) (by omega) (by rw [sc_3 c62, ← hv, hb1]) _ _ _ I (lv_sub hl [0, 1, 2, 3] rfl)
  exact loop (cq + 1) 0 0 (by omega) (by omega) rfl _ _ _ I (lv_sub hl [0, 1, 2, 3] rfl)
end
section
/-! ===== what was found, best first ===== -/
def cntB (f : Nat → Bool) : Nat → Nat
  | 0 => 0
  | n + 1 => if f n then cntB f n + 1 else cntB f n
theorem cntB_eq (f : Nat → Bool) : ∀ n, cntB f n = (List.range n).countP f
  | 0 => rfl
  | n + 1 => by
    rw [List.range_succ, List.countP_append, cntB, cntB_eq f n]
    cases h : f n <;> simp [h]
theorem cntB_le (f : Nat → Bool) (n : Nat) : cntB f n ≤ n := by
  rw [cntB_eq]
  exact Nat.le_trans List.countP_le_length (by rw [List.length_range]; exact Nat.le_refl n)
def bfB (sc : Nat → Int32) (r q : Nat) : Bool := decide (sc q < sc r) || (decide (sc r = sc q) && decide (r < q))
theorem i32_irr (x : Int32) : ¬ x < x := Int32.lt_irrefl
theorem bfB_irr (sc : Nat → Int32) (r : Nat) : bfB sc r r = false := by
  simp [bfB, Int32.lt_irrefl]
theorem bfB_asym {sc : Nat → Int32} {r q : Nat} (h : bfB sc r q = true) : bfB sc q r = false := by
  unfold bfB at h ⊢
  simp only [Bool.or_eq_true, Bool.and_eq_true, decide_eq_true_eq, Int32.lt_iff_toInt_lt, ← Int32.toInt_inj] at h
  simp only [Bool.or_eq_false_iff, Bool.and_eq_false_iff, decide_eq_false_iff_not, Int32.lt_iff_toInt_lt, ← Int32.toInt_inj]
  omega
theorem bfB_le {sc : Nat → Int32} {r q : Nat} {s : Int32} (h : bfB sc r q = true) (hq : ¬ sc q < s) : ¬ sc r < s := by
  unfold bfB at h
  simp only [Bool.or_eq_true, Bool.and_eq_true, decide_eq_true_eq, Int32.lt_iff_toInt_lt, ← Int32.toInt_inj] at h
  rw [Int32.lt_iff_toInt_lt] at hq ⊢
  omega
theorem bfB_ge {sc : Nat → Int32} {r q : Nat} (h : ¬ sc r < sc q) (hr : r < q) : bfB sc r q = true := by
  unfold bfB
  simp only [Bool.or_eq_true, Bool.and_eq_true, decide_eq_true_eq, Int32.lt_iff_toInt_lt, ← Int32.toInt_inj]
  rw [Int32.lt_iff_toInt_lt] at h
  omega
def pcL (mq : Nat → Bool) (sc : Nat → Int32) (q n0 : Nat) (FQ FS : Nat → Int32) : Prop := ∃ L : List Nat, L.Perm ((List.range q).filter mq) ∧ L.Pairwise (fun r t => bfB sc r t = true) ∧ L.length = n0 ∧ ∀ x r, L[x]? = some r → FQ x = nI r ∧ FS x = sc r
def insP (n0 : Nat) (FQ FS : Nat → Int32) (q : Nat) (s : Int32) (FQ' FS' : Nat → Int32) : Prop := ∃ b, b ≤ n0 ∧ (∀ x, x < b → FQ' x = FQ x ∧ FS' x = FS x) ∧ FQ' b = nI q ∧ FS' b = s ∧ (∀ x, b ≤ x → x < n0 → FQ' (x + 1) = FQ x ∧ FS' (x + 1) = FS x ∧ FS x < s) ∧ (0 < b → ¬ FS (b - 1) < s)
section PC
variable {mq : Nat → Bool} {sc : Nat → Int32} {q n0 : Nat} {FQ FS FQ' FS' : Nat → Int32}
theorem pc_0 : pcL mq sc 0 0 FQ FS := ⟨[], by simp, List.Pairwise.nil, rfl, fun x r h => by simp at h⟩
theorem pc_skip (h : mq q = false) (H : pcL mq sc q n0 FQ FS) : pcL mq sc (q + 1) n0 FQ FS := by
  obtain ⟨L, h1, h2, h3, h4⟩ := H
  refine ⟨L, ?_, h2, h3, h4⟩
  rw [List.range_succ, List.filter_append]
  simpa [h] using h1
theorem pc_le (H : pcL mq sc q n0 FQ FS) : n0 ≤ q := by
  obtain ⟨L, h1, h2, h3, h4⟩ := H
  have h5 := h1.length_eq
  have h6 := List.length_filter_le mq (List.range q)
  rw [List.length_range] at h6
  omega
theorem pc_ins (h : mq q = true) (H : pcL mq sc q n0 FQ FS) (K : insP n0 FQ FS q (sc q) FQ' FS') : pcL mq sc (q + 1) (n0 + 1) FQ' FS' := by
  obtain ⟨L, h1, h2, h3, h4⟩ := H
  obtain ⟨b, hb, k1, k2, k3, k4, k5⟩ := K
  have hlen : (L.take b).length = b := by rw [List.length_take]; omega
  have hlt : ∀ x ∈ L, x < q := fun x hx => by
    have := h1.mem_iff.mp hx
    rw [List.mem_filter, List.mem_range] at this
    exact this.1
  have hsplit := List.pairwise_append.mp (show (L.take b ++ L.drop b).Pairwise (fun r t => bfB sc r t = true) by rw [List.take_append_drop]; exact h2)
  have htop : ∀ x ∈ L.take b, ¬ sc x < sc q := by
    intro x hx
    obtain ⟨i, hi⟩ := List.getElem?_of_mem hx
    have hib : i < b := by
      have := (List.getElem?_eq_some_iff.mp hi).1
      omega
    rw [List.getElem?_take, if_pos hib] at hi
    have hlast : b - 1 < L.length := by omega
    have hl : L[b - 1]? = some L[b - 1] := List.getElem?_eq_getElem hlast
    have hz : ¬ sc L[b - 1] < sc q := by
      rw [← (h4 _ _ hl).2]
      exact k5 (by omega)
    by_cases e : i = b - 1
    · subst e
      rw [hl] at hi
      cases hi
      exact hz
    · obtain ⟨hi1, hi2⟩ := List.getElem?_eq_some_iff.mp hi
      have := List.pairwise_iff_getElem.mp h2 i (b - 1) hi1 hlast (by omega)
      rw [hi2] at this
      exact bfB_le this hz
  have hbot : ∀ x ∈ L.drop b, bfB sc q x = true := by
    intro x hx
    obtain ⟨i, hi⟩ := List.getElem?_of_mem hx
    rw [List.getElem?_drop] at hi
    have hl := (List.getElem?_eq_some_iff.mp hi).1
    have := (k4 (b + i) (by omega) (by omega)).2.2
    rw [(h4 _ _ hi).2] at this
    unfold bfB
    rw [decide_eq_true this, Bool.true_or]
  refine ⟨L.take b ++ q :: L.drop b, ?_, ?_, ?_, ?_⟩
  · have e1 : (L.take b ++ q :: L.drop b).Perm (q :: L) := by
      have := List.perm_middle (a := q) (l₁ := L.take b) (l₂ := L.drop b)
      rw [List.take_append_drop] at this
      exact this
    rw [List.range_succ, List.filter_append]
    have e2 : List.filter mq [q] = [q] := by simp [h]
    rw [e2]
    exact e1.trans ((h1.cons q).trans (List.perm_append_singleton q _).symm)
  · rw [List.pairwise_append]
    refine ⟨hsplit.1, List.pairwise_cons.mpr ⟨hbot, hsplit.2.1⟩, fun x hx y hy => ?_⟩
    rcases List.mem_cons.mp hy with rfl | hy
    · exact bfB_ge (htop x hx) (hlt x (List.mem_of_mem_take hx))
    · exact hsplit.2.2 x hx y hy
  · rw [List.length_append, hlen, List.length_cons, List.length_drop]
    omega
  · intro x r hx
    rw [List.getElem?_append, hlen] at hx
    by_cases e : x < b
    · rw [if_pos e, List.getElem?_take, if_pos e] at hx
      rw [(k1 x e).1, (k1 x e).2]
      exact h4 x r hx
    · rw [if_neg e] at hx
      by_cases e2 : x = b
      · subst e2
        rw [Nat.sub_self] at hx
        have : q = r := by simpa using hx
        subst this
        exact ⟨k2, k3⟩
      · obtain ⟨z, rfl⟩ : ∃ z, x = z + 1 := ⟨x - 1, by omega⟩
        rw [show z + 1 - b = (z - b) + 1 by omega, List.getElem?_cons_succ, List.getElem?_drop, show b + (z - b) = z by omega] at hx
        have hl := (List.getElem?_eq_some_iff.mp hx).1
        have := k4 z (by omega) (by omega)
        rw [this.1, this.2.1]
        exact h4 z r hx
theorem pc_pos {L : List Nat} (h2 : L.Pairwise (fun r t => bfB sc r t = true)) {x r : Nat} (hx : L[x]? = some r) : L.countP (fun t => bfB sc t r) = x := by
  obtain ⟨hl, he⟩ := List.getElem?_eq_some_iff.mp hx
  have e1 : L = L.take x ++ r :: L.drop (x + 1) := by
    rw [← he, ← List.drop_eq_getElem_cons hl, List.take_append_drop]
  have h3 := h2
  rw [e1] at h3
  obtain ⟨-, p2, p3⟩ := List.pairwise_append.mp h3
  rw [e1, List.countP_append, List.countP_cons]
  have c1 : (L.take x).countP (fun t => bfB sc t r) = (L.take x).length := List.countP_eq_length.mpr (fun t ht => p3 t ht r List.mem_cons_self)
  have c2 : (L.drop (x + 1)).countP (fun t => bfB sc t r) = 0 := List.countP_eq_zero.mpr (fun t ht => by
    rw [bfB_asym ((List.pairwise_cons.mp p2).1 t ht)]
    decide)
  rw [c1, c2, bfB_irr, List.length_take]
  simp
  omega
/-- how many of the matches below 12 come before r -/
def befN (mq : Nat → Bool) (sc : Nat → Int32) (r n : Nat) : Nat := cntB (fun t => bfB sc t r && mq t) n
theorem pc_n (H : pcL mq sc q n0 FQ FS) : n0 = cntB mq q := by
  obtain ⟨L, h1, h2, h3, h4⟩ := H
  rw [cntB_eq, ← h3, h1.length_eq, List.countP_eq_length_filter]
theorem pc_at (H : pcL mq sc q n0 FQ FS) {x : Nat} (hx : x < n0) : ∃ r, r < q ∧ mq r = true ∧ befN mq sc r q = x ∧ FQ x = nI r ∧ FS x = sc r := by
  obtain ⟨L, h1, h2, h3, h4⟩ := H
  have hl : x < L.length := by omega
  have he : L[x]? = some L[x] := List.getElem?_eq_getElem hl
  have hm := h1.mem_iff.mp (List.getElem_mem hl)
  rw [List.mem_filter, List.mem_range] at hm
  refine ⟨L[x], hm.1, hm.2, ?_, h4 _ _ he⟩
  have := pc_pos h2 he
  rw [h1.countP_eq, List.countP_filter] at this
  rw [befN, cntB_eq]
  exact this
theorem pc_of (H : pcL mq sc q n0 FQ FS) {r : Nat} (hr : r < q) (hm : mq r = true) : befN mq sc r q < n0 ∧ FQ (befN mq sc r q) = nI r ∧ FS (befN mq sc r q) = sc r := by
  obtain ⟨L, h1, h2, h3, h4⟩ := H
  have hmem : r ∈ L := h1.mem_iff.mpr (by rw [List.mem_filter, List.mem_range]; exact ⟨hr, hm⟩)
  obtain ⟨x, hx⟩ := List.getElem?_of_mem hmem
  have hp := pc_pos h2 hx
  rw [h1.countP_eq, List.countP_filter] at hp
  have hb : befN mq sc r q = x := by rw [befN, cntB_eq]; exact hp
  rw [hb]
  exact ⟨by have := (List.getElem?_eq_some_iff.mp hx).1; omega, h4 x r hx⟩
end PC
end
section
def same14 (S S' : ST) : Prop := ∀ k, k ≠ 14 → k ≠ 15 → k ≠ 16 → S' k = S k
def clN (S : ST) (q : Nat) : Nat := (S 2 q).toNatClampNeg
theorem clN_ok {S : ST} (ok : okC S) {q : Nat} (hq : q < 12) : clN S q ≤ 6 ∧ S 2 q = nI (clN S q) := by
  obtain ⟨c, hc, e⟩ := ok.2.1 q hq
  have : clN S q = c := by unfold clN; rw [e]; exact nI_clamp (by omega)
  rw [this]
  exact ⟨hc, e⟩
def candG (S : ST) : Nat → Int32
  | 0 => S 7 0
  | n + 1 => if 0 < S 12 n then candG S n ||| S 6 n else candG S n
def mqS (S : ST) (q : Nat) : Bool := bt (candG S 24) q && ckS S q (clN S q)
def scQ (S : ST) (q : Nat) : Int32 := scS S q (clN S q)
theorem same14_ok {S S' : ST} (h : same14 S S') (ok : okC S) : okC S' := okC_of (h 0 (by decide) (by decide) (by decide)) (h 2 (by decide) (by decide) (by decide)) (h 3 (by decide) (by decide) (by decide)) (h 4 (by decide) (by decide) (by decide)) (h 5 (by decide) (by decide) (by decide)) ok
theorem same14_ck {S S' : ST} (h : same14 S S') (Q c : Nat) : ckS S' Q c = ckS S Q c := by
  unfold ckS
  rw [h 3 (by decide) (by decide) (by decide), h 4 (by decide) (by decide) (by decide), h 5 (by decide) (by decide) (by decide), h 12 (by decide) (by decide) (by decide), h 13 (by decide) (by decide) (by decide), h 10 (by decide) (by decide) (by decide), h 1 (by decide) (by decide) (by decide)]
theorem same14_sc {S S' : ST} (h : same14 S S') (Q c : Nat) : scS S' Q c = scS S Q c := by
  unfold scS
  rw [h 3 (by decide) (by decide) (by decide), h 4 (by decide) (by decide) (by decide), h 12 (by decide) (by decide) (by decide)]
def prP (S S' : ST) (n0 : Nat) : Prop := same14 S S' ∧ n0 ≤ 12 ∧ S' 14 0 = nI n0 ∧ pcL (mqS S) (scQ S) 12 n0 (S' 15) (S' 16)

set_option maxHeartbeats 4000000 in
set_option maxRecDepth 100000 in
/-- keep(q) -/
theorem metX0_keep (l : Launch) (D : va_G) (h : Nat) (a : Nat → Nat) (d : Nat → ClassId) (S : ST) (Q cq : Nat) (hQ : Q < 12) (hc : cq ≤ 6) (eC : S 2 Q = nI cq) (ok : okC S) (n0 : Nat) (hn0 : n0 ≤ 11) (eF : S 14 0 = nI n0) : mv_ l D clX (WX h a d) (TYX d) yX0_keep cX0_keep 4 none (rmX 1 23) [.ref h, .int (nI Q)] S (fun S1 => same14 S S1 ∧ S1 14 0 = nI (n0 + 1) ∧ insP n0 (S 15) (S 16) Q (scS S Q cq) (S1 15) (S1 16)) := by
  refine mv_of (by decide) (Nat.le_of_ble_eq_true rfl) ?_
  intro p e s m below meth c A ls C0 hr hk hA I hl
  have C0 : CallFix p m c cX0_keep 4 s ([.ref h, .int (nI Q)] : List Value).toArray lw_all RX0 := C0
  have hl : lv_has ls 4 [(0, .ref h), (1, .int (nI Q))] := hl
  have hx := C0.1
  have hb := C0.2.1
  refine lv_aload_n hx hb dX0_keep_0 rfl (lv_at hl 0 rfl) ?_
  refine lv_iload_n hx hb dX0_keep_1 rfl (lv_at hl 1 rfl) ?_
  refine ig_calli (h := h) (As := [.int (nI Q)]) (rest := []) (C := RX0) (T := TX0) (N := 17) (ci := 0) (fs := FX a S) C0 hA I (metX0_scoreOf l D h a d S Q cq hQ hc eC ok) rfl rfl (lw_V q177 q179 qs12 q22 q180) 1 (by decide +kernel) rfl rfl ⟨by decide, by decide⟩ ⟨Nat.zero_le _, Nat.zero_le _⟩ rfl hl.1 (Nat.le_of_ble_eq_true rfl) dX0_keep_2 rfl (fun sc0 S2 H locs hp1 I _ => ?_)
  rw [hp1.1] at I
  refine lv_istore_n (lv' := [(2, .int sc0), (0, .ref h), (1, .int (nI Q))]) hx hb dX0_keep_5 rfl hl (by decide) rfl (fun ls hl => ?_)
  refine lv_aload_n hx hb dX0_keep_6 rfl (lv_at hl 1 rfl) ?_
  refine ig_get (C := RX0) (T := TX0) (N := 17) (ci := 0) (fs := FX a S) (v := .int (S 14 0)) C0 I in_X0 rfl rfl 14 (by decide) q46 rfl dX0_keep_7 ?_
  refine lv_topi (fun v3 ev3 => ?_)
  obtain rfl : v3 = nI n0 := ev3.trans eF
  refine lv_istore_n (lv' := [(3, .int (nI n0)), (2, .int sc0), (0, .ref h), (1, .int (nI Q))]) hx hb dX0_keep_10 rfl hl (by decide) rfl (fun ls hl => ?_)
  have loop : ∀ (n : Nat) (j : Nat) (Z : ST), j ≤ n0 → j < n → ((∀ k, k ≠ 15 → k ≠ 16 → Z k = S k) ∧ (∀ x, x < j → Z 15 x = S 15 x ∧ Z 16 x = S 16 x) ∧ (∀ x, j ≤ x → x < n0 → Z 15 (x + 1) = S 15 x ∧ Z 16 (x + 1) = S 16 x ∧ S 16 x < sc0)) → ∀ (H : Heap) (locs : List Loc) (ls : Array Slot), ig_ D clX (WX h a d) (TYX d) A s Z H locs → lv_has ls 4 [(3, .int (nI j)), (2, .int sc0), (0, .ref h), (1, .int (nI Q))] → W p l e (rmX 1 23) s m ([.ref h, .int (nI Q)] : List Value).toArray below meth c H locs 0 0 (MQ below (va_Qv (fun S1 => same14 S S1 ∧ S1 14 0 = nI (n0 + 1) ∧ insP n0 (S 15) (S 16) Q (scS S Q cq) (S1 15) (S1 16)) (bg_ D clX (WX h a d) (TYX d) A) A) ([.ref h, .int (nI Q)] : List Value).toArray s 0 0 A) (F0 m 11 ls []) := by
    intro n
    induction n with
    | zero =>
      intro j Z h1 h2 hv
      exact absurd h2 (by omega)
    | succ n ih =>
      intro j Z h1 h2 hv H locs ls I hl
      refine lv_iload_n hx hb dX0_keep_11 rfl (lv_at hl 0 rfl) ?_
      refine lv_if_le (tgt := 61) hx hb dX0_keep_12 (by decide) (fun c12 => ?_) (fun c12 => ?_)
      · skip
        have hge : j = 0 := by
          have := (nI_leI (a := j) (b := 0) (by omega) (by omega)).mp c12
          omega
        subst hge
        refine lv_aload_n hx hb dX0_keep_61 rfl (lv_at hl 2 rfl) ?_
        refine ig_get (C := RX0) (T := TX0) (N := 17) (ci := 0) (fs := FX a Z) (v := .ref (a 15)) C0 I in_X0 rfl rfl 15 (by decide) q47 rfl dX0_keep_62 ?_
        refine lv_iload_n hx hb dX0_keep_65 rfl (lv_at hl 0 rfl) ?_
        refine lv_iload_n hx hb dX0_keep_66 rfl (lv_at hl 3 rfl) ?_
        refine ig_ast C0 I 15 11 10 (a := a 15) (n := 12) (cA := d 15) rfl rfl 0 rfl (by omega) (by decide) (va_up Z 15 (upd (Z 15) 0 (nI Q))) rfl dX0_keep_67 (fun H locs I => ?_)
        generalize eS4 : va_up Z 15 (upd (Z 15) 0 (nI Q)) = S4 at I
        refine lv_aload_n hx hb dX0_keep_68 rfl (lv_at hl 2 rfl) ?_
        refine ig_get (C := RX0) (T := TX0) (N := 17) (ci := 0) (fs := FX a S4) (v := .ref (a 16)) C0 I in_X0 rfl rfl 16 (by decide) q48 rfl dX0_keep_69 ?_
        refine lv_iload_n hx hb dX0_keep_72 rfl (lv_at hl 0 rfl) ?_
        refine lv_iload_n hx hb dX0_keep_73 rfl (lv_at hl 1 rfl) ?_
        refine ig_ast C0 I 16 12 11 (a := a 16) (n := 12) (cA := d 16) rfl rfl 0 rfl (by omega) (by decide) (va_up S4 16 (upd (S4 16) 0 sc0)) rfl dX0_keep_74 (fun H locs I => ?_)
        generalize eS5 : va_up S4 16 (upd (S4 16) 0 sc0) = S5 at I
        have eF2 : S5 14 0 = nI n0 := by rw [← eS5, ← eS4]; show Z 14 0 = nI n0; rw [hv.1 14 (by decide) (by decide)]; exact eF
        refine lv_aload_n hx hb dX0_keep_75 rfl (lv_at hl 2 rfl) ?_
        refine lv_dup hx hb dX0_keep_76 rfl ?_
        refine ig_get (C := RX0) (T := TX0) (N := 17) (ci := 0) (fs := FX a S5) (v := .int (S5 14 0)) C0 I in_X0 rfl rfl 14 (by decide) q46 rfl dX0_keep_77 ?_
        refine lv_topi (fun v6 ev6 => ?_)
        obtain rfl : v6 = nI n0 := ev6.trans eF2
        refine lv_iconst (v := 1) hx hb dX0_keep_80 (by decide) ?_
        refine lv_iadd hx hb dX0_keep_81 ?_
        refine lv_topi (fun v7 ev7 => ?_)
        obtain rfl : v7 = nI (n0 + 1) := ev7.trans (nI_add n0 1)
        refine ig_put (C := RX0) (T := TX0) (N := 17) (ci := 0) (fs := FX a S5) (v := (nI (n0 + 1))) C0 I in_X0 tyX0 tyX0_ok nmX0 rfl rfl 14 (by decide) q46 rfl (by decide +kernel) (Nat.le_of_ble_eq_true rfl) (va_up S5 14 (fun _ => (nI (n0 + 1)))) rfl dX0_keep_82 (fun H locs I => ?_)
        generalize eS8 : va_up S5 14 (fun _ => (nI (n0 + 1))) = S8 at I
        refine ig_vret C0 hr hk I ⟨fun k a14 a15 a16 => ?_, by rw [← eS8]; rfl, 0, by omega, fun x hx => ?_, ?_, ?_, fun x h5 h6 => ?_, fun z => absurd z (by omega)⟩ dX0_keep_85
        · rw [← eS8, ← eS5, ← eS4, ← hv.1 k a15 a16]
          simp only [va_up, if_neg a14, if_neg a15, if_neg a16]
        · rw [← eS8, ← eS5, ← eS4]
          show upd (Z 15) 0 (nI Q) x = S 15 x ∧ upd (Z 16) 0 sc0 x = S 16 x
          rw [pk_un (by omega), pk_un (by omega)]
          exact hv.2.1 x hx
        · rw [← eS8, ← eS5, ← eS4]
          exact pk_us (f := Z 15) (k := 0) (x := nI Q)
        · rw [← eS8, ← eS5, ← eS4, ← hp1.2]
          exact pk_us (f := Z 16) (k := 0) (x := sc0)
        · rw [← eS8, ← eS5, ← eS4, ← hp1.2]
          show upd (Z 15) 0 (nI Q) (x + 1) = S 15 x ∧ upd (Z 16) 0 sc0 (x + 1) = S 16 x ∧ _
          rw [pk_un (by omega), pk_un (by omega)]
          exact hv.2.2 x h5 h6
      · skip
        obtain ⟨i, rfl⟩ : ∃ z, j = z + 1 := ⟨j - 1, by
          have : ¬ j = 0 := fun z => c12 (by rw [z]; decide)
          omega⟩
        refine lv_aload_n hx hb dX0_keep_15 rfl (lv_at hl 2 rfl) ?_
        refine ig_get (C := RX0) (T := TX0) (N := 17) (ci := 0) (fs := FX a Z) (v := .ref (a 16)) C0 I in_X0 rfl rfl 16 (by decide) q48 rfl dX0_keep_16 ?_
        refine lv_iload_n hx hb dX0_keep_19 rfl (lv_at hl 0 rfl) ?_
        refine lv_iconst (v := 1) hx hb dX0_keep_20 (by decide) ?_
        refine lv_isub hx hb dX0_keep_21 ?_
        refine lv_topi (fun v9 ev9 => ?_)
        obtain rfl : v9 = nI i := ev9.trans (nI_pred i)
        refine ig_ald C0 I 16 12 11 (a := a 16) (n := 12) (cA := d 16) rfl rfl i rfl (by omega) (by decide) dX0_keep_22 ?_
        refine lv_iload_n hx hb dX0_keep_23 rfl (lv_at hl 1 rfl) ?_
        refine lv_icmp_ge (tgt := 61) hx hb dX0_keep_24 (by decide) (fun c24 => ?_) (fun c24 => ?_)
        · skip
          refine lv_aload_n hx hb dX0_keep_61 rfl (lv_at hl 2 rfl) ?_
          refine ig_get (C := RX0) (T := TX0) (N := 17) (ci := 0) (fs := FX a Z) (v := .ref (a 15)) C0 I in_X0 rfl rfl 15 (by decide) q47 rfl dX0_keep_62 ?_
          refine lv_iload_n hx hb dX0_keep_65 rfl (lv_at hl 0 rfl) ?_
          refine lv_iload_n hx hb dX0_keep_66 rfl (lv_at hl 3 rfl) ?_
          refine ig_ast C0 I 15 11 10 (a := a 15) (n := 12) (cA := d 15) rfl rfl (i + 1) rfl (by omega) (by decide) (va_up Z 15 (upd (Z 15) (i + 1) (nI Q))) rfl dX0_keep_67 (fun H locs I => ?_)
          generalize eS10 : va_up Z 15 (upd (Z 15) (i + 1) (nI Q)) = S10 at I
          refine lv_aload_n hx hb dX0_keep_68 rfl (lv_at hl 2 rfl) ?_
          refine ig_get (C := RX0) (T := TX0) (N := 17) (ci := 0) (fs := FX a S10) (v := .ref (a 16)) C0 I in_X0 rfl rfl 16 (by decide) q48 rfl dX0_keep_69 ?_
          refine lv_iload_n hx hb dX0_keep_72 rfl (lv_at hl 0 rfl) ?_
          refine lv_iload_n hx hb dX0_keep_73 rfl (lv_at hl 1 rfl) ?_
          refine ig_ast C0 I 16 12 11 (a := a 16) (n := 12) (cA := d 16) rfl rfl (i + 1) rfl (by omega) (by decide) (va_up S10 16 (upd (S10 16) (i + 1) sc0)) rfl dX0_keep_74 (fun H locs I => ?_)
          generalize eS11 : va_up S10 16 (upd (S10 16) (i + 1) sc0) = S11 at I
          have eF2 : S11 14 0 = nI n0 := by rw [← eS11, ← eS10]; show Z 14 0 = nI n0; rw [hv.1 14 (by decide) (by decide)]; exact eF
          refine lv_aload_n hx hb dX0_keep_75 rfl (lv_at hl 2 rfl) ?_
          refine lv_dup hx hb dX0_keep_76 rfl ?_
          refine ig_get (C := RX0) (T := TX0) (N := 17) (ci := 0) (fs := FX a S11) (v := .int (S11 14 0)) C0 I in_X0 rfl rfl 14 (by decide) q46 rfl dX0_keep_77 ?_
          refine lv_topi (fun v12 ev12 => ?_)
          obtain rfl : v12 = nI n0 := ev12.trans eF2
          refine lv_iconst (v := 1) hx hb dX0_keep_80 (by decide) ?_
          refine lv_iadd hx hb dX0_keep_81 ?_
          refine lv_topi (fun v13 ev13 => ?_)
          obtain rfl : v13 = nI (n0 + 1) := ev13.trans (nI_add n0 1)
          refine ig_put (C := RX0) (T := TX0) (N := 17) (ci := 0) (fs := FX a S11) (v := (nI (n0 + 1))) C0 I in_X0 tyX0 tyX0_ok nmX0 rfl rfl 14 (by decide) q46 rfl (by decide +kernel) (Nat.le_of_ble_eq_true rfl) (va_up S11 14 (fun _ => (nI (n0 + 1)))) rfl dX0_keep_82 (fun H locs I => ?_)
          generalize eS14 : va_up S11 14 (fun _ => (nI (n0 + 1))) = S14 at I
          refine ig_vret C0 hr hk I ⟨fun k a14 a15 a16 => ?_, by rw [← eS14]; rfl, i + 1, by omega, fun x hx => ?_, ?_, ?_, fun x h5 h6 => ?_, fun _ z => absurd c24 (Int32.not_le.mpr (by rw [(hv.2.1 i (by omega)).2, hp1.2]; exact z))⟩ dX0_keep_85
          · rw [← eS14, ← eS11, ← eS10, ← hv.1 k a15 a16]
            simp only [va_up, if_neg a14, if_neg a15, if_neg a16]
          · rw [← eS14, ← eS11, ← eS10]
            show upd (Z 15) (i + 1) (nI Q) x = S 15 x ∧ upd (Z 16) (i + 1) sc0 x = S 16 x
            rw [pk_un (by omega), pk_un (by omega)]
            exact hv.2.1 x hx
          · rw [← eS14, ← eS11, ← eS10]
            exact pk_us (f := Z 15) (k := i + 1) (x := nI Q)
          · rw [← eS14, ← eS11, ← eS10, ← hp1.2]
            exact pk_us (f := Z 16) (k := i + 1) (x := sc0)
          · rw [← eS14, ← eS11, ← eS10, ← hp1.2]
            show upd (Z 15) (i + 1) (nI Q) (x + 1) = S 15 x ∧ upd (Z 16) (i + 1) sc0 (x + 1) = S 16 x ∧ _
            rw [pk_un (by omega), pk_un (by omega)]
            exact hv.2.2 x h5 h6
        · skip
          refine lv_aload_n hx hb dX0_keep_27 rfl (lv_at hl 2 rfl) ?_
          refine ig_get (C := RX0) (T := TX0) (N := 17) (ci := 0) (fs := FX a Z) (v := .ref (a 15)) C0 I in_X0 rfl rfl 15 (by decide) q47 rfl dX0_keep_28 ?_
          refine lv_iload_n hx hb dX0_keep_31 rfl (lv_at hl 0 rfl) ?_
          refine lv_aload_n hx hb dX0_keep_32 rfl (lv_at hl 2 rfl) ?_
          refine ig_get (C := RX0) (T := TX0) (N := 17) (ci := 0) (fs := FX a Z) (v := .ref (a 15)) C0 I in_X0 rfl rfl 15 (by decide) q47 rfl dX0_keep_33 ?_
          refine lv_iload_n hx hb dX0_keep_36 rfl (lv_at hl 0 rfl) ?_
          refine lv_iconst (v := 1) hx hb dX0_keep_37 (by decide) ?_
          refine lv_isub hx hb dX0_keep_38 ?_
          refine lv_topi (fun v15 ev15 => ?_)
          obtain rfl : v15 = nI i := ev15.trans (nI_pred i)
          refine ig_ald C0 I 15 11 10 (a := a 15) (n := 12) (cA := d 15) rfl rfl i rfl (by omega) (by decide) dX0_keep_39 ?_
          refine ig_ast C0 I 15 11 10 (a := a 15) (n := 12) (cA := d 15) rfl rfl (i + 1) rfl (by omega) (by decide) (va_up Z 15 (upd (Z 15) (i + 1) (Z 15 i))) rfl dX0_keep_40 (fun H locs I => ?_)
          generalize eS16 : va_up Z 15 (upd (Z 15) (i + 1) (Z 15 i)) = S16 at I
          refine lv_aload_n hx hb dX0_keep_41 rfl (lv_at hl 2 rfl) ?_
          refine ig_get (C := RX0) (T := TX0) (N := 17) (ci := 0) (fs := FX a S16) (v := .ref (a 16)) C0 I in_X0 rfl rfl 16 (by decide) q48 rfl dX0_keep_42 ?_
          refine lv_iload_n hx hb dX0_keep_45 rfl (lv_at hl 0 rfl) ?_
          refine lv_aload_n hx hb dX0_keep_46 rfl (lv_at hl 2 rfl) ?_
          refine ig_get (C := RX0) (T := TX0) (N := 17) (ci := 0) (fs := FX a S16) (v := .ref (a 16)) C0 I in_X0 rfl rfl 16 (by decide) q48 rfl dX0_keep_47 ?_
          refine lv_iload_n hx hb dX0_keep_50 rfl (lv_at hl 0 rfl) ?_
          refine lv_iconst (v := 1) hx hb dX0_keep_51 (by decide) ?_
          refine lv_isub hx hb dX0_keep_52 ?_
          refine lv_topi (fun v17 ev17 => ?_)
          obtain rfl : v17 = nI i := ev17.trans (nI_pred i)
          refine ig_ald C0 I 16 12 11 (a := a 16) (n := 12) (cA := d 16) rfl rfl i rfl (by omega) (by decide) dX0_keep_53 ?_
          refine ig_ast C0 I 16 12 11 (a := a 16) (n := 12) (cA := d 16) rfl rfl (i + 1) rfl (by omega) (by decide) (va_up S16 16 (upd (S16 16) (i + 1) (S16 16 i))) rfl dX0_keep_54 (fun H locs I => ?_)
          generalize eS18 : va_up S16 16 (upd (S16 16) (i + 1) (S16 16 i)) = S18 at I
          refine lv_iinc (v := nI i) (lv' := [(3, .int (nI i)), (2, .int sc0), (0, .ref h), (1, .int (nI Q))]) hx hb dX0_keep_55 hl (k := 0) rfl (pk_m1 i) (by decide) rfl (fun ls hl => ?_)
          refine lv_goto (tgt := 11) hx hb dX0_keep_58 (by decide) ?_
          refine ih i S18 (by omega) (by omega) ⟨fun k a15 a16 => ?_, fun x hx => ?_, fun x h5 h6 => ?_⟩ _ _ _ I (lv_sub hl [0, 1, 2, 3] rfl)
          · rw [← eS18, ← eS16, ← hv.1 k a15 a16]
            simp only [va_up, if_neg a15, if_neg a16]
          · rw [← eS18, ← eS16]
            show upd (Z 15) (i + 1) (Z 15 i) x = S 15 x ∧ upd (Z 16) (i + 1) (Z 16 i) x = S 16 x
            rw [pk_un (by omega), pk_un (by omega)]
            exact hv.2.1 x (by omega)
          · rw [← eS18, ← eS16]
            show upd (Z 15) (i + 1) (Z 15 i) (x + 1) = S 15 x ∧ upd (Z 16) (i + 1) (Z 16 i) (x + 1) = S 16 x ∧ _
            by_cases e1 : x = i
            · rw [e1, pk_us, pk_us, (hv.2.1 i (by omega)).1, (hv.2.1 i (by omega)).2]
              exact ⟨rfl, rfl, by rw [← (hv.2.1 i (by omega)).2]; exact Int32.not_le.mp c24⟩
            · rw [pk_un (by omega), pk_un (by omega)]
              exact hv.2.2 x (by omega) h6
  exact loop (n0 + 1) n0 S (Nat.le_refl _) (by omega) ⟨fun _ _ _ => rfl, fun _ _ => ⟨rfl, rfl⟩, fun x a1 a2 => absurd a1 (by omega)⟩ _ _ _ I (lv_sub hl [0, 1, 2, 3] rfl)

set_option maxHeartbeats 4000000 in
set_option maxRecDepth 100000 in
/-- percolate() -/
theorem metX0_percolate (l : Launch) (D : va_G) (h : Nat) (a : Nat → Nat) (d : Nat → ClassId) (S : ST) (ok : okC S) : mv_ l D clX (WX h a d) (TYX d) yX0_percolate cX0_percolate 4 none (rmX 2 46) [.ref h] S (fun S1 => ∃ n0, prP S S1 n0) := by
  refine mv_of (by decide) (Nat.le_of_ble_eq_true rfl) ?_
  intro p e s m below meth c A ls C0 hr hk hA I hl
  have C0 : CallFix p m c cX0_percolate 4 s ([.ref h] : List Value).toArray lw_all RX0 := C0
  have hl : lv_has ls 4 [(0, .ref h)] := hl
  have hx := C0.1
  have hb := C0.2.1
  refine lv_aload_n hx hb dX0_percolate_0 rfl (lv_at hl 0 rfl) ?_
  refine ig_get (C := RX0) (T := TX0) (N := 17) (ci := 0) (fs := FX a S) (v := .int (S 7 0)) C0 I in_X0 rfl rfl 7 (by decide) q39 rfl dX0_percolate_1 ?_
  refine lv_istore_n (lv' := [(1, .int (S 7 0)), (0, .ref h)]) hx hb dX0_percolate_4 rfl hl (by decide) rfl (fun ls hl => ?_)
  refine lv_iconst (v := 0) hx hb dX0_percolate_5 (by decide) ?_
  refine lv_istore_n (lv' := [(2, .int 0), (1, .int (S 7 0)), (0, .ref h)]) hx hb dX0_percolate_6 rfl hl (by decide) rfl (fun ls hl => ?_)
  have loop : ∀ (n : Nat) (t : Nat), t ≤ 24 → 24 < t + n → ∀ (H : Heap) (locs : List Loc) (ls : Array Slot), ig_ D clX (WX h a d) (TYX d) A s S H locs → lv_has ls 4 [(2, .int (nI t)), (1, .int (candG S t)), (0, .ref h)] → W p l e (rmX 2 46) s m ([.ref h] : List Value).toArray below meth c H locs 0 0 (MQ below (va_Qv (fun S1 => ∃ n0, prP S S1 n0) (bg_ D clX (WX h a d) (TYX d) A) A) ([.ref h] : List Value).toArray s 0 0 A) (F0 m 7 ls []) := by
    intro n
    induction n with
    | zero =>
      intro t h1 h2
      exact absurd h2 (by omega)
    | succ n ih =>
      intro t h1 h2 H locs ls I hl
      refine lv_iload_n hx hb dX0_percolate_7 rfl (lv_at hl 0 rfl) ?_
      refine lv_bipush (v := 24) hx hb dX0_percolate_8 (by decide) ?_
      refine lv_icmp_ge (tgt := 37) hx hb dX0_percolate_10 (by decide) (fun c10 => ?_) (fun c10 => ?_)
      · skip
        have hge : t = 24 := by
          have := (nI_leI (a := 24) (b := t) (by omega) (by omega)).mp c10
          omega
        subst hge
        refine lv_aload_n hx hb dX0_percolate_37 rfl (lv_at hl 2 rfl) ?_
        refine lv_iconst (v := 0) hx hb dX0_percolate_38 (by decide) ?_
        refine ig_put (C := RX0) (T := TX0) (N := 17) (ci := 0) (fs := FX a S) (v := 0) C0 I in_X0 tyX0 tyX0_ok nmX0 rfl rfl 14 (by decide) q46 rfl (by decide +kernel) (Nat.le_of_ble_eq_true rfl) (va_up S 14 (fun _ => 0)) rfl dX0_percolate_39 (fun H locs I => ?_)
        generalize eS1 : va_up S 14 (fun _ => 0) = S1 at I
        refine lv_iconst (v := 0) hx hb dX0_percolate_42 (by decide) ?_
        refine lv_istore_n (lv' := [(2, .int 0), (1, .int (candG S 24)), (0, .ref h)]) hx hb dX0_percolate_43 rfl hl (by decide) rfl (fun ls hl => ?_)
        have loop2 : ∀ (n : Nat) (q : Nat) (n0 : Nat) (Z : ST), q ≤ 12 → 12 < q + n → (same14 S Z ∧ Z 14 0 = nI n0 ∧ pcL (mqS S) (scQ S) q n0 (Z 15) (Z 16)) → ∀ (H : Heap) (locs : List Loc) (ls : Array Slot), ig_ D clX (WX h a d) (TYX d) A s Z H locs → lv_has ls 4 [(2, .int (nI q)), (1, .int (candG S 24)), (0, .ref h)] → W p l e (rmX 2 46) s m ([.ref h] : List Value).toArray below meth c H locs 0 0 (MQ below (va_Qv (fun S1 => ∃ n0, prP S S1 n0) (bg_ D clX (WX h a d) (TYX d) A) A) ([.ref h] : List Value).toArray s 0 0 A) (F0 m 44 ls []) := by
          intro n
          induction n with
          | zero =>
            intro q n0 Z h1 h2 hv
            exact absurd h2 (by omega)
          | succ n ih =>
            intro q n0 Z h1 h2 hv H locs ls I hl
            refine lv_iload_n hx hb dX0_percolate_44 rfl (lv_at hl 0 rfl) ?_
            refine lv_bipush (v := 12) hx hb dX0_percolate_45 (by decide) ?_
            refine lv_icmp_ge (tgt := 80) hx hb dX0_percolate_47 (by decide) (fun c47 => ?_) (fun c47 => ?_)
            · skip
              have hge : q = 12 := by
                have := (nI_leI (a := 12) (b := q) (by omega) (by omega)).mp c47
                omega
              subst hge
              exact ig_vret C0 hr hk I (⟨n0, hv.1, pc_le hv.2.2, hv.2.1, hv.2.2⟩) dX0_percolate_80
            · skip
              have hlt : q < 12 := by
                rcases Nat.lt_or_ge q 12 with q | q
                · exact q
                · exact absurd (nI_le q (by omega)) c47
              refine lv_iload_n hx hb dX0_percolate_50 rfl (lv_at hl 1 rfl) ?_
              refine lv_iload_n hx hb dX0_percolate_51 rfl (lv_at hl 0 rfl) ?_
              refine lv_ishr hx hb dX0_percolate_52 ?_
              refine lv_iconst (v := 1) hx hb dX0_percolate_53 (by decide) ?_
              refine lv_iand hx hb dX0_percolate_54 ?_
              refine lv_iconst (v := 1) hx hb dX0_percolate_55 (by decide) ?_
              refine lv_icmp_ne (tgt := 74) hx hb dX0_percolate_56 (by decide) (fun c56 => ?_) (fun c56 => ?_)
              · skip
                have hm : mqS S q = false := by rw [mqS, Bool.eq_false_iff.mpr (fun z => c56 ((b_ask (by omega) _).mpr z)), Bool.false_and]
                refine lv_iinc (v := nI (q + 1)) (lv' := [(2, .int (nI (q + 1))), (1, .int (candG S 24)), (0, .ref h)]) hx hb dX0_percolate_74 hl (k := 0) rfl (nI_1 q) (by decide) rfl (fun ls hl => ?_)
                refine lv_goto (tgt := 44) hx hb dX0_percolate_77 (by decide) ?_
                exact ih (q + 1) n0 Z (by omega) (by omega) ⟨hv.1, hv.2.1, pc_skip hm hv.2.2⟩ _ _ _ I (lv_sub hl [0, 1, 2] rfl)
              · skip
                have hb1 : bt (candG S 24) q = true := (b_ask (by omega) _).mp c56
                have hcl := clN_ok ok hlt
                have okZ := same14_ok hv.1 ok
                have eZ : Z 2 q = nI (clN S q) := by rw [hv.1 2 (by decide) (by decide) (by decide)]; exact hcl.2
                refine lv_aload_n hx hb dX0_percolate_59 rfl (lv_at hl 2 rfl) ?_
                refine lv_iload_n hx hb dX0_percolate_60 rfl (lv_at hl 0 rfl) ?_
                refine ig_calli (h := h) (As := [.int (nI q)]) (rest := []) (C := RX0) (T := TX0) (N := 17) (ci := 0) (fs := FX a Z) C0 hA I (metX0_check l D h a d Z q (clN S q) hlt hcl.1 eZ okZ) rfl rfl (lw_V q165 q167 qs9 q22 q168) 1 (by decide +kernel) rfl rfl ⟨by decide, by decide⟩ ⟨Nat.zero_le _, Nat.zero_le _⟩ rfl hl.1 (Nat.le_of_ble_eq_true rfl) dX0_percolate_61 rfl (fun r2 S4 H locs hp3 I _ => ?_)
                rw [hp3.1] at I
                refine lv_istore_n (lv' := [(3, .int r2), (2, .int (nI q)), (1, .int (candG S 24)), (0, .ref h)]) hx hb dX0_percolate_64 rfl hl (by decide) rfl (fun ls hl => ?_)
                refine lv_iload_n hx hb dX0_percolate_65 rfl (lv_at hl 0 rfl) ?_
                refine lv_if_eq (tgt := 74) hx hb dX0_percolate_66 (by decide) (fun c66 => ?_) (fun c66 => ?_)
                · skip
                  have hm : mqS S q = false := by rw [mqS, ← same14_ck hv.1, bI_0.mp (hp3.2.symm.trans c66), Bool.and_false]
                  refine lv_iinc (v := nI (q + 1)) (lv' := [(2, .int (nI (q + 1))), (3, .int r2), (1, .int (candG S 24)), (0, .ref h)]) hx hb dX0_percolate_74 hl (k := 1) rfl (nI_1 q) (by decide) rfl (fun ls hl => ?_)
                  refine lv_goto (tgt := 44) hx hb dX0_percolate_77 (by decide) ?_
                  exact ih (q + 1) n0 Z (by omega) (by omega) ⟨hv.1, hv.2.1, pc_skip hm hv.2.2⟩ _ _ _ I (lv_sub hl [0, 2, 3] rfl)
                · skip
                  have hm : mqS S q = true := by rw [mqS, hb1, ← same14_ck hv.1, bI_n0 (b := ckS Z q (clN S q)) (by rw [← hp3.2]; exact c66)]; rfl
                  have hle := pc_le hv.2.2
                  refine lv_aload_n hx hb dX0_percolate_69 rfl (lv_at hl 3 rfl) ?_
                  refine lv_iload_n hx hb dX0_percolate_70 rfl (lv_at hl 1 rfl) ?_
                  refine ig_callv (h := h) (As := [.int (nI q)]) (rest := []) (C := RX0) (T := TX0) (N := 17) (ci := 0) (fs := FX a Z) C0 hA I (metX0_keep l D h a d Z q (clN S q) hlt hcl.1 eZ okZ n0 (by omega) hv.2.1) rfl rfl (lw_V q173 q175 qs11 q22 q176) 1 (by decide +kernel) rfl rfl ⟨by decide, by decide⟩ ⟨Nat.zero_le _, Nat.zero_le _⟩ rfl hl.1 (Nat.le_of_ble_eq_true rfl) dX0_percolate_71 rfl (fun Z2 H locs hp6 I _ => ?_)
                  refine lv_iinc (v := nI (q + 1)) (lv' := [(2, .int (nI (q + 1))), (3, .int r2), (1, .int (candG S 24)), (0, .ref h)]) hx hb dX0_percolate_74 hl (k := 1) rfl (nI_1 q) (by decide) rfl (fun ls hl => ?_)
                  refine lv_goto (tgt := 44) hx hb dX0_percolate_77 (by decide) ?_
                  exact ih (q + 1) (n0 + 1) Z2 (by omega) (by omega) ⟨fun k a1 a2 a3 => (hp6.1 k a1 a2 a3).trans (hv.1 k a1 a2 a3), hp6.2.1, pc_ins hm hv.2.2 (by have := hp6.2.2; rw [same14_sc hv.1] at this; exact this)⟩ _ _ _ I (lv_sub hl [0, 2, 3] rfl)
        exact loop2 13 0 0 S1 (by omega) (by omega) ⟨fun k a1 a2 a3 => by rw [← eS1]; exact if_neg a1, by rw [← eS1]; rfl, pc_0⟩ _ _ _ I (lv_sub hl [0, 1, 2] rfl)
      · skip
        have hlt : t < 24 := by
          rcases Nat.lt_or_ge t 24 with q | q
          · exact q
          · exact absurd (nI_le q (by omega)) c10
        refine lv_aload_n hx hb dX0_percolate_13 rfl (lv_at hl 2 rfl) ?_
        refine ig_get (C := RX0) (T := TX0) (N := 17) (ci := 0) (fs := FX a S) (v := .ref (a 12)) C0 I in_X0 rfl rfl 12 (by decide) q44 rfl dX0_percolate_14 ?_
        refine lv_iload_n hx hb dX0_percolate_17 rfl (lv_at hl 0 rfl) ?_
        refine ig_ald C0 I 12 9 8 (a := a 12) (n := 24) (cA := d 12) rfl rfl t rfl (by omega) (by decide) dX0_percolate_18 ?_
        refine lv_if_le (tgt := 31) hx hb dX0_percolate_19 (by decide) (fun c19 => ?_) (fun c19 => ?_)
        · skip
          have ec : candG S (t + 1) = candG S t := by show (if _ then _ else _) = _; rw [if_neg (Int32.not_lt.mpr c19)]
          rw [← ec] at hl
          refine lv_iinc (v := nI (t + 1)) (lv' := [(2, .int (nI (t + 1))), (1, .int (candG S (t + 1))), (0, .ref h)]) hx hb dX0_percolate_31 hl (k := 0) rfl (nI_1 t) (by decide) rfl (fun ls hl => ?_)
          refine lv_goto (tgt := 7) hx hb dX0_percolate_34 (by decide) ?_
          exact ih (t + 1) (by omega) (by omega) _ _ _ I (lv_sub hl [0, 1, 2] rfl)
        · skip
          have ec : candG S (t + 1) = candG S t ||| S 6 t := by show (if _ then _ else _) = _; rw [if_pos (Int32.not_le.mp c19)]
          refine lv_iload_n hx hb dX0_percolate_22 rfl (lv_at hl 1 rfl) ?_
          refine lv_aload_n hx hb dX0_percolate_23 rfl (lv_at hl 2 rfl) ?_
          refine ig_get (C := RX0) (T := TX0) (N := 17) (ci := 0) (fs := FX a S) (v := .ref (a 6)) C0 I in_X0 rfl rfl 6 (by decide) q38 rfl dX0_percolate_24 ?_
          refine lv_iload_n hx hb dX0_percolate_27 rfl (lv_at hl 0 rfl) ?_
          refine ig_ald C0 I 6 7 6 (a := a 6) (n := 24) (cA := d 6) rfl rfl t rfl (by omega) (by decide) dX0_percolate_28 ?_
          refine lv_ior hx hb dX0_percolate_29 ?_
          refine lv_topi (fun v7 ev7 => ?_)
          obtain rfl : v7 = candG S (t + 1) := ev7.trans ec.symm
          refine lv_istore_n (lv' := [(1, .int (candG S (t + 1))), (2, .int (nI t)), (0, .ref h)]) hx hb dX0_percolate_30 rfl hl (by decide) rfl (fun ls hl => ?_)
          refine lv_iinc (v := nI (t + 1)) (lv' := [(2, .int (nI (t + 1))), (1, .int (candG S (t + 1))), (0, .ref h)]) hx hb dX0_percolate_31 hl (k := 1) rfl (nI_1 t) (by decide) rfl (fun ls hl => ?_)
          refine lv_goto (tgt := 7) hx hb dX0_percolate_34 (by decide) ?_
          exact ih (t + 1) (by omega) (by omega) _ _ _ I (lv_sub hl [0, 1, 2] rfl)
  exact loop 25 0 (by omega) (by omega) _ _ _ I (lv_sub hl [0, 1, 2] rfl)

set_option maxHeartbeats 4000000 in
set_option maxRecDepth 100000 in
/-- matches() -/
theorem metX0_matches (l : Launch) (D : va_G) (h : Nat) (a : Nat → Nat) (d : Nat → ClassId) (S : ST) (ok : okC S) : mi_ l D clX (WX h a d) (TYX d) yX0_matches cX0_matches 1 (some .int) (rmX 3 69) [.ref h] S (fun r S1 => ∃ n0, prP S S1 n0 ∧ r = nI n0) := by
  refine mi_of (by decide) (Nat.le_of_ble_eq_true rfl) ?_
  intro p e s m below meth c A ls C0 hr hk hA I hl
  have C0 : CallFix p m c cX0_matches 1 s ([.ref h] : List Value).toArray lw_all RX0 := C0
  have hl : lv_has ls 1 [(0, .ref h)] := hl
  have hx := C0.1
  have hb := C0.2.1
  refine lv_aload_n hx hb dX0_matches_0 rfl (lv_at hl 0 rfl) ?_
  refine ig_callv (h := h) (As := []) (rest := []) (C := RX0) (T := TX0) (N := 17) (ci := 0) (fs := FX a S) C0 hA I (metX0_percolate l D h a d S ok) rfl rfl (lw_V q161 q163 qs8 q22 q164) 0 (by decide +kernel) rfl rfl ⟨by decide, by decide⟩ ⟨Nat.zero_le _, Nat.zero_le _⟩ rfl hl.1 (Nat.le_of_ble_eq_true rfl) dX0_matches_1 rfl (fun S1 H locs hp2 I _ => ?_)
  obtain ⟨n0, hP⟩ := hp2
  refine lv_aload_n hx hb dX0_matches_4 rfl (lv_at hl 0 rfl) ?_
  refine ig_get (C := RX0) (T := TX0) (N := 17) (ci := 0) (fs := FX a S1) (v := .int (S1 14 0)) C0 I in_X0 rfl rfl 14 (by decide) q46 rfl dX0_matches_5 ?_
  refine lv_topi (fun v3 ev3 => ?_)
  obtain rfl : v3 = nI n0 := ev3.trans hP.2.2.1
  exact ig_iret C0 hr hk I (⟨n0, hP, rfl⟩) dX0_matches_8

theorem pin_n {p : Int32} {n : Nat} (hn : n ≤ 12) (h0 : ¬ p < 0) (h1 : p < nI n) : ∃ x, x < n ∧ p = nI x := by
  rcases pk_ix p (n := n) (by omega) with h | h | h
  · exact absurd h h0
  · exact absurd h1 (Int32.not_lt.mpr h)
  · exact h

set_option maxHeartbeats 4000000 in
set_option maxRecDepth 100000 in
/-- match(i) -/
theorem metX0_match (l : Launch) (D : va_G) (h : Nat) (a : Nat → Nat) (d : Nat → ClassId) (S : ST) (ok : okC S) (p0 : Int32) : mi_ l D clX (WX h a d) (TYX d) yX0_match cX0_match 2 (some .int) (rmX 3 69) [.ref h, .int p0] S (fun r S1 => ∃ n0, prP S S1 n0 ∧ ((∃ x, x < n0 ∧ p0 = nI x ∧ r = S1 15 x) ∨ ((∀ x, x < n0 → ¬ p0 = nI x) ∧ r = -5))) := by
  refine mi_of (by decide) (Nat.le_of_ble_eq_true rfl) ?_
  intro p e s m below meth c A ls C0 hr hk hA I hl
  have C0 : CallFix p m c cX0_match 2 s ([.ref h, .int p0] : List Value).toArray lw_all RX0 := C0
  have hl : lv_has ls 2 [(0, .ref h), (1, .int p0)] := hl
  have hx := C0.1
  have hb := C0.2.1
  refine lv_aload_n hx hb dX0_match_0 rfl (lv_at hl 0 rfl) ?_
  refine ig_callv (h := h) (As := []) (rest := []) (C := RX0) (T := TX0) (N := 17) (ci := 0) (fs := FX a S) C0 hA I (metX0_percolate l D h a d S ok) rfl rfl (lw_V q161 q163 qs8 q22 q164) 0 (by decide +kernel) rfl rfl ⟨by decide, by decide⟩ ⟨Nat.zero_le _, Nat.zero_le _⟩ rfl hl.1 (Nat.le_of_ble_eq_true rfl) dX0_match_1 rfl (fun S1 H locs hp2 I _ => ?_)
  obtain ⟨n0, hP⟩ := hp2
  have hn0 := hP.2.1
  refine lv_iload_n hx hb dX0_match_4 rfl (lv_at hl 1 rfl) ?_
  refine lv_if_lt (tgt := 16) hx hb dX0_match_5 (by decide) (fun c5 => ?_) (fun c5 => ?_)
  · skip
    refine lv_bipush (v := (-5)) hx hb dX0_match_16 (by decide) ?_
    refine lv_goto (tgt := 27) hx hb dX0_match_18 (by decide) ?_
    exact ig_iret C0 hr hk I (⟨n0, hP, Or.inr ⟨fun x hx z => nI_pos (n := x) (by omega) (by rw [← z]; exact c5), rfl⟩⟩) dX0_match_27
  · skip
    refine lv_iload_n hx hb dX0_match_8 rfl (lv_at hl 1 rfl) ?_
    refine lv_aload_n hx hb dX0_match_9 rfl (lv_at hl 0 rfl) ?_
    refine ig_get (C := RX0) (T := TX0) (N := 17) (ci := 0) (fs := FX a S1) (v := .int (S1 14 0)) C0 I in_X0 rfl rfl 14 (by decide) q46 rfl dX0_match_10 ?_
    refine lv_topi (fun v3 ev3 => ?_)
    obtain rfl : v3 = nI n0 := ev3.trans hP.2.2.1
    refine lv_icmp_lt (tgt := 21) hx hb dX0_match_13 (by decide) (fun c13 => ?_) (fun c13 => ?_)
    · skip
      obtain ⟨x, hx1, rfl⟩ := pin_n hn0 c5 c13
      refine lv_aload_n hx hb dX0_match_21 rfl (lv_at hl 0 rfl) ?_
      refine ig_get (C := RX0) (T := TX0) (N := 17) (ci := 0) (fs := FX a S1) (v := .ref (a 15)) C0 I in_X0 rfl rfl 15 (by decide) q47 rfl dX0_match_22 ?_
      refine lv_iload_n hx hb dX0_match_25 rfl (lv_at hl 1 rfl) ?_
      refine ig_ald C0 I 15 11 10 (a := a 15) (n := 12) (cA := d 15) rfl rfl x rfl (by omega) (by decide) dX0_match_26 ?_
      exact ig_iret C0 hr hk I (⟨n0, hP, Or.inl ⟨x, hx1, rfl, rfl⟩⟩) dX0_match_27
    · skip
      refine lv_bipush (v := (-5)) hx hb dX0_match_16 (by decide) ?_
      refine lv_goto (tgt := 27) hx hb dX0_match_18 (by decide) ?_
      exact ig_iret C0 hr hk I (⟨n0, hP, Or.inr ⟨fun x hx z => c13 (by rw [z]; exact nI_lt hx (by omega)), rfl⟩⟩) dX0_match_27

set_option maxHeartbeats 4000000 in
set_option maxRecDepth 100000 in
/-- score(i) -/
theorem metX0_score (l : Launch) (D : va_G) (h : Nat) (a : Nat → Nat) (d : Nat → ClassId) (S : ST) (ok : okC S) (p0 : Int32) : mi_ l D clX (WX h a d) (TYX d) yX0_score cX0_score 2 (some .int) (rmX 3 69) [.ref h, .int p0] S (fun r S1 => ∃ n0, prP S S1 n0 ∧ ((∃ x, x < n0 ∧ p0 = nI x ∧ r = S1 16 x) ∨ ((∀ x, x < n0 → ¬ p0 = nI x) ∧ r = 0))) := by
  refine mi_of (by decide) (Nat.le_of_ble_eq_true rfl) ?_
  intro p e s m below meth c A ls C0 hr hk hA I hl
  have C0 : CallFix p m c cX0_score 2 s ([.ref h, .int p0] : List Value).toArray lw_all RX0 := C0
  have hl : lv_has ls 2 [(0, .ref h), (1, .int p0)] := hl
  have hx := C0.1
  have hb := C0.2.1
  refine lv_aload_n hx hb dX0_score_0 rfl (lv_at hl 0 rfl) ?_
  refine ig_callv (h := h) (As := []) (rest := []) (C := RX0) (T := TX0) (N := 17) (ci := 0) (fs := FX a S) C0 hA I (metX0_percolate l D h a d S ok) rfl rfl (lw_V q161 q163 qs8 q22 q164) 0 (by decide +kernel) rfl rfl ⟨by decide, by decide⟩ ⟨Nat.zero_le _, Nat.zero_le _⟩ rfl hl.1 (Nat.le_of_ble_eq_true rfl) dX0_score_1 rfl (fun S1 H locs hp2 I _ => ?_)
  obtain ⟨n0, hP⟩ := hp2
  have hn0 := hP.2.1
  refine lv_iload_n hx hb dX0_score_4 rfl (lv_at hl 1 rfl) ?_
  refine lv_if_lt (tgt := 16) hx hb dX0_score_5 (by decide) (fun c5 => ?_) (fun c5 => ?_)
  · skip
    refine lv_iconst (v := 0) hx hb dX0_score_16 (by decide) ?_
    refine lv_goto (tgt := 26) hx hb dX0_score_17 (by decide) ?_
    exact ig_iret C0 hr hk I (⟨n0, hP, Or.inr ⟨fun x hx z => nI_pos (n := x) (by omega) (by rw [← z]; exact c5), rfl⟩⟩) dX0_score_26
  · skip
    refine lv_iload_n hx hb dX0_score_8 rfl (lv_at hl 1 rfl) ?_
    refine lv_aload_n hx hb dX0_score_9 rfl (lv_at hl 0 rfl) ?_
    refine ig_get (C := RX0) (T := TX0) (N := 17) (ci := 0) (fs := FX a S1) (v := .int (S1 14 0)) C0 I in_X0 rfl rfl 14 (by decide) q46 rfl dX0_score_10 ?_
    refine lv_topi (fun v3 ev3 => ?_)
    obtain rfl : v3 = nI n0 := ev3.trans hP.2.2.1
    refine lv_icmp_lt (tgt := 20) hx hb dX0_score_13 (by decide) (fun c13 => ?_) (fun c13 => ?_)
    · skip
      obtain ⟨x, hx1, rfl⟩ := pin_n hn0 c5 c13
      refine lv_aload_n hx hb dX0_score_20 rfl (lv_at hl 0 rfl) ?_
      refine ig_get (C := RX0) (T := TX0) (N := 17) (ci := 0) (fs := FX a S1) (v := .ref (a 16)) C0 I in_X0 rfl rfl 16 (by decide) q48 rfl dX0_score_21 ?_
      refine lv_iload_n hx hb dX0_score_24 rfl (lv_at hl 1 rfl) ?_
      refine ig_ald C0 I 16 12 11 (a := a 16) (n := 12) (cA := d 16) rfl rfl x rfl (by omega) (by decide) dX0_score_25 ?_
      exact ig_iret C0 hr hk I (⟨n0, hP, Or.inl ⟨x, hx1, rfl, rfl⟩⟩) dX0_score_26
    · skip
      refine lv_iconst (v := 0) hx hb dX0_score_16 (by decide) ?_
      refine lv_goto (tgt := 26) hx hb dX0_score_17 (by decide) ?_
      exact ig_iret C0 hr hk I (⟨n0, hP, Or.inr ⟨fun x hx z => c13 (by rw [z]; exact nI_lt hx (by omega)), rfl⟩⟩) dX0_score_26

set_option maxHeartbeats 4000000 in
set_option maxRecDepth 100000 in
/-- matchesQuery(q) -/
theorem metX0_matchesQuery (l : Launch) (D : va_G) (h : Nat) (a : Nat → Nat) (d : Nat → ClassId) (S : ST) (ok : okC S) (p0 : Int32) : mi_ l D clX (WX h a d) (TYX d) yX0_matchesQuery cX0_matchesQuery 2 (some .boolean) (rmX 2 45) [.ref h, .int p0] S (fun r S1 => S1 = S ∧ ((¬ isQ S p0 ∧ r = 0) ∨ ∃ Q, Q < 12 ∧ p0 = nI Q ∧ ¬ S 0 Q = 0 ∧ r = bI (ckS S Q (clN S Q)))) := by
  refine mi_of (by decide) (Nat.le_of_ble_eq_true rfl) ?_
  intro p e s m below meth c A ls C0 hr hk hA I hl
  have C0 : CallFix p m c cX0_matchesQuery 2 s ([.ref h, .int p0] : List Value).toArray lw_all RX0 := C0
  have hl : lv_has ls 2 [(0, .ref h), (1, .int p0)] := hl
  have hx := C0.1
  have hb := C0.2.1
  refine lv_aload_n hx hb dX0_matchesQuery_0 rfl (lv_at hl 0 rfl) ?_
  refine lv_iload_n hx hb dX0_matchesQuery_1 rfl (lv_at hl 1 rfl) ?_
  refine ig_calli (h := h) (As := [.int p0]) (rest := []) (C := RX0) (T := TX0) (N := 17) (ci := 0) (fs := FX a S) C0 hA I (metX0_noQuery l D h a d S p0) rfl rfl (lw_V q114 q116 qs5 q22 q117) 1 (by decide +kernel) rfl rfl ⟨by decide, by decide⟩ ⟨Nat.zero_le _, Nat.zero_le _⟩ rfl hl.1 (Nat.le_of_ble_eq_true rfl) dX0_matchesQuery_2 rfl (fun r1 S3 H locs hp2 I _ => ?_)
  rw [hp2.1] at I
  refine lv_if_eq (tgt := 10) hx hb dX0_matchesQuery_5 (by decide) (fun c5 => ?_) (fun c5 => ?_)
  · skip
    have hq : isQ S p0 := by
      rcases hp2.2 with q | q
      · exact absurd (q.1.symm.trans c5) (by decide)
      · exact q.2
    obtain ⟨Q, hQ, rfl, hu⟩ := hq
    have hcl := clN_ok ok hQ
    refine lv_aload_n hx hb dX0_matchesQuery_10 rfl (lv_at hl 0 rfl) ?_
    refine lv_iload_n hx hb dX0_matchesQuery_11 rfl (lv_at hl 1 rfl) ?_
    refine ig_calli (h := h) (As := [.int (nI Q)]) (rest := []) (C := RX0) (T := TX0) (N := 17) (ci := 0) (fs := FX a S) C0 hA I (metX0_check l D h a d S Q (clN S Q) hQ hcl.1 hcl.2 ok) rfl rfl (lw_V q165 q167 qs9 q22 q168) 1 (by decide +kernel) rfl rfl ⟨by decide, by decide⟩ ⟨Nat.zero_le _, Nat.zero_le _⟩ rfl hl.1 (Nat.le_of_ble_eq_true rfl) dX0_matchesQuery_12 rfl (fun r4 S6 H locs hp5 I _ => ?_)
    rw [hp5.1] at I
    exact ig_zret C0 hr hk I (by rw [hp5.2]; exact bI_nar _) (⟨rfl, Or.inr ⟨Q, hQ, rfl, hu, hp5.2⟩⟩) dX0_matchesQuery_15
  · skip
    have hq : ¬ isQ S p0 := by
      rcases hp2.2 with q | q
      · exact q.2
      · exact absurd q.1 c5
    refine lv_iconst (v := 0) hx hb dX0_matchesQuery_8 (by decide) ?_
    exact ig_zret C0 hr hk I rfl (⟨rfl, Or.inl ⟨hq, rfl⟩⟩) dX0_matchesQuery_9
end
section
/-! ===== PercolatorModel (its state is S here too) ===== -/
def ofG (w : Nat → Int32) (t : Int32) : Nat → Nat
  | 0 => 0
  | n + 1 => if w n = t then ofG w t n + 1 else ofG w t n
def bsB (w : Nat → Int32) (t u : Int32) : Nat → Bool
  | 0 => false
  | n + 1 => bsB w t u n || (decide (w n = t) && decide (w (n + 1) = u))
theorem bsB_mono {w : Nat → Int32} {t u : Int32} {n : Nat} (h : bsB w t u n = true) : ∀ m, n ≤ m → bsB w t u m = true
  | 0, hm => by rw [show n = 0 by omega] at h; exact h
  | m + 1, hm => by
    by_cases e : n = m + 1
    · rw [e] at h; exact h
    · rw [bsB, bsB_mono h m (by omega), Bool.true_or]
def cnM (S : ST) (L : Nat) (t : Int32) : Int32 := nI (ofG (S 6) t L)
def bsM (S : ST) (L : Nat) (t u : Int32) : Bool := bsB (S 6) t u (L - 1)
def hM (S : ST) (L j : Nat) : Bool := if S 3 j = 1 then decide (cnM S L (S 4 j) = 0) else if S 3 j = 3 then bsM S L (S 4 j) (S 5 j) else if S 3 j = 4 then (decide (S 4 j ≤ S 8 0) && decide (S 8 0 ≤ S 5 j)) else decide (0 < cnM S L (S 4 j))
def ckM (S : ST) (L Q c : Nat) : Bool := ckG (S 3) (S 4) (S 5) (cnM S L) (bsM S L) (S 8 0) (S 1 Q) c (Q * 6) 0
def scM (S : ST) (L Q c : Nat) : Int32 := scG (S 3) (S 4) (cnM S L) (Q * 6) c
def mqM (S : ST) (L q : Nat) : Bool := !decide (S 0 q = 0) && ckM S L q (clN S q)
def scN (S : ST) (L q : Nat) : Int32 := scM S L q (clN S q)
theorem hM_2 {S : ST} {L j : Nat} (e : S 3 j = 2) : hM S L j = decide (0 < cnM S L (S 4 j)) := by unfold hM; rw [e]; rfl
theorem hM_n2 {S : ST} {L j : Nat} (ok : okC S) (hj : j < 72) (e : ¬ S 3 j = 2) : hM S L j = hG (S 3) (S 4) (S 5) (cnM S L) (bsM S L) (S 8 0) j := by
  obtain ⟨k, hk, ek⟩ := ok.2.2.1 j hj
  rcases (show k = 0 ∨ k = 1 ∨ k = 2 ∨ k = 3 ∨ k = 4 by omega) with rfl | rfl | rfl | rfl | rfl
  · rw [hG_0 ek]; unfold hM; rw [ek]; rfl
  · rw [hG_1 ek]; unfold hM; rw [ek]; rfl
  · exact absurd ek e
  · rw [hG_3 ek]; unfold hM; rw [ek]; rfl
  · rw [hG_4 ek]; unfold hM; rw [ek]; rfl
def maddP (S : ST) (p w x y r : Int32) (S' : ST) : Prop := (¬ isQ S p ∧ r = -1 ∧ S' = S) ∨ (isQ S p ∧ w ≤ 3 ∧ ¬ (isT x ∧ isT y) ∧ r = -2 ∧ S' = S) ∨ ((w ≤ 3 → isT x ∧ isT y) ∧ ∃ Q c, Q < 12 ∧ p = nI Q ∧ ¬ S 0 Q = 0 ∧ c ≤ 6 ∧ S 2 Q = nI c ∧ ((c = 6 ∧ r = -3 ∧ S' = S) ∨ (c < 6 ∧ r = nI (c + 1) ∧ S' = ad5 S Q c w x y)))
def mremP (S : ST) (p r : Int32) (S' : ST) : Prop := (¬ isQ S p ∧ r = -1 ∧ S' = S) ∨ ∃ Q, Q < 12 ∧ p = nI Q ∧ ¬ S 0 Q = 0 ∧ S' = va_up S 0 (upd (S 0) Q 0) ∧ r = nI (cntU (S' 0) 12)
def mwordP (S : ST) (L : Nat) (p r : Int32) (S' : ST) : Prop := (¬ isT p ∧ r = -2 ∧ S' = S) ∨ (isT p ∧ L = 16 ∧ r = -3 ∧ S' = S) ∨ (isT p ∧ L < 16 ∧ r = nI (L + 1) ∧ S' = va_up (va_up S 6 (upd (S 6) L p)) 7 (fun _ => nI (L + 1)))
theorem nT_lt {p : Int32} (h : p < 0) : ¬ isT p := fun ⟨t, ht, e⟩ => nI_pos (n := t) (by omega) (by rw [← e]; exact h)
theorem nT_ge {p : Int32} (h : (24 : Int32) ≤ p) : ¬ isT p := fun ⟨t, ht, e⟩ => nge_nI (n := 24) (k := t) (by decide) (by omega) ht (by rw [← e]; exact h)

set_option maxHeartbeats 4000000 in
set_option maxRecDepth 100000 in
/-- isQuery(q) -/
theorem metX1_isQuery (l : Launch) (D : va_G) (h : Nat) (a : Nat → Nat) (d : Nat → ClassId) (S : ST) (p0 : Int32) : mi_ l D clX (WM h a d) (TYM d) yX1_isQuery cX1_isQuery 2 (some .boolean) (rmX 0 0) [.ref h, .int p0] S (fun r S1 => S1 = S ∧ ((r = 0 ∧ ¬ isQ S p0) ∨ (r = 1 ∧ isQ S p0))) := by
  refine mi_of (by decide) (Nat.le_of_ble_eq_true rfl) ?_
  intro p e s m below meth c A ls C0 hr hk hA I hl
  have C0 : CallFix p m c cX1_isQuery 2 s ([.ref h, .int p0] : List Value).toArray lw_all RX1 := C0
  have hl : lv_has ls 2 [(0, .ref h), (1, .int p0)] := hl
  have hx := C0.1
  have hb := C0.2.1
  refine lv_iload_n hx hb dX1_isQuery_0 rfl (lv_at hl 1 rfl) ?_
  refine lv_if_lt (tgt := 23) hx hb dX1_isQuery_1 (by decide) (fun c1 => ?_) (fun c1 => ?_)
  · skip
    refine lv_iconst (v := 0) hx hb dX1_isQuery_23 (by decide) ?_
    exact ig_zret C0 hr hk I rfl (⟨rfl, Or.inl ⟨rfl, nq_lt c1⟩⟩) dX1_isQuery_24
  · skip
    refine lv_iload_n hx hb dX1_isQuery_4 rfl (lv_at hl 1 rfl) ?_
    refine lv_bipush (v := 12) hx hb dX1_isQuery_5 (by decide) ?_
    refine lv_icmp_ge (tgt := 23) hx hb dX1_isQuery_7 (by decide) (fun c7 => ?_) (fun c7 => ?_)
    · skip
      refine lv_iconst (v := 0) hx hb dX1_isQuery_23 (by decide) ?_
      exact ig_zret C0 hr hk I rfl (⟨rfl, Or.inl ⟨rfl, nq_ge c7⟩⟩) dX1_isQuery_24
    · skip
      obtain ⟨Q, hQ, rfl⟩ := pin_12 c1 c7
      refine lv_aload_n hx hb dX1_isQuery_10 rfl (lv_at hl 0 rfl) ?_
      refine ig_get (C := RX1) (T := TX1) (N := 9) (ci := 1) (fs := FM a S) (v := .ref (a 0)) C0 I in_X1 rfl rfl 0 (by decide) q199 rfl dX1_isQuery_11 ?_
      refine lv_iload_n hx hb dX1_isQuery_14 rfl (lv_at hl 1 rfl) ?_
      refine ig_zald C0 I 0 1 0 (a := a 0) (n := 12) (cA := d 0) rfl rfl Q rfl (by omega) (by decide) dX1_isQuery_15 ?_
      refine lv_if_eq (tgt := 23) hx hb dX1_isQuery_16 (by decide) (fun c16 => ?_) (fun c16 => ?_)
      · skip
        refine lv_iconst (v := 0) hx hb dX1_isQuery_23 (by decide) ?_
        exact ig_zret C0 hr hk I rfl (⟨rfl, Or.inl ⟨rfl, nq_0 hQ c16⟩⟩) dX1_isQuery_24
      · skip
        refine lv_iconst (v := 1) hx hb dX1_isQuery_19 (by decide) ?_
        refine lv_goto (tgt := 24) hx hb dX1_isQuery_20 (by decide) ?_
        exact ig_zret C0 hr hk I rfl (⟨rfl, Or.inr ⟨rfl, Q, hQ, rfl, c16⟩⟩) dX1_isQuery_24

set_option maxHeartbeats 4000000 in
set_option maxRecDepth 100000 in
/-- isTerm(t) -/
theorem metX1_isTerm (l : Launch) (D : va_G) (h : Nat) (a : Nat → Nat) (d : Nat → ClassId) (S : ST) (p0 : Int32) : mi_ l D clX (WM h a d) (TYM d) yX1_isTerm cX1_isTerm 2 (some .boolean) (rmX 0 0) [.ref h, .int p0] S (fun r S1 => S1 = S ∧ ((r = 0 ∧ ¬ isT p0) ∨ (r = 1 ∧ isT p0))) := by
  refine mi_of (by decide) (Nat.le_of_ble_eq_true rfl) ?_
  intro p e s m below meth c A ls C0 hr hk hA I hl
  have C0 : CallFix p m c cX1_isTerm 2 s ([.ref h, .int p0] : List Value).toArray lw_all RX1 := C0
  have hl : lv_has ls 2 [(0, .ref h), (1, .int p0)] := hl
  have hx := C0.1
  have hb := C0.2.1
  refine lv_iload_n hx hb dX1_isTerm_0 rfl (lv_at hl 1 rfl) ?_
  refine lv_if_lt (tgt := 14) hx hb dX1_isTerm_1 (by decide) (fun c1 => ?_) (fun c1 => ?_)
  · skip
    refine lv_iconst (v := 0) hx hb dX1_isTerm_14 (by decide) ?_
    exact ig_zret C0 hr hk I rfl (⟨rfl, Or.inl ⟨rfl, nT_lt c1⟩⟩) dX1_isTerm_15
  · skip
    refine lv_iload_n hx hb dX1_isTerm_4 rfl (lv_at hl 1 rfl) ?_
    refine lv_bipush (v := 24) hx hb dX1_isTerm_5 (by decide) ?_
    refine lv_icmp_ge (tgt := 14) hx hb dX1_isTerm_7 (by decide) (fun c7 => ?_) (fun c7 => ?_)
    · skip
      refine lv_iconst (v := 0) hx hb dX1_isTerm_14 (by decide) ?_
      exact ig_zret C0 hr hk I rfl (⟨rfl, Or.inl ⟨rfl, nT_ge c7⟩⟩) dX1_isTerm_15
    · skip
      refine lv_iconst (v := 1) hx hb dX1_isTerm_10 (by decide) ?_
      refine lv_goto (tgt := 15) hx hb dX1_isTerm_11 (by decide) ?_
      exact ig_zret C0 hr hk I rfl (⟨rfl, Or.inr ⟨rfl, pin_24 c1 c7⟩⟩) dX1_isTerm_15

set_option maxHeartbeats 4000000 in
set_option maxRecDepth 100000 in
/-- create(least) -/
theorem metX1_create (l : Launch) (D : va_G) (h : Nat) (a : Nat → Nat) (d : Nat → ClassId) (S : ST) (p0 : Int32) : mi_ l D clX (WM h a d) (TYM d) yX1_create cX1_create 3 (some .int) (rmX 0 0) [.ref h, .int p0] S (fun r S1 => crP S p0 r S1 (fun Q => S1 = cr3 S Q p0)) := by
  refine mi_of (by decide) (Nat.le_of_ble_eq_true rfl) ?_
  intro p e s m below meth c A ls C0 hr hk hA I hl
  have C0 : CallFix p m c cX1_create 3 s ([.ref h, .int p0] : List Value).toArray lw_all RX1 := C0
  have hl : lv_has ls 3 [(0, .ref h), (1, .int p0)] := hl
  have hx := C0.1
  have hb := C0.2.1
  refine lv_iload_n hx hb dX1_create_0 rfl (lv_at hl 1 rfl) ?_
  refine lv_if_lt (tgt := 10) hx hb dX1_create_1 (by decide) (fun c1 => ?_) (fun c1 => ?_)
  · skip
    refine lv_bipush (v := (-4)) hx hb dX1_create_10 (by decide) ?_
    exact ig_iret C0 hr hk I (Or.inl ⟨Or.inl c1, rfl, rfl⟩) dX1_create_12
  · skip
    refine lv_iload_n hx hb dX1_create_4 rfl (lv_at hl 1 rfl) ?_
    refine lv_bipush (v := 6) hx hb dX1_create_5 (by decide) ?_
    refine lv_icmp_le (tgt := 13) hx hb dX1_create_7 (by decide) (fun c7 => ?_) (fun c7 => ?_)
    · skip
      refine lv_iconst (v := 0) hx hb dX1_create_13 (by decide) ?_
      refine lv_istore_n (lv' := [(2, .int 0), (0, .ref h), (1, .int p0)]) hx hb dX1_create_14 rfl hl (by decide) rfl (fun ls hl => ?_)
      have loop : ∀ (n : Nat) (q : Nat), q ≤ 12 → 12 < q + n → (∀ j, j < q → ¬ S 0 j = 0) → ∀ (H : Heap) (locs : List Loc) (ls : Array Slot), ig_ D clX (WM h a d) (TYM d) A s S H locs → lv_has ls 3 [(2, .int (nI q)), (0, .ref h), (1, .int p0)] → W p l e (rmX 0 0) s m ([.ref h, .int p0] : List Value).toArray below meth c H locs 0 0 (MQ below (va_Qi (fun r S1 => crP S p0 r S1 (fun Q => S1 = cr3 S Q p0)) (bg_ D clX (WM h a d) (TYM d) A) A) ([.ref h, .int p0] : List Value).toArray s 0 0 A) (F0 m 15 ls []) := by
        intro n
        induction n with
        | zero =>
          intro q h1 h2 hv
          exact absurd h2 (by omega)
        | succ n ih =>
          intro q h1 h2 hv H locs ls I hl
          refine lv_iload_n hx hb dX1_create_15 rfl (lv_at hl 0 rfl) ?_
          refine lv_bipush (v := 12) hx hb dX1_create_16 (by decide) ?_
          refine lv_icmp_ge (tgt := 59) hx hb dX1_create_18 (by decide) (fun c18 => ?_) (fun c18 => ?_)
          · skip
            have hge : q = 12 := by
              have := (nI_leI (a := 12) (b := q) (by omega) (by omega)).mp c18
              omega
            subst hge
            refine lv_bipush (v := (-3)) hx hb dX1_create_59 (by decide) ?_
            exact ig_iret C0 hr hk I (Or.inr ⟨⟨c1, c7⟩, Or.inl ⟨hv, rfl, rfl⟩⟩) dX1_create_61
          · skip
            have hlt : q < 12 := by
              rcases Nat.lt_or_ge q 12 with q | q
              · exact q
              · exact absurd (nI_le q (by omega)) c18
            refine lv_aload_n hx hb dX1_create_21 rfl (lv_at hl 1 rfl) ?_
            refine ig_get (C := RX1) (T := TX1) (N := 9) (ci := 1) (fs := FM a S) (v := .ref (a 0)) C0 I in_X1 rfl rfl 0 (by decide) q199 rfl dX1_create_22 ?_
            refine lv_iload_n hx hb dX1_create_25 rfl (lv_at hl 0 rfl) ?_
            refine ig_zald C0 I 0 1 0 (a := a 0) (n := 12) (cA := d 0) rfl rfl q rfl (by omega) (by decide) dX1_create_26 ?_
            refine lv_if_ne (tgt := 53) hx hb dX1_create_27 (by decide) (fun c27 => ?_) (fun c27 => ?_)
            · skip
              refine lv_iinc (v := nI (q + 1)) (lv' := [(2, .int (nI (q + 1))), (0, .ref h), (1, .int p0)]) hx hb dX1_create_53 hl (k := 0) rfl (nI_1 q) (by decide) rfl (fun ls hl => ?_)
              refine lv_goto (tgt := 15) hx hb dX1_create_56 (by decide) ?_
              refine ih (q + 1) (by omega) (by omega) (fun j hj => ?_) _ _ _ I (lv_sub hl [0, 1, 2] rfl)
              rcases Nat.lt_or_ge j q with z | z
              · exact hv j z
              · rw [show j = q by omega]; exact c27
            · skip
              refine lv_aload_n hx hb dX1_create_30 rfl (lv_at hl 1 rfl) ?_
              refine ig_get (C := RX1) (T := TX1) (N := 9) (ci := 1) (fs := FM a S) (v := .ref (a 0)) C0 I in_X1 rfl rfl 0 (by decide) q199 rfl dX1_create_31 ?_
              refine lv_iload_n hx hb dX1_create_34 rfl (lv_at hl 0 rfl) ?_
              refine lv_iconst (v := 1) hx hb dX1_create_35 (by decide) ?_
              refine ig_zast C0 I 0 1 0 (a := a 0) (n := 12) (cA := d 0) rfl rfl rfl q rfl (by omega) (by decide) (va_up S 0 (upd (S 0) q 1)) rfl dX1_create_36 (fun H locs I => ?_)
              generalize eS1 : va_up S 0 (upd (S 0) q 1) = S1 at I
              refine lv_aload_n hx hb dX1_create_37 rfl (lv_at hl 1 rfl) ?_
              refine ig_get (C := RX1) (T := TX1) (N := 9) (ci := 1) (fs := FM a S1) (v := .ref (a 1)) C0 I in_X1 rfl rfl 1 (by decide) q200 rfl dX1_create_38 ?_
              refine lv_iload_n hx hb dX1_create_41 rfl (lv_at hl 0 rfl) ?_
              refine lv_iload_n hx hb dX1_create_42 rfl (lv_at hl 2 rfl) ?_
              refine ig_ast C0 I 1 2 1 (a := a 1) (n := 12) (cA := d 1) rfl rfl q rfl (by omega) (by decide) (va_up S1 1 (upd (S1 1) q p0)) rfl dX1_create_43 (fun H locs I => ?_)
              generalize eS2 : va_up S1 1 (upd (S1 1) q p0) = S2 at I
              refine lv_aload_n hx hb dX1_create_44 rfl (lv_at hl 1 rfl) ?_
              refine ig_get (C := RX1) (T := TX1) (N := 9) (ci := 1) (fs := FM a S2) (v := .ref (a 2)) C0 I in_X1 rfl rfl 2 (by decide) q201 rfl dX1_create_45 ?_
              refine lv_iload_n hx hb dX1_create_48 rfl (lv_at hl 0 rfl) ?_
              refine lv_iconst (v := 0) hx hb dX1_create_49 (by decide) ?_
              refine ig_ast C0 I 2 3 2 (a := a 2) (n := 12) (cA := d 2) rfl rfl q rfl (by omega) (by decide) (va_up S2 2 (upd (S2 2) q 0)) rfl dX1_create_50 (fun H locs I => ?_)
              generalize eS3 : va_up S2 2 (upd (S2 2) q 0) = S3 at I
              refine lv_iload_n hx hb dX1_create_51 rfl (lv_at hl 0 rfl) ?_
              exact ig_iret C0 hr hk I (Or.inr ⟨⟨c1, c7⟩, Or.inr ⟨q, hlt, hv, c27, rfl, by rw [← eS3, ← eS2, ← eS1]; rfl⟩⟩) dX1_create_52
      exact loop 13 0 (by omega) (by omega) (fun j hj => absurd hj (by omega)) _ _ _ I (lv_sub hl [0, 1, 2] rfl)
    · skip
      refine lv_bipush (v := (-4)) hx hb dX1_create_10 (by decide) ?_
      exact ig_iret C0 hr hk I (Or.inl ⟨Or.inr c7, rfl, rfl⟩) dX1_create_12

set_option maxHeartbeats 4000000 in
set_option maxRecDepth 100000 in
/-- add(q, kind, a, b) -/
theorem metX1_add (l : Launch) (D : va_G) (h : Nat) (a : Nat → Nat) (d : Nat → ClassId) (S : ST) (ok : okC S) (p0 w0 x0 y0 : Int32) : mi_ l D clX (WM h a d) (TYM d) yX1_add cX1_add 6 (some .int) (rmX 1 21) [.ref h, .int p0, .int w0, .int x0, .int y0] S (fun r S1 => maddP S p0 w0 x0 y0 r S1) := by
  refine mi_of (by decide) (Nat.le_of_ble_eq_true rfl) ?_
  intro p e s m below meth c A ls C0 hr hk hA I hl
  have C0 : CallFix p m c cX1_add 6 s ([.ref h, .int p0, .int w0, .int x0, .int y0] : List Value).toArray lw_all RX1 := C0
  have hl : lv_has ls 6 [(0, .ref h), (1, .int p0), (2, .int w0), (3, .int x0), (4, .int y0)] := hl
  have hx := C0.1
  have hb := C0.2.1
  refine lv_aload_n hx hb dX1_add_0 rfl (lv_at hl 0 rfl) ?_
  refine lv_iload_n hx hb dX1_add_1 rfl (lv_at hl 1 rfl) ?_
  refine ig_calli (h := h) (As := [.int p0]) (rest := []) (C := RX1) (T := TX1) (N := 9) (ci := 1) (fs := FM a S) C0 hA I (metX1_isQuery l D h a d S p0) rfl rfl (lw_V q239 q241 qs14 q23 q242) 1 (by decide +kernel) rfl rfl ⟨by decide, by decide⟩ ⟨Nat.zero_le _, Nat.zero_le _⟩ rfl hl.1 (Nat.le_of_ble_eq_true rfl) dX1_add_2 rfl (fun r1 S3 H locs hp2 I _ => ?_)
  rw [hp2.1] at I
  refine lv_if_ne (tgt := 10) hx hb dX1_add_5 (by decide) (fun c5 => ?_) (fun c5 => ?_)
  · skip
    have hq : isQ S p0 := by
      rcases hp2.2 with q | q
      · exact absurd q.1 c5
      · exact q.2
    refine lv_iload_n hx hb dX1_add_10 rfl (lv_at hl 2 rfl) ?_
    refine lv_iconst (v := 3) hx hb dX1_add_11 (by decide) ?_
    refine lv_icmp_gt (tgt := 35) hx hb dX1_add_12 (by decide) (fun c12 => ?_) (fun c12 => ?_)
    · skip
      have htm : w0 ≤ 3 → isT x0 ∧ isT y0 := fun z => absurd c12 (Int32.not_lt.mpr z)
      obtain ⟨Q, hQ, rfl, hu⟩ := hq
      obtain ⟨cq, hc, eC⟩ := ok.2.1 Q hQ
      refine lv_aload_n hx hb dX1_add_35 rfl (lv_at hl 0 rfl) ?_
      refine ig_get (C := RX1) (T := TX1) (N := 9) (ci := 1) (fs := FM a S) (v := .ref (a 2)) C0 I in_X1 rfl rfl 2 (by decide) q201 rfl dX1_add_36 ?_
      refine lv_iload_n hx hb dX1_add_39 rfl (lv_at hl 1 rfl) ?_
      refine ig_ald C0 I 2 3 2 (a := a 2) (n := 12) (cA := d 2) rfl rfl Q rfl (by omega) (by decide) dX1_add_40 ?_
      refine lv_topi (fun v4 ev4 => ?_)
      obtain rfl : v4 = nI cq := ev4.trans eC
      refine lv_bipush (v := 6) hx hb dX1_add_41 (by decide) ?_
      refine lv_icmp_ne (tgt := 49) hx hb dX1_add_43 (by decide) (fun c43 => ?_) (fun c43 => ?_)
      · skip
        have hlt : cq < 6 := by
          have : ¬ cq = 6 := fun z => c43 (by rw [z]; rfl)
          omega
        refine lv_iload_n hx hb dX1_add_49 rfl (lv_at hl 1 rfl) ?_
        refine lv_bipush (v := 6) hx hb dX1_add_50 (by decide) ?_
        refine lv_imul hx hb dX1_add_52 ?_
        refine lv_topi (fun v5 ev5 => ?_)
        obtain rfl : v5 = nI (Q * 6) := ev5.trans (pk_mul Q 6)
        refine lv_aload_n hx hb dX1_add_53 rfl (lv_at hl 0 rfl) ?_
        refine ig_get (C := RX1) (T := TX1) (N := 9) (ci := 1) (fs := FM a S) (v := .ref (a 2)) C0 I in_X1 rfl rfl 2 (by decide) q201 rfl dX1_add_54 ?_
        refine lv_iload_n hx hb dX1_add_57 rfl (lv_at hl 1 rfl) ?_
        refine ig_ald C0 I 2 3 2 (a := a 2) (n := 12) (cA := d 2) rfl rfl Q rfl (by omega) (by decide) dX1_add_58 ?_
        refine lv_topi (fun v6 ev6 => ?_)
        obtain rfl : v6 = nI cq := ev6.trans eC
        refine lv_iadd hx hb dX1_add_59 ?_
        refine lv_topi (fun v7 ev7 => ?_)
        obtain rfl : v7 = nI (Q * 6 + cq) := ev7.trans (nI_add (Q * 6) cq)
        refine lv_istore (lv' := [(5, .int (nI (Q * 6 + cq))), (0, .ref h), (1, .int (nI Q)), (2, .int w0), (3, .int x0), (4, .int y0)]) hx hb dX1_add_60 hl (by decide) rfl (fun ls hl => ?_)
        refine lv_aload_n hx hb dX1_add_62 rfl (lv_at hl 1 rfl) ?_
        refine ig_get (C := RX1) (T := TX1) (N := 9) (ci := 1) (fs := FM a S) (v := .ref (a 3)) C0 I in_X1 rfl rfl 3 (by decide) q202 rfl dX1_add_63 ?_
        refine lv_iload hx hb dX1_add_66 (lv_at hl 0 rfl) ?_
        refine lv_iload_n hx hb dX1_add_68 rfl (lv_at hl 3 rfl) ?_
        refine ig_ast C0 I 3 4 3 (a := a 3) (n := 72) (cA := d 3) rfl rfl (Q * 6 + cq) rfl (by omega) (by decide) (va_up S 3 (upd (S 3) (Q * 6 + cq) w0)) rfl dX1_add_69 (fun H locs I => ?_)
        generalize eS8 : va_up S 3 (upd (S 3) (Q * 6 + cq) w0) = S8 at I
        refine lv_aload_n hx hb dX1_add_70 rfl (lv_at hl 1 rfl) ?_
        refine ig_get (C := RX1) (T := TX1) (N := 9) (ci := 1) (fs := FM a S8) (v := .ref (a 4)) C0 I in_X1 rfl rfl 4 (by decide) q203 rfl dX1_add_71 ?_
        refine lv_iload hx hb dX1_add_74 (lv_at hl 0 rfl) ?_
        refine lv_iload_n hx hb dX1_add_76 rfl (lv_at hl 4 rfl) ?_
        refine ig_ast C0 I 4 5 4 (a := a 4) (n := 72) (cA := d 4) rfl rfl (Q * 6 + cq) rfl (by omega) (by decide) (va_up S8 4 (upd (S8 4) (Q * 6 + cq) x0)) rfl dX1_add_77 (fun H locs I => ?_)
        generalize eS9 : va_up S8 4 (upd (S8 4) (Q * 6 + cq) x0) = S9 at I
        refine lv_aload_n hx hb dX1_add_78 rfl (lv_at hl 1 rfl) ?_
        refine ig_get (C := RX1) (T := TX1) (N := 9) (ci := 1) (fs := FM a S9) (v := .ref (a 5)) C0 I in_X1 rfl rfl 5 (by decide) q204 rfl dX1_add_79 ?_
        refine lv_iload hx hb dX1_add_82 (lv_at hl 0 rfl) ?_
        refine lv_iload hx hb dX1_add_84 (lv_at hl 5 rfl) ?_
        refine ig_ast C0 I 5 6 5 (a := a 5) (n := 72) (cA := d 5) rfl rfl (Q * 6 + cq) rfl (by omega) (by decide) (va_up S9 5 (upd (S9 5) (Q * 6 + cq) y0)) rfl dX1_add_86 (fun H locs I => ?_)
        generalize eS10 : va_up S9 5 (upd (S9 5) (Q * 6 + cq) y0) = S10 at I
        have eC4 : S10 2 Q = nI cq := by rw [← eS10, ← eS9, ← eS8]; exact eC
        refine lv_aload_n hx hb dX1_add_87 rfl (lv_at hl 1 rfl) ?_
        refine ig_get (C := RX1) (T := TX1) (N := 9) (ci := 1) (fs := FM a S10) (v := .ref (a 2)) C0 I in_X1 rfl rfl 2 (by decide) q201 rfl dX1_add_88 ?_
        refine lv_iload_n hx hb dX1_add_91 rfl (lv_at hl 2 rfl) ?_
        refine lv_dup2_11 hx hb dX1_add_92 rfl rfl ?_
        refine ig_ald C0 I 2 3 2 (a := a 2) (n := 12) (cA := d 2) rfl rfl Q rfl (by omega) (by decide) dX1_add_93 ?_
        refine lv_topi (fun v11 ev11 => ?_)
        obtain rfl : v11 = nI cq := ev11.trans eC4
        refine lv_iconst (v := 1) hx hb dX1_add_94 (by decide) ?_
        refine lv_iadd hx hb dX1_add_95 ?_
        refine lv_topi (fun v12 ev12 => ?_)
        obtain rfl : v12 = nI (cq + 1) := ev12.trans (nI_add cq 1)
        refine ig_ast C0 I 2 3 2 (a := a 2) (n := 12) (cA := d 2) rfl rfl Q rfl (by omega) (by decide) (va_up S10 2 (upd (S10 2) Q (nI (cq + 1)))) rfl dX1_add_96 (fun H locs I => ?_)
        generalize eS13 : va_up S10 2 (upd (S10 2) Q (nI (cq + 1))) = S13 at I
        have e5 : S13 2 Q = nI (cq + 1) := by rw [← eS13]; exact pk_us
        refine lv_aload_n hx hb dX1_add_97 rfl (lv_at hl 1 rfl) ?_
        refine ig_get (C := RX1) (T := TX1) (N := 9) (ci := 1) (fs := FM a S13) (v := .ref (a 2)) C0 I in_X1 rfl rfl 2 (by decide) q201 rfl dX1_add_98 ?_
        refine lv_iload_n hx hb dX1_add_101 rfl (lv_at hl 2 rfl) ?_
        refine ig_ald C0 I 2 3 2 (a := a 2) (n := 12) (cA := d 2) rfl rfl Q rfl (by omega) (by decide) dX1_add_102 ?_
        refine lv_topi (fun v14 ev14 => ?_)
        obtain rfl : v14 = nI (cq + 1) := ev14.trans e5
        exact ig_iret C0 hr hk I (Or.inr (Or.inr ⟨htm, Q, cq, hQ, rfl, hu, hc, eC, Or.inr ⟨hlt, rfl, by rw [← eS13, ← eS10, ← eS9, ← eS8]; rfl⟩⟩)) dX1_add_103
      · skip
        have hge : cq = 6 := (nI_eq (a := cq) (b := 6) (by omega) (by omega)).mp c43
        refine lv_bipush (v := (-3)) hx hb dX1_add_46 (by decide) ?_
        exact ig_iret C0 hr hk I (Or.inr (Or.inr ⟨htm, Q, cq, hQ, rfl, hu, hc, eC, Or.inl ⟨hge, rfl, rfl⟩⟩)) dX1_add_48
    · skip
      have hw3 : w0 ≤ 3 := Int32.not_lt.mp c12
      refine lv_aload_n hx hb dX1_add_15 rfl (lv_at hl 0 rfl) ?_
      refine lv_iload_n hx hb dX1_add_16 rfl (lv_at hl 3 rfl) ?_
      refine ig_calli (h := h) (As := [.int x0]) (rest := []) (C := RX1) (T := TX1) (N := 9) (ci := 1) (fs := FM a S) C0 hA I (metX1_isTerm l D h a d S x0) rfl rfl (lw_V q243 q245 qs15 q23 q246) 1 (by decide +kernel) rfl rfl ⟨by decide, by decide⟩ ⟨Nat.zero_le _, Nat.zero_le _⟩ rfl hl.1 (Nat.le_of_ble_eq_true rfl) dX1_add_17 rfl (fun r15 S17 H locs hp16 I _ => ?_)
      rw [hp16.1] at I
      refine lv_if_eq (tgt := 32) hx hb dX1_add_20 (by decide) (fun c20 => ?_) (fun c20 => ?_)
      · skip
        have hT : ¬ isT x0 := by
          rcases hp16.2 with q | q
          · exact q.2
          · exact absurd (q.1.symm.trans c20) (by decide)
        refine lv_bipush (v := (-2)) hx hb dX1_add_32 (by decide) ?_
        exact ig_iret C0 hr hk I (Or.inr (Or.inl ⟨hq, hw3, fun z => hT z.1, rfl, rfl⟩)) dX1_add_34
      · skip
        have hT : isT x0 := by
          rcases hp16.2 with q | q
          · exact absurd q.1 c20
          · exact q.2
        refine lv_aload_n hx hb dX1_add_23 rfl (lv_at hl 0 rfl) ?_
        refine lv_iload hx hb dX1_add_24 (lv_at hl 4 rfl) ?_
        refine ig_calli (h := h) (As := [.int y0]) (rest := []) (C := RX1) (T := TX1) (N := 9) (ci := 1) (fs := FM a S) C0 hA I (metX1_isTerm l D h a d S y0) rfl rfl (lw_V q243 q245 qs15 q23 q246) 1 (by decide +kernel) rfl rfl ⟨by decide, by decide⟩ ⟨Nat.zero_le _, Nat.zero_le _⟩ rfl hl.1 (Nat.le_of_ble_eq_true rfl) dX1_add_26 rfl (fun r18 S20 H locs hp19 I _ => ?_)
        rw [hp19.1] at I
        refine lv_if_ne (tgt := 35) hx hb dX1_add_29 (by decide) (fun c29 => ?_) (fun c29 => ?_)
        · skip
          have hT2 : isT y0 := by
            rcases hp19.2 with q | q
            · exact absurd q.1 c29
            · exact q.2
          have htm : w0 ≤ 3 → isT x0 ∧ isT y0 := fun _ => ⟨hT, hT2⟩
          obtain ⟨Q, hQ, rfl, hu⟩ := hq
          obtain ⟨cq, hc, eC⟩ := ok.2.1 Q hQ
          refine lv_aload_n hx hb dX1_add_35 rfl (lv_at hl 0 rfl) ?_
          refine ig_get (C := RX1) (T := TX1) (N := 9) (ci := 1) (fs := FM a S) (v := .ref (a 2)) C0 I in_X1 rfl rfl 2 (by decide) q201 rfl dX1_add_36 ?_
          refine lv_iload_n hx hb dX1_add_39 rfl (lv_at hl 1 rfl) ?_
          refine ig_ald C0 I 2 3 2 (a := a 2) (n := 12) (cA := d 2) rfl rfl Q rfl (by omega) (by decide) dX1_add_40 ?_
          refine lv_topi (fun v21 ev21 => ?_)
          obtain rfl : v21 = nI cq := ev21.trans eC
          refine lv_bipush (v := 6) hx hb dX1_add_41 (by decide) ?_
          refine lv_icmp_ne (tgt := 49) hx hb dX1_add_43 (by decide) (fun c43 => ?_) (fun c43 => ?_)
          · skip
            have hlt : cq < 6 := by
              have : ¬ cq = 6 := fun z => c43 (by rw [z]; rfl)
              omega
            refine lv_iload_n hx hb dX1_add_49 rfl (lv_at hl 1 rfl) ?_
            refine lv_bipush (v := 6) hx hb dX1_add_50 (by decide) ?_
            refine lv_imul hx hb dX1_add_52 ?_
            refine lv_topi (fun v22 ev22 => ?_)
            obtain rfl : v22 = nI (Q * 6) := ev22.trans (pk_mul Q 6)
            refine lv_aload_n hx hb dX1_add_53 rfl (lv_at hl 0 rfl) ?_
            refine ig_get (C := RX1) (T := TX1) (N := 9) (ci := 1) (fs := FM a S) (v := .ref (a 2)) C0 I in_X1 rfl rfl 2 (by decide) q201 rfl dX1_add_54 ?_
            refine lv_iload_n hx hb dX1_add_57 rfl (lv_at hl 1 rfl) ?_
            refine ig_ald C0 I 2 3 2 (a := a 2) (n := 12) (cA := d 2) rfl rfl Q rfl (by omega) (by decide) dX1_add_58 ?_
            refine lv_topi (fun v23 ev23 => ?_)
            obtain rfl : v23 = nI cq := ev23.trans eC
            refine lv_iadd hx hb dX1_add_59 ?_
            refine lv_topi (fun v24 ev24 => ?_)
            obtain rfl : v24 = nI (Q * 6 + cq) := ev24.trans (nI_add (Q * 6) cq)
            refine lv_istore (lv' := [(5, .int (nI (Q * 6 + cq))), (0, .ref h), (1, .int (nI Q)), (2, .int w0), (3, .int x0), (4, .int y0)]) hx hb dX1_add_60 hl (by decide) rfl (fun ls hl => ?_)
            refine lv_aload_n hx hb dX1_add_62 rfl (lv_at hl 1 rfl) ?_
            refine ig_get (C := RX1) (T := TX1) (N := 9) (ci := 1) (fs := FM a S) (v := .ref (a 3)) C0 I in_X1 rfl rfl 3 (by decide) q202 rfl dX1_add_63 ?_
            refine lv_iload hx hb dX1_add_66 (lv_at hl 0 rfl) ?_
            refine lv_iload_n hx hb dX1_add_68 rfl (lv_at hl 3 rfl) ?_
            refine ig_ast C0 I 3 4 3 (a := a 3) (n := 72) (cA := d 3) rfl rfl (Q * 6 + cq) rfl (by omega) (by decide) (va_up S 3 (upd (S 3) (Q * 6 + cq) w0)) rfl dX1_add_69 (fun H locs I => ?_)
            generalize eS25 : va_up S 3 (upd (S 3) (Q * 6 + cq) w0) = S25 at I
            refine lv_aload_n hx hb dX1_add_70 rfl (lv_at hl 1 rfl) ?_
            refine ig_get (C := RX1) (T := TX1) (N := 9) (ci := 1) (fs := FM a S25) (v := .ref (a 4)) C0 I in_X1 rfl rfl 4 (by decide) q203 rfl dX1_add_71 ?_
            refine lv_iload hx hb dX1_add_74 (lv_at hl 0 rfl) ?_
            refine lv_iload_n hx hb dX1_add_76 rfl (lv_at hl 4 rfl) ?_
            refine ig_ast C0 I 4 5 4 (a := a 4) (n := 72) (cA := d 4) rfl rfl (Q * 6 + cq) rfl (by omega) (by decide) (va_up S25 4 (upd (S25 4) (Q * 6 + cq) x0)) rfl dX1_add_77 (fun H locs I => ?_)
            generalize eS26 : va_up S25 4 (upd (S25 4) (Q * 6 + cq) x0) = S26 at I
            refine lv_aload_n hx hb dX1_add_78 rfl (lv_at hl 1 rfl) ?_
            refine ig_get (C := RX1) (T := TX1) (N := 9) (ci := 1) (fs := FM a S26) (v := .ref (a 5)) C0 I in_X1 rfl rfl 5 (by decide) q204 rfl dX1_add_79 ?_
            refine lv_iload hx hb dX1_add_82 (lv_at hl 0 rfl) ?_
            refine lv_iload hx hb dX1_add_84 (lv_at hl 5 rfl) ?_
            refine ig_ast C0 I 5 6 5 (a := a 5) (n := 72) (cA := d 5) rfl rfl (Q * 6 + cq) rfl (by omega) (by decide) (va_up S26 5 (upd (S26 5) (Q * 6 + cq) y0)) rfl dX1_add_86 (fun H locs I => ?_)
            generalize eS27 : va_up S26 5 (upd (S26 5) (Q * 6 + cq) y0) = S27 at I
            have eC4 : S27 2 Q = nI cq := by rw [← eS27, ← eS26, ← eS25]; exact eC
            refine lv_aload_n hx hb dX1_add_87 rfl (lv_at hl 1 rfl) ?_
            refine ig_get (C := RX1) (T := TX1) (N := 9) (ci := 1) (fs := FM a S27) (v := .ref (a 2)) C0 I in_X1 rfl rfl 2 (by decide) q201 rfl dX1_add_88 ?_
            refine lv_iload_n hx hb dX1_add_91 rfl (lv_at hl 2 rfl) ?_
            refine lv_dup2_11 hx hb dX1_add_92 rfl rfl ?_
            refine ig_ald C0 I 2 3 2 (a := a 2) (n := 12) (cA := d 2) rfl rfl Q rfl (by omega) (by decide) dX1_add_93 ?_
            refine lv_topi (fun v28 ev28 => ?_)
            obtain rfl : v28 = nI cq := ev28.trans eC4
            refine lv_iconst (v := 1) hx hb dX1_add_94 (by decide) ?_
            refine lv_iadd hx hb dX1_add_95 ?_
            refine lv_topi (fun v29 ev29 => ?_)
            obtain rfl : v29 = nI (cq + 1) := ev29.trans (nI_add cq 1)
            refine ig_ast C0 I 2 3 2 (a := a 2) (n := 12) (cA := d 2) rfl rfl Q rfl (by omega) (by decide) (va_up S27 2 (upd (S27 2) Q (nI (cq + 1)))) rfl dX1_add_96 (fun H locs I => ?_)
            generalize eS30 : va_up S27 2 (upd (S27 2) Q (nI (cq + 1))) = S30 at I
            have e5 : S30 2 Q = nI (cq + 1) := by rw [← eS30]; exact pk_us
            refine lv_aload_n hx hb dX1_add_97 rfl (lv_at hl 1 rfl) ?_
            refine ig_get (C := RX1) (T := TX1) (N := 9) (ci := 1) (fs := FM a S30) (v := .ref (a 2)) C0 I in_X1 rfl rfl 2 (by decide) q201 rfl dX1_add_98 ?_
            refine lv_iload_n hx hb dX1_add_101 rfl (lv_at hl 2 rfl) ?_
            refine ig_ald C0 I 2 3 2 (a := a 2) (n := 12) (cA := d 2) rfl rfl Q rfl (by omega) (by decide) dX1_add_102 ?_
            refine lv_topi (fun v31 ev31 => ?_)
            obtain rfl : v31 = nI (cq + 1) := ev31.trans e5
            exact ig_iret C0 hr hk I (Or.inr (Or.inr ⟨htm, Q, cq, hQ, rfl, hu, hc, eC, Or.inr ⟨hlt, rfl, by rw [← eS30, ← eS27, ← eS26, ← eS25]; rfl⟩⟩)) dX1_add_103
          · skip
            have hge : cq = 6 := (nI_eq (a := cq) (b := 6) (by omega) (by omega)).mp c43
            refine lv_bipush (v := (-3)) hx hb dX1_add_46 (by decide) ?_
            exact ig_iret C0 hr hk I (Or.inr (Or.inr ⟨htm, Q, cq, hQ, rfl, hu, hc, eC, Or.inl ⟨hge, rfl, rfl⟩⟩)) dX1_add_48
        · skip
          have hT2 : ¬ isT y0 := by
            rcases hp19.2 with q | q
            · exact q.2
            · exact absurd (q.1.symm.trans c29) (by decide)
          refine lv_bipush (v := (-2)) hx hb dX1_add_32 (by decide) ?_
          exact ig_iret C0 hr hk I (Or.inr (Or.inl ⟨hq, hw3, fun z => hT2 z.2, rfl, rfl⟩)) dX1_add_34
  · skip
    have hq : ¬ isQ S p0 := by
      rcases hp2.2 with q | q
      · exact q.2
      · exact absurd (q.1.symm.trans c5) (by decide)
    refine lv_iconst (v := (-1)) hx hb dX1_add_8 (by decide) ?_
    exact ig_iret C0 hr hk I (Or.inl ⟨hq, rfl, rfl⟩) dX1_add_9

set_option maxHeartbeats 4000000 in
set_option maxRecDepth 100000 in
/-- must -/
theorem metX1_must (l : Launch) (D : va_G) (h : Nat) (a : Nat → Nat) (d : Nat → ClassId) (S : ST) (ok : okC S) (p0 t0 : Int32) : mi_ l D clX (WM h a d) (TYM d) yX1_must cX1_must 3 (some .int) (rmX 2 46) [.ref h, .int p0, .int t0] S (fun r S1 => maddP S p0 0 t0 t0 r S1) := by
  refine mi_of (by decide) (Nat.le_of_ble_eq_true rfl) ?_
  intro p e s m below meth c A ls C0 hr hk hA I hl
  have C0 : CallFix p m c cX1_must 3 s ([.ref h, .int p0, .int t0] : List Value).toArray lw_all RX1 := C0
  have hl : lv_has ls 3 [(0, .ref h), (1, .int p0), (2, .int t0)] := hl
  have hx := C0.1
  have hb := C0.2.1
  refine lv_aload_n hx hb dX1_must_0 rfl (lv_at hl 0 rfl) ?_
  refine lv_iload_n hx hb dX1_must_1 rfl (lv_at hl 1 rfl) ?_
  refine lv_iconst (v := 0) hx hb dX1_must_2 (by decide) ?_
  refine lv_iload_n hx hb dX1_must_3 rfl (lv_at hl 2 rfl) ?_
  refine lv_iload_n hx hb dX1_must_4 rfl (lv_at hl 2 rfl) ?_
  refine ig_calli (h := h) (As := [.int p0, .int 0, .int t0, .int t0]) (rest := []) (C := RX1) (T := TX1) (N := 9) (ci := 1) (fs := FM a S) C0 hA I (metX1_add l D h a d S ok p0 0 t0 t0) rfl rfl (lw_V q235 q237 qs13 q23 q238) 4 (by decide +kernel) rfl rfl ⟨by decide, by decide⟩ ⟨Nat.zero_le _, Nat.zero_le _⟩ rfl hl.1 (Nat.le_of_ble_eq_true rfl) dX1_must_5 rfl (fun r1 S1 H locs hp2 I _ => ?_)
  exact ig_iret C0 hr hk I (hp2) dX1_must_8

set_option maxHeartbeats 4000000 in
set_option maxRecDepth 100000 in
/-- not -/
theorem metX1_not (l : Launch) (D : va_G) (h : Nat) (a : Nat → Nat) (d : Nat → ClassId) (S : ST) (ok : okC S) (p0 t0 : Int32) : mi_ l D clX (WM h a d) (TYM d) yX1_not cX1_not 3 (some .int) (rmX 2 46) [.ref h, .int p0, .int t0] S (fun r S1 => maddP S p0 1 t0 t0 r S1) := by
  refine mi_of (by decide) (Nat.le_of_ble_eq_true rfl) ?_
  intro p e s m below meth c A ls C0 hr hk hA I hl
  have C0 : CallFix p m c cX1_not 3 s ([.ref h, .int p0, .int t0] : List Value).toArray lw_all RX1 := C0
  have hl : lv_has ls 3 [(0, .ref h), (1, .int p0), (2, .int t0)] := hl
  have hx := C0.1
  have hb := C0.2.1
  refine lv_aload_n hx hb dX1_not_0 rfl (lv_at hl 0 rfl) ?_
  refine lv_iload_n hx hb dX1_not_1 rfl (lv_at hl 1 rfl) ?_
  refine lv_iconst (v := 1) hx hb dX1_not_2 (by decide) ?_
  refine lv_iload_n hx hb dX1_not_3 rfl (lv_at hl 2 rfl) ?_
  refine lv_iload_n hx hb dX1_not_4 rfl (lv_at hl 2 rfl) ?_
  refine ig_calli (h := h) (As := [.int p0, .int 1, .int t0, .int t0]) (rest := []) (C := RX1) (T := TX1) (N := 9) (ci := 1) (fs := FM a S) C0 hA I (metX1_add l D h a d S ok p0 1 t0 t0) rfl rfl (lw_V q235 q237 qs13 q23 q238) 4 (by decide +kernel) rfl rfl ⟨by decide, by decide⟩ ⟨Nat.zero_le _, Nat.zero_le _⟩ rfl hl.1 (Nat.le_of_ble_eq_true rfl) dX1_not_5 rfl (fun r1 S1 H locs hp2 I _ => ?_)
  exact ig_iret C0 hr hk I (hp2) dX1_not_8

set_option maxHeartbeats 4000000 in
set_option maxRecDepth 100000 in
/-- should -/
theorem metX1_should (l : Launch) (D : va_G) (h : Nat) (a : Nat → Nat) (d : Nat → ClassId) (S : ST) (ok : okC S) (p0 t0 : Int32) : mi_ l D clX (WM h a d) (TYM d) yX1_should cX1_should 3 (some .int) (rmX 2 46) [.ref h, .int p0, .int t0] S (fun r S1 => maddP S p0 2 t0 t0 r S1) := by
  refine mi_of (by decide) (Nat.le_of_ble_eq_true rfl) ?_
  intro p e s m below meth c A ls C0 hr hk hA I hl
  have C0 : CallFix p m c cX1_should 3 s ([.ref h, .int p0, .int t0] : List Value).toArray lw_all RX1 := C0
  have hl : lv_has ls 3 [(0, .ref h), (1, .int p0), (2, .int t0)] := hl
  have hx := C0.1
  have hb := C0.2.1
  refine lv_aload_n hx hb dX1_should_0 rfl (lv_at hl 0 rfl) ?_
  refine lv_iload_n hx hb dX1_should_1 rfl (lv_at hl 1 rfl) ?_
  refine lv_iconst (v := 2) hx hb dX1_should_2 (by decide) ?_
  refine lv_iload_n hx hb dX1_should_3 rfl (lv_at hl 2 rfl) ?_
  refine lv_iload_n hx hb dX1_should_4 rfl (lv_at hl 2 rfl) ?_
  refine ig_calli (h := h) (As := [.int p0, .int 2, .int t0, .int t0]) (rest := []) (C := RX1) (T := TX1) (N := 9) (ci := 1) (fs := FM a S) C0 hA I (metX1_add l D h a d S ok p0 2 t0 t0) rfl rfl (lw_V q235 q237 qs13 q23 q238) 4 (by decide +kernel) rfl rfl ⟨by decide, by decide⟩ ⟨Nat.zero_le _, Nat.zero_le _⟩ rfl hl.1 (Nat.le_of_ble_eq_true rfl) dX1_should_5 rfl (fun r1 S1 H locs hp2 I _ => ?_)
  exact ig_iret C0 hr hk I (hp2) dX1_should_8

set_option maxHeartbeats 4000000 in
set_option maxRecDepth 100000 in
/-- phrase -/
theorem metX1_phrase (l : Launch) (D : va_G) (h : Nat) (a : Nat → Nat) (d : Nat → ClassId) (S : ST) (ok : okC S) (p0 t0 u0 : Int32) : mi_ l D clX (WM h a d) (TYM d) yX1_phrase cX1_phrase 4 (some .int) (rmX 2 46) [.ref h, .int p0, .int t0, .int u0] S (fun r S1 => maddP S p0 3 t0 u0 r S1) := by
  refine mi_of (by decide) (Nat.le_of_ble_eq_true rfl) ?_
  intro p e s m below meth c A ls C0 hr hk hA I hl
  have C0 : CallFix p m c cX1_phrase 4 s ([.ref h, .int p0, .int t0, .int u0] : List Value).toArray lw_all RX1 := C0
  have hl : lv_has ls 4 [(0, .ref h), (1, .int p0), (2, .int t0), (3, .int u0)] := hl
  have hx := C0.1
  have hb := C0.2.1
  refine lv_aload_n hx hb dX1_phrase_0 rfl (lv_at hl 0 rfl) ?_
  refine lv_iload_n hx hb dX1_phrase_1 rfl (lv_at hl 1 rfl) ?_
  refine lv_iconst (v := 3) hx hb dX1_phrase_2 (by decide) ?_
  refine lv_iload_n hx hb dX1_phrase_3 rfl (lv_at hl 2 rfl) ?_
  refine lv_iload_n hx hb dX1_phrase_4 rfl (lv_at hl 3 rfl) ?_
  refine ig_calli (h := h) (As := [.int p0, .int 3, .int t0, .int u0]) (rest := []) (C := RX1) (T := TX1) (N := 9) (ci := 1) (fs := FM a S) C0 hA I (metX1_add l D h a d S ok p0 3 t0 u0) rfl rfl (lw_V q235 q237 qs13 q23 q238) 4 (by decide +kernel) rfl rfl ⟨by decide, by decide⟩ ⟨Nat.zero_le _, Nat.zero_le _⟩ rfl hl.1 (Nat.le_of_ble_eq_true rfl) dX1_phrase_5 rfl (fun r1 S1 H locs hp2 I _ => ?_)
  exact ig_iret C0 hr hk I (hp2) dX1_phrase_8

set_option maxHeartbeats 4000000 in
set_option maxRecDepth 100000 in
/-- range -/
theorem metX1_range (l : Launch) (D : va_G) (h : Nat) (a : Nat → Nat) (d : Nat → ClassId) (S : ST) (ok : okC S) (p0 t0 u0 : Int32) : mi_ l D clX (WM h a d) (TYM d) yX1_range cX1_range 4 (some .int) (rmX 2 46) [.ref h, .int p0, .int t0, .int u0] S (fun r S1 => maddP S p0 4 t0 u0 r S1) := by
  refine mi_of (by decide) (Nat.le_of_ble_eq_true rfl) ?_
  intro p e s m below meth c A ls C0 hr hk hA I hl
  have C0 : CallFix p m c cX1_range 4 s ([.ref h, .int p0, .int t0, .int u0] : List Value).toArray lw_all RX1 := C0
  have hl : lv_has ls 4 [(0, .ref h), (1, .int p0), (2, .int t0), (3, .int u0)] := hl
  have hx := C0.1
  have hb := C0.2.1
  refine lv_aload_n hx hb dX1_range_0 rfl (lv_at hl 0 rfl) ?_
  refine lv_iload_n hx hb dX1_range_1 rfl (lv_at hl 1 rfl) ?_
  refine lv_iconst (v := 4) hx hb dX1_range_2 (by decide) ?_
  refine lv_iload_n hx hb dX1_range_3 rfl (lv_at hl 2 rfl) ?_
  refine lv_iload_n hx hb dX1_range_4 rfl (lv_at hl 3 rfl) ?_
  refine ig_calli (h := h) (As := [.int p0, .int 4, .int t0, .int u0]) (rest := []) (C := RX1) (T := TX1) (N := 9) (ci := 1) (fs := FM a S) C0 hA I (metX1_add l D h a d S ok p0 4 t0 u0) rfl rfl (lw_V q235 q237 qs13 q23 q238) 4 (by decide +kernel) rfl rfl ⟨by decide, by decide⟩ ⟨Nat.zero_le _, Nat.zero_le _⟩ rfl hl.1 (Nat.le_of_ble_eq_true rfl) dX1_range_5 rfl (fun r1 S1 H locs hp2 I _ => ?_)
  exact ig_iret C0 hr hk I (hp2) dX1_range_8

set_option maxHeartbeats 4000000 in
set_option maxRecDepth 100000 in
/-- remove(q) -/
theorem metX1_remove (l : Launch) (D : va_G) (h : Nat) (a : Nat → Nat) (d : Nat → ClassId) (S : ST) (p0 : Int32) : mi_ l D clX (WM h a d) (TYM d) yX1_remove cX1_remove 4 (some .int) (rmX 1 21) [.ref h, .int p0] S (fun r S1 => mremP S p0 r S1) := by
  refine mi_of (by decide) (Nat.le_of_ble_eq_true rfl) ?_
  intro p e s m below meth c A ls C0 hr hk hA I hl
  have C0 : CallFix p m c cX1_remove 4 s ([.ref h, .int p0] : List Value).toArray lw_all RX1 := C0
  have hl : lv_has ls 4 [(0, .ref h), (1, .int p0)] := hl
  have hx := C0.1
  have hb := C0.2.1
  refine lv_aload_n hx hb dX1_remove_0 rfl (lv_at hl 0 rfl) ?_
  refine lv_iload_n hx hb dX1_remove_1 rfl (lv_at hl 1 rfl) ?_
  refine ig_calli (h := h) (As := [.int p0]) (rest := []) (C := RX1) (T := TX1) (N := 9) (ci := 1) (fs := FM a S) C0 hA I (metX1_isQuery l D h a d S p0) rfl rfl (lw_V q239 q241 qs14 q23 q242) 1 (by decide +kernel) rfl rfl ⟨by decide, by decide⟩ ⟨Nat.zero_le _, Nat.zero_le _⟩ rfl hl.1 (Nat.le_of_ble_eq_true rfl) dX1_remove_2 rfl (fun r1 S3 H locs hp2 I _ => ?_)
  rw [hp2.1] at I
  refine lv_if_ne (tgt := 10) hx hb dX1_remove_5 (by decide) (fun c5 => ?_) (fun c5 => ?_)
  · skip
    have hq : isQ S p0 := by
      rcases hp2.2 with q | q
      · exact absurd q.1 c5
      · exact q.2
    obtain ⟨Q, hQ, rfl, hu⟩ := hq
    refine lv_aload_n hx hb dX1_remove_10 rfl (lv_at hl 0 rfl) ?_
    refine ig_get (C := RX1) (T := TX1) (N := 9) (ci := 1) (fs := FM a S) (v := .ref (a 0)) C0 I in_X1 rfl rfl 0 (by decide) q199 rfl dX1_remove_11 ?_
    refine lv_iload_n hx hb dX1_remove_14 rfl (lv_at hl 1 rfl) ?_
    refine lv_iconst (v := 0) hx hb dX1_remove_15 (by decide) ?_
    refine ig_zast C0 I 0 1 0 (a := a 0) (n := 12) (cA := d 0) rfl rfl rfl Q rfl (by omega) (by decide) (va_up S 0 (upd (S 0) Q 0)) rfl dX1_remove_16 (fun H locs I => ?_)
    generalize eS4 : va_up S 0 (upd (S 0) Q 0) = S4 at I
    refine lv_iconst (v := 0) hx hb dX1_remove_17 (by decide) ?_
    refine lv_istore_n (lv' := [(2, .int 0), (0, .ref h), (1, .int (nI Q))]) hx hb dX1_remove_18 rfl hl (by decide) rfl (fun ls hl => ?_)
    refine lv_iconst (v := 0) hx hb dX1_remove_19 (by decide) ?_
    refine lv_istore_n (lv' := [(3, .int 0), (2, .int 0), (0, .ref h), (1, .int (nI Q))]) hx hb dX1_remove_20 rfl hl (by decide) rfl (fun ls hl => ?_)
    have loop : ∀ (n : Nat) (i : Nat), i ≤ 12 → 12 < i + n → ∀ (H : Heap) (locs : List Loc) (ls : Array Slot), ig_ D clX (WM h a d) (TYM d) A s S4 H locs → lv_has ls 4 [(3, .int (nI i)), (2, .int (nI (cntU (S4 0) i))), (0, .ref h), (1, .int (nI Q))] → W p l e (rmX 1 21) s m ([.ref h, .int (nI Q)] : List Value).toArray below meth c H locs 0 0 (MQ below (va_Qi (fun r S1 => mremP S (nI Q) r S1) (bg_ D clX (WM h a d) (TYM d) A) A) ([.ref h, .int (nI Q)] : List Value).toArray s 0 0 A) (F0 m 21 ls []) := by
      intro n
      induction n with
      | zero =>
        intro i h1 h2
        exact absurd h2 (by omega)
      | succ n ih =>
        intro i h1 h2 H locs ls I hl
        refine lv_iload_n hx hb dX1_remove_21 rfl (lv_at hl 0 rfl) ?_
        refine lv_bipush (v := 12) hx hb dX1_remove_22 (by decide) ?_
        refine lv_icmp_ge (tgt := 45) hx hb dX1_remove_24 (by decide) (fun c24 => ?_) (fun c24 => ?_)
        · skip
          have hge : i = 12 := by
            have := (nI_leI (a := 12) (b := i) (by omega) (by omega)).mp c24
            omega
          subst hge
          refine lv_iload_n hx hb dX1_remove_45 rfl (lv_at hl 1 rfl) ?_
          exact ig_iret C0 hr hk I (Or.inr ⟨Q, hQ, rfl, hu, eS4.symm, rfl⟩) dX1_remove_46
        · skip
          have hlt : i < 12 := by
            rcases Nat.lt_or_ge i 12 with q | q
            · exact q
            · exact absurd (nI_le q (by omega)) c24
          refine lv_aload_n hx hb dX1_remove_27 rfl (lv_at hl 2 rfl) ?_
          refine ig_get (C := RX1) (T := TX1) (N := 9) (ci := 1) (fs := FM a S4) (v := .ref (a 0)) C0 I in_X1 rfl rfl 0 (by decide) q199 rfl dX1_remove_28 ?_
          refine lv_iload_n hx hb dX1_remove_31 rfl (lv_at hl 0 rfl) ?_
          refine ig_zald C0 I 0 1 0 (a := a 0) (n := 12) (cA := d 0) rfl rfl i rfl (by omega) (by decide) dX1_remove_32 ?_
          refine lv_if_eq (tgt := 39) hx hb dX1_remove_33 (by decide) (fun c33 => ?_) (fun c33 => ?_)
          · skip
            have ec : cntU (S4 0) (i + 1) = cntU (S4 0) i := by show (if _ then _ else _) = _; rw [if_pos c33]
            rw [← ec] at hl
            refine lv_iinc (v := nI (i + 1)) (lv' := [(3, .int (nI (i + 1))), (2, .int (nI (cntU (S4 0) (i + 1)))), (0, .ref h), (1, .int (nI Q))]) hx hb dX1_remove_39 hl (k := 0) rfl (nI_1 i) (by decide) rfl (fun ls hl => ?_)
            refine lv_goto (tgt := 21) hx hb dX1_remove_42 (by decide) ?_
            exact ih (i + 1) (by omega) (by omega) _ _ _ I (lv_sub hl [0, 1, 2, 3] rfl)
          · skip
            have ec : cntU (S4 0) (i + 1) = cntU (S4 0) i + 1 := by show (if _ then _ else _) = _; rw [if_neg c33]
            refine lv_iinc (v := nI (cntU (S4 0) i + 1)) (lv' := [(2, .int (nI (cntU (S4 0) i + 1))), (3, .int (nI i)), (0, .ref h), (1, .int (nI Q))]) hx hb dX1_remove_36 hl (k := 1) rfl (nI_1 (cntU (S4 0) i)) (by decide) rfl (fun ls hl => ?_)
            rw [← ec] at hl
            refine lv_iinc (v := nI (i + 1)) (lv' := [(3, .int (nI (i + 1))), (2, .int (nI (cntU (S4 0) (i + 1)))), (0, .ref h), (1, .int (nI Q))]) hx hb dX1_remove_39 hl (k := 1) rfl (nI_1 i) (by decide) rfl (fun ls hl => ?_)
            refine lv_goto (tgt := 21) hx hb dX1_remove_42 (by decide) ?_
            exact ih (i + 1) (by omega) (by omega) _ _ _ I (lv_sub hl [0, 1, 2, 3] rfl)
    exact loop 13 0 (by omega) (by omega) _ _ _ I (lv_sub hl [0, 1, 2, 3] rfl)
  · skip
    have hq : ¬ isQ S p0 := by
      rcases hp2.2 with q | q
      · exact q.2
      · exact absurd (q.1.symm.trans c5) (by decide)
    refine lv_iconst (v := (-1)) hx hb dX1_remove_8 (by decide) ?_
    exact ig_iret C0 hr hk I (Or.inl ⟨hq, rfl, rfl⟩) dX1_remove_9

set_option maxHeartbeats 4000000 in
set_option maxRecDepth 100000 in
/-- word(t) -/
theorem metX1_word (l : Launch) (D : va_G) (h : Nat) (a : Nat → Nat) (d : Nat → ClassId) (S : ST) (L : Nat) (hL : L ≤ 16) (eL : S 7 0 = nI L) (p0 : Int32) : mi_ l D clX (WM h a d) (TYM d) yX1_word cX1_word 2 (some .int) (rmX 1 21) [.ref h, .int p0] S (fun r S1 => mwordP S L p0 r S1) := by
  refine mi_of (by decide) (Nat.le_of_ble_eq_true rfl) ?_
  intro p e s m below meth c A ls C0 hr hk hA I hl
  have C0 : CallFix p m c cX1_word 2 s ([.ref h, .int p0] : List Value).toArray lw_all RX1 := C0
  have hl : lv_has ls 2 [(0, .ref h), (1, .int p0)] := hl
  have hx := C0.1
  have hb := C0.2.1
  refine lv_aload_n hx hb dX1_word_0 rfl (lv_at hl 0 rfl) ?_
  refine lv_iload_n hx hb dX1_word_1 rfl (lv_at hl 1 rfl) ?_
  refine ig_calli (h := h) (As := [.int p0]) (rest := []) (C := RX1) (T := TX1) (N := 9) (ci := 1) (fs := FM a S) C0 hA I (metX1_isTerm l D h a d S p0) rfl rfl (lw_V q243 q245 qs15 q23 q246) 1 (by decide +kernel) rfl rfl ⟨by decide, by decide⟩ ⟨Nat.zero_le _, Nat.zero_le _⟩ rfl hl.1 (Nat.le_of_ble_eq_true rfl) dX1_word_2 rfl (fun r1 S3 H locs hp2 I _ => ?_)
  rw [hp2.1] at I
  refine lv_if_ne (tgt := 11) hx hb dX1_word_5 (by decide) (fun c5 => ?_) (fun c5 => ?_)
  · skip
    have hT : isT p0 := by
      rcases hp2.2 with q | q
      · exact absurd q.1 c5
      · exact q.2
    refine lv_aload_n hx hb dX1_word_11 rfl (lv_at hl 0 rfl) ?_
    refine ig_get (C := RX1) (T := TX1) (N := 9) (ci := 1) (fs := FM a S) (v := .int (S 7 0)) C0 I in_X1 rfl rfl 7 (by decide) q206 rfl dX1_word_12 ?_
    refine lv_topi (fun v4 ev4 => ?_)
    obtain rfl : v4 = nI L := ev4.trans eL
    refine lv_bipush (v := 16) hx hb dX1_word_15 (by decide) ?_
    refine lv_icmp_ne (tgt := 23) hx hb dX1_word_17 (by decide) (fun c17 => ?_) (fun c17 => ?_)
    · skip
      have hlt : L < 16 := by
        have : ¬ L = 16 := fun z => c17 (by rw [z]; rfl)
        omega
      refine lv_aload_n hx hb dX1_word_23 rfl (lv_at hl 0 rfl) ?_
      refine ig_get (C := RX1) (T := TX1) (N := 9) (ci := 1) (fs := FM a S) (v := .ref (a 6)) C0 I in_X1 rfl rfl 6 (by decide) q205 rfl dX1_word_24 ?_
      refine lv_aload_n hx hb dX1_word_27 rfl (lv_at hl 0 rfl) ?_
      refine ig_get (C := RX1) (T := TX1) (N := 9) (ci := 1) (fs := FM a S) (v := .int (S 7 0)) C0 I in_X1 rfl rfl 7 (by decide) q206 rfl dX1_word_28 ?_
      refine lv_topi (fun v5 ev5 => ?_)
      obtain rfl : v5 = nI L := ev5.trans eL
      refine lv_iload_n hx hb dX1_word_31 rfl (lv_at hl 1 rfl) ?_
      refine ig_ast C0 I 6 7 6 (a := a 6) (n := 16) (cA := d 6) rfl rfl L rfl (by omega) (by decide) (va_up S 6 (upd (S 6) L p0)) rfl dX1_word_32 (fun H locs I => ?_)
      generalize eS6 : va_up S 6 (upd (S 6) L p0) = S6 at I
      have l1 : S6 7 0 = nI L := by rw [← eS6]; exact eL
      refine lv_aload_n hx hb dX1_word_33 rfl (lv_at hl 0 rfl) ?_
      refine lv_dup hx hb dX1_word_34 rfl ?_
      refine ig_get (C := RX1) (T := TX1) (N := 9) (ci := 1) (fs := FM a S6) (v := .int (S6 7 0)) C0 I in_X1 rfl rfl 7 (by decide) q206 rfl dX1_word_35 ?_
      refine lv_topi (fun v7 ev7 => ?_)
      obtain rfl : v7 = nI L := ev7.trans l1
      refine lv_iconst (v := 1) hx hb dX1_word_38 (by decide) ?_
      refine lv_iadd hx hb dX1_word_39 ?_
      refine lv_topi (fun v8 ev8 => ?_)
      obtain rfl : v8 = nI (L + 1) := ev8.trans (nI_add L 1)
      refine ig_put (C := RX1) (T := TX1) (N := 9) (ci := 1) (fs := FM a S6) (v := (nI (L + 1))) C0 I in_X1 tyX1 tyX1_ok nmX1 rfl rfl 7 (by decide) q206 rfl (by decide +kernel) (Nat.le_of_ble_eq_true rfl) (va_up S6 7 (fun _ => (nI (L + 1)))) rfl dX1_word_40 (fun H locs I => ?_)
      generalize eS9 : va_up S6 7 (fun _ => (nI (L + 1))) = S9 at I
      have l2 : S9 7 0 = nI (L + 1) := by rw [← eS9]; rfl
      refine lv_aload_n hx hb dX1_word_43 rfl (lv_at hl 0 rfl) ?_
      refine ig_get (C := RX1) (T := TX1) (N := 9) (ci := 1) (fs := FM a S9) (v := .int (S9 7 0)) C0 I in_X1 rfl rfl 7 (by decide) q206 rfl dX1_word_44 ?_
      refine lv_topi (fun v10 ev10 => ?_)
      obtain rfl : v10 = nI (L + 1) := ev10.trans l2
      exact ig_iret C0 hr hk I (Or.inr (Or.inr ⟨hT, hlt, rfl, by rw [← eS9, ← eS6]⟩)) dX1_word_47
    · skip
      have hge : L = 16 := (nI_eq (a := L) (b := 16) (by omega) (by omega)).mp c17
      refine lv_bipush (v := (-3)) hx hb dX1_word_20 (by decide) ?_
      exact ig_iret C0 hr hk I (Or.inr (Or.inl ⟨hT, hge, rfl, rfl⟩)) dX1_word_22
  · skip
    have hT : ¬ isT p0 := by
      rcases hp2.2 with q | q
      · exact q.2
      · exact absurd (q.1.symm.trans c5) (by decide)
    refine lv_bipush (v := (-2)) hx hb dX1_word_8 (by decide) ?_
    exact ig_iret C0 hr hk I (Or.inl ⟨hT, rfl, rfl⟩) dX1_word_10

set_option maxHeartbeats 4000000 in
set_option maxRecDepth 100000 in
/-- document(number) -/
theorem metX1_document (l : Launch) (D : va_G) (h : Nat) (a : Nat → Nat) (d : Nat → ClassId) (S : ST) (p0 : Int32) : mv_ l D clX (WM h a d) (TYM d) yX1_document cX1_document 2 none (rmX 0 0) [.ref h, .int p0] S (fun S1 => S1 = va_up (va_up S 7 (fun _ => 0)) 8 (fun _ => p0)) := by
  refine mv_of (by decide) (Nat.le_of_ble_eq_true rfl) ?_
  intro p e s m below meth c A ls C0 hr hk hA I hl
  have C0 : CallFix p m c cX1_document 2 s ([.ref h, .int p0] : List Value).toArray lw_all RX1 := C0
  have hl : lv_has ls 2 [(0, .ref h), (1, .int p0)] := hl
  have hx := C0.1
  have hb := C0.2.1
  refine lv_aload_n hx hb dX1_document_0 rfl (lv_at hl 0 rfl) ?_
  refine lv_iconst (v := 0) hx hb dX1_document_1 (by decide) ?_
  refine ig_put (C := RX1) (T := TX1) (N := 9) (ci := 1) (fs := FM a S) (v := 0) C0 I in_X1 tyX1 tyX1_ok nmX1 rfl rfl 7 (by decide) q206 rfl (by decide +kernel) (Nat.le_of_ble_eq_true rfl) (va_up S 7 (fun _ => 0)) rfl dX1_document_2 (fun H locs I => ?_)
  generalize eS1 : va_up S 7 (fun _ => 0) = S1 at I
  refine lv_aload_n hx hb dX1_document_5 rfl (lv_at hl 0 rfl) ?_
  refine lv_iload_n hx hb dX1_document_6 rfl (lv_at hl 1 rfl) ?_
  refine ig_put (C := RX1) (T := TX1) (N := 9) (ci := 1) (fs := FM a S1) (v := p0) C0 I in_X1 tyX1 tyX1_ok nmX1 rfl rfl 8 (by decide) q207 rfl (by decide +kernel) (Nat.le_of_ble_eq_true rfl) (va_up S1 8 (fun _ => p0)) rfl dX1_document_7 (fun H locs I => ?_)
  generalize eS2 : va_up S1 8 (fun _ => p0) = S2 at I
  exact ig_vret C0 hr hk I (by rw [← eS2, ← eS1]) dX1_document_10
end
section
set_option maxHeartbeats 4000000 in
set_option maxRecDepth 100000 in
/-- often(t) -/
theorem metX1_often (l : Launch) (D : va_G) (h : Nat) (a : Nat → Nat) (d : Nat → ClassId) (S : ST) (L : Nat) (hL : L ≤ 16) (eL : S 7 0 = nI L) (p0 : Int32) : mi_ l D clX (WM h a d) (TYM d) yX1_often cX1_often 4 (some .int) (rmX 0 0) [.ref h, .int p0] S (fun r S1 => S1 = S ∧ r = cnM S L p0) := by
  refine mi_of (by decide) (Nat.le_of_ble_eq_true rfl) ?_
  intro p e s m below meth c A ls C0 hr hk hA I hl
  have C0 : CallFix p m c cX1_often 4 s ([.ref h, .int p0] : List Value).toArray lw_all RX1 := C0
  have hl : lv_has ls 4 [(0, .ref h), (1, .int p0)] := hl
  have hx := C0.1
  have hb := C0.2.1
  refine lv_iconst (v := 0) hx hb dX1_often_0 (by decide) ?_
  refine lv_istore_n (lv' := [(2, .int 0), (0, .ref h), (1, .int p0)]) hx hb dX1_often_1 rfl hl (by decide) rfl (fun ls hl => ?_)
  refine lv_iconst (v := 0) hx hb dX1_often_2 (by decide) ?_
  refine lv_istore_n (lv' := [(3, .int 0), (2, .int 0), (0, .ref h), (1, .int p0)]) hx hb dX1_often_3 rfl hl (by decide) rfl (fun ls hl => ?_)
  have loop : ∀ (n : Nat) (i : Nat), i ≤ L → L < i + n → ∀ (H : Heap) (locs : List Loc) (ls : Array Slot), ig_ D clX (WM h a d) (TYM d) A s S H locs → lv_has ls 4 [(3, .int (nI i)), (2, .int (nI (ofG (S 6) p0 i))), (0, .ref h), (1, .int p0)] → W p l e (rmX 0 0) s m ([.ref h, .int p0] : List Value).toArray below meth c H locs 0 0 (MQ below (va_Qi (fun r S1 => S1 = S ∧ r = cnM S L p0) (bg_ D clX (WM h a d) (TYM d) A) A) ([.ref h, .int p0] : List Value).toArray s 0 0 A) (F0 m 4 ls []) := by
    intro n
    induction n with
    | zero =>
      intro i h1 h2
      exact absurd h2 (by omega)
    | succ n ih =>
      intro i h1 h2 H locs ls I hl
      refine lv_iload_n hx hb dX1_often_4 rfl (lv_at hl 0 rfl) ?_
      refine lv_aload_n hx hb dX1_often_5 rfl (lv_at hl 2 rfl) ?_
      refine ig_get (C := RX1) (T := TX1) (N := 9) (ci := 1) (fs := FM a S) (v := .int (S 7 0)) C0 I in_X1 rfl rfl 7 (by decide) q206 rfl dX1_often_6 ?_
      refine lv_topi (fun v1 ev1 => ?_)
      obtain rfl : v1 = nI L := ev1.trans eL
      refine lv_icmp_ge (tgt := 31) hx hb dX1_often_9 (by decide) (fun c9 => ?_) (fun c9 => ?_)
      · skip
        have hge : i = L := by
          have := (nI_leI (a := L) (b := i) (by omega) (by omega)).mp c9
          omega
        subst hge
        refine lv_iload_n hx hb dX1_often_31 rfl (lv_at hl 1 rfl) ?_
        exact ig_iret C0 hr hk I (⟨rfl, rfl⟩) dX1_often_32
      · skip
        have hlt : i < L := by
          rcases Nat.lt_or_ge i L with q | q
          · exact q
          · exact absurd (nI_le q (by omega)) c9
        refine lv_aload_n hx hb dX1_often_12 rfl (lv_at hl 2 rfl) ?_
        refine ig_get (C := RX1) (T := TX1) (N := 9) (ci := 1) (fs := FM a S) (v := .ref (a 6)) C0 I in_X1 rfl rfl 6 (by decide) q205 rfl dX1_often_13 ?_
        refine lv_iload_n hx hb dX1_often_16 rfl (lv_at hl 0 rfl) ?_
        refine ig_ald C0 I 6 7 6 (a := a 6) (n := 16) (cA := d 6) rfl rfl i rfl (by omega) (by decide) dX1_often_17 ?_
        refine lv_iload_n hx hb dX1_often_18 rfl (lv_at hl 3 rfl) ?_
        refine lv_icmp_ne (tgt := 25) hx hb dX1_often_19 (by decide) (fun c19 => ?_) (fun c19 => ?_)
        · skip
          have ec : ofG (S 6) p0 (i + 1) = ofG (S 6) p0 i := by show (if _ then _ else _) = _; rw [if_neg c19]
          rw [← ec] at hl
          refine lv_iinc (v := nI (i + 1)) (lv' := [(3, .int (nI (i + 1))), (2, .int (nI (ofG (S 6) p0 (i + 1)))), (0, .ref h), (1, .int p0)]) hx hb dX1_often_25 hl (k := 0) rfl (nI_1 i) (by decide) rfl (fun ls hl => ?_)
          refine lv_goto (tgt := 4) hx hb dX1_often_28 (by decide) ?_
          exact ih (i + 1) (by omega) (by omega) _ _ _ I (lv_sub hl [0, 1, 2, 3] rfl)
        · skip
          have ec : ofG (S 6) p0 (i + 1) = ofG (S 6) p0 i + 1 := by show (if _ then _ else _) = _; rw [if_pos c19]
          refine lv_iinc (v := nI (ofG (S 6) p0 i + 1)) (lv' := [(2, .int (nI (ofG (S 6) p0 i + 1))), (3, .int (nI i)), (0, .ref h), (1, .int p0)]) hx hb dX1_often_22 hl (k := 1) rfl (nI_1 (ofG (S 6) p0 i)) (by decide) rfl (fun ls hl => ?_)
          rw [← ec] at hl
          refine lv_iinc (v := nI (i + 1)) (lv' := [(3, .int (nI (i + 1))), (2, .int (nI (ofG (S 6) p0 (i + 1)))), (0, .ref h), (1, .int p0)]) hx hb dX1_often_25 hl (k := 1) rfl (nI_1 i) (by decide) rfl (fun ls hl => ?_)
          refine lv_goto (tgt := 4) hx hb dX1_often_28 (by decide) ?_
          exact ih (i + 1) (by omega) (by omega) _ _ _ I (lv_sub hl [0, 1, 2, 3] rfl)
  exact loop (L + 1) 0 (by omega) (by omega) _ _ _ I (lv_sub hl [0, 1, 2, 3] rfl)

set_option maxHeartbeats 4000000 in
set_option maxRecDepth 100000 in
/-- beside(t, u) -/
theorem metX1_beside (l : Launch) (D : va_G) (h : Nat) (a : Nat → Nat) (d : Nat → ClassId) (S : ST) (L : Nat) (hL : L ≤ 16) (eL : S 7 0 = nI L) (p0 u0 : Int32) : mi_ l D clX (WM h a d) (TYM d) yX1_beside cX1_beside 4 (some .boolean) (rmX 0 0) [.ref h, .int p0, .int u0] S (fun r S1 => S1 = S ∧ r = bI (bsM S L p0 u0)) := by
  refine mi_of (by decide) (Nat.le_of_ble_eq_true rfl) ?_
  intro p e s m below meth c A ls C0 hr hk hA I hl
  have C0 : CallFix p m c cX1_beside 4 s ([.ref h, .int p0, .int u0] : List Value).toArray lw_all RX1 := C0
  have hl : lv_has ls 4 [(0, .ref h), (1, .int p0), (2, .int u0)] := hl
  have hx := C0.1
  have hb := C0.2.1
  refine lv_iconst (v := 0) hx hb dX1_beside_0 (by decide) ?_
  refine lv_istore_n (lv' := [(3, .int 0), (0, .ref h), (1, .int p0), (2, .int u0)]) hx hb dX1_beside_1 rfl hl (by decide) rfl (fun ls hl => ?_)
  have loop : ∀ (n : Nat) (i : Nat), i ≤ L - 1 → L < i + n → bsB (S 6) p0 u0 i = false → ∀ (H : Heap) (locs : List Loc) (ls : Array Slot), ig_ D clX (WM h a d) (TYM d) A s S H locs → lv_has ls 4 [(3, .int (nI i)), (0, .ref h), (1, .int p0), (2, .int u0)] → W p l e (rmX 0 0) s m ([.ref h, .int p0, .int u0] : List Value).toArray below meth c H locs 0 0 (MQ below (va_Qi (fun r S1 => S1 = S ∧ r = bI (bsM S L p0 u0)) (bg_ D clX (WM h a d) (TYM d) A) A) ([.ref h, .int p0, .int u0] : List Value).toArray s 0 0 A) (F0 m 2 ls []) := by
    intro n
    induction n with
    | zero =>
      intro i h1 h2 hv
      exact absurd h2 (by omega)
    | succ n ih =>
      intro i h1 h2 hv H locs ls I hl
      refine lv_iload_n hx hb dX1_beside_2 rfl (lv_at hl 0 rfl) ?_
      refine lv_iconst (v := 1) hx hb dX1_beside_3 (by decide) ?_
      refine lv_iadd hx hb dX1_beside_4 ?_
      refine lv_topi (fun v1 ev1 => ?_)
      obtain rfl : v1 = nI (i + 1) := ev1.trans (nI_add i 1)
      refine lv_aload_n hx hb dX1_beside_5 rfl (lv_at hl 1 rfl) ?_
      refine ig_get (C := RX1) (T := TX1) (N := 9) (ci := 1) (fs := FM a S) (v := .int (S 7 0)) C0 I in_X1 rfl rfl 7 (by decide) q206 rfl dX1_beside_6 ?_
      refine lv_topi (fun v2 ev2 => ?_)
      obtain rfl : v2 = nI L := ev2.trans eL
      refine lv_icmp_ge (tgt := 42) hx hb dX1_beside_9 (by decide) (fun c9 => ?_) (fun c9 => ?_)
      · skip
        have hge : i = L - 1 := by
          have := (nI_leI (a := L) (b := i + 1) (by omega) (by omega)).mp c9
          omega
        refine lv_iconst (v := 0) hx hb dX1_beside_42 (by decide) ?_
        exact ig_zret C0 hr hk I rfl (⟨rfl, by rw [bsM, ← hge, hv]; rfl⟩) dX1_beside_43
      · skip
        have hlt : i + 1 < L := by
          rcases Nat.lt_or_ge (i + 1) L with q | q
          · exact q
          · exact absurd (nI_le q (by omega)) c9
        refine lv_aload_n hx hb dX1_beside_12 rfl (lv_at hl 1 rfl) ?_
        refine ig_get (C := RX1) (T := TX1) (N := 9) (ci := 1) (fs := FM a S) (v := .ref (a 6)) C0 I in_X1 rfl rfl 6 (by decide) q205 rfl dX1_beside_13 ?_
        refine lv_iload_n hx hb dX1_beside_16 rfl (lv_at hl 0 rfl) ?_
        refine ig_ald C0 I 6 7 6 (a := a 6) (n := 16) (cA := d 6) rfl rfl i rfl (by omega) (by decide) dX1_beside_17 ?_
        refine lv_iload_n hx hb dX1_beside_18 rfl (lv_at hl 2 rfl) ?_
        refine lv_icmp_ne (tgt := 36) hx hb dX1_beside_19 (by decide) (fun c19 => ?_) (fun c19 => ?_)
        · skip
          refine lv_iinc (v := nI (i + 1)) (lv' := [(3, .int (nI (i + 1))), (0, .ref h), (1, .int p0), (2, .int u0)]) hx hb dX1_beside_36 hl (k := 0) rfl (nI_1 i) (by decide) rfl (fun ls hl => ?_)
          refine lv_goto (tgt := 2) hx hb dX1_beside_39 (by decide) ?_
          exact ih (i + 1) (by omega) (by omega) (by rw [bsB, hv, decide_eq_false c19]; rfl) _ _ _ I (lv_sub hl [0, 1, 2, 3] rfl)
        · skip
          refine lv_aload_n hx hb dX1_beside_22 rfl (lv_at hl 1 rfl) ?_
          refine ig_get (C := RX1) (T := TX1) (N := 9) (ci := 1) (fs := FM a S) (v := .ref (a 6)) C0 I in_X1 rfl rfl 6 (by decide) q205 rfl dX1_beside_23 ?_
          refine lv_iload_n hx hb dX1_beside_26 rfl (lv_at hl 0 rfl) ?_
          refine lv_iconst (v := 1) hx hb dX1_beside_27 (by decide) ?_
          refine lv_iadd hx hb dX1_beside_28 ?_
          refine lv_topi (fun v3 ev3 => ?_)
          obtain rfl : v3 = nI (i + 1) := ev3.trans (nI_add i 1)
          refine ig_ald C0 I 6 7 6 (a := a 6) (n := 16) (cA := d 6) rfl rfl (i + 1) rfl (by omega) (by decide) dX1_beside_29 ?_
          refine lv_iload_n hx hb dX1_beside_30 rfl (lv_at hl 3 rfl) ?_
          refine lv_icmp_ne (tgt := 36) hx hb dX1_beside_31 (by decide) (fun c31 => ?_) (fun c31 => ?_)
          · skip
            refine lv_iinc (v := nI (i + 1)) (lv' := [(3, .int (nI (i + 1))), (0, .ref h), (1, .int p0), (2, .int u0)]) hx hb dX1_beside_36 hl (k := 0) rfl (nI_1 i) (by decide) rfl (fun ls hl => ?_)
            refine lv_goto (tgt := 2) hx hb dX1_beside_39 (by decide) ?_
            exact ih (i + 1) (by omega) (by omega) (by rw [bsB, hv, decide_eq_false c31, Bool.and_false]; rfl) _ _ _ I (lv_sub hl [0, 1, 2, 3] rfl)
          · skip
            refine lv_iconst (v := 1) hx hb dX1_beside_34 (by decide) ?_
            exact ig_zret C0 hr hk I rfl (⟨rfl, by rw [bsM, bsB_mono (n := i + 1) (by rw [bsB, decide_eq_true c19, decide_eq_true c31, Bool.true_and, Bool.or_true]) (L - 1) (by omega)]; rfl⟩) dX1_beside_35
  exact loop (L + 1) 0 (by omega) (by omega) rfl _ _ _ I (lv_sub hl [0, 1, 2, 3] rfl)

set_option maxHeartbeats 4000000 in
set_option maxRecDepth 100000 in
/-- holds(i) -/
theorem metX1_holds (l : Launch) (D : va_G) (h : Nat) (a : Nat → Nat) (d : Nat → ClassId) (S : ST) (L : Nat) (hL : L ≤ 16) (eL : S 7 0 = nI L) (i : Nat) (hi : i < 72) : mi_ l D clX (WM h a d) (TYM d) yX1_holds cX1_holds 2 (some .boolean) (rmX 1 23) [.ref h, .int (nI i)] S (fun r S1 => S1 = S ∧ r = bI (hM S L i)) := by
  refine mi_of (by decide) (Nat.le_of_ble_eq_true rfl) ?_
  intro p e s m below meth c A ls C0 hr hk hA I hl
  have C0 : CallFix p m c cX1_holds 2 s ([.ref h, .int (nI i)] : List Value).toArray lw_all RX1 := C0
  have hl : lv_has ls 2 [(0, .ref h), (1, .int (nI i))] := hl
  have hx := C0.1
  have hb := C0.2.1
  refine lv_aload_n hx hb dX1_holds_0 rfl (lv_at hl 0 rfl) ?_
  refine ig_get (C := RX1) (T := TX1) (N := 9) (ci := 1) (fs := FM a S) (v := .ref (a 3)) C0 I in_X1 rfl rfl 3 (by decide) q202 rfl dX1_holds_1 ?_
  refine lv_iload_n hx hb dX1_holds_4 rfl (lv_at hl 1 rfl) ?_
  refine ig_ald C0 I 3 4 3 (a := a 3) (n := 72) (cA := d 3) rfl rfl i rfl (by omega) (by decide) dX1_holds_5 ?_
  refine lv_iconst (v := 1) hx hb dX1_holds_6 (by decide) ?_
  refine lv_icmp_ne (tgt := 29) hx hb dX1_holds_7 (by decide) (fun c7 => ?_) (fun c7 => ?_)
  · skip
    refine lv_aload_n hx hb dX1_holds_29 rfl (lv_at hl 0 rfl) ?_
    refine ig_get (C := RX1) (T := TX1) (N := 9) (ci := 1) (fs := FM a S) (v := .ref (a 3)) C0 I in_X1 rfl rfl 3 (by decide) q202 rfl dX1_holds_30 ?_
    refine lv_iload_n hx hb dX1_holds_33 rfl (lv_at hl 1 rfl) ?_
    refine ig_ald C0 I 3 4 3 (a := a 3) (n := 72) (cA := d 3) rfl rfl i rfl (by omega) (by decide) dX1_holds_34 ?_
    refine lv_iconst (v := 3) hx hb dX1_holds_35 (by decide) ?_
    refine lv_icmp_ne (tgt := 56) hx hb dX1_holds_36 (by decide) (fun c36 => ?_) (fun c36 => ?_)
    · skip
      refine lv_aload_n hx hb dX1_holds_56 rfl (lv_at hl 0 rfl) ?_
      refine ig_get (C := RX1) (T := TX1) (N := 9) (ci := 1) (fs := FM a S) (v := .ref (a 3)) C0 I in_X1 rfl rfl 3 (by decide) q202 rfl dX1_holds_57 ?_
      refine lv_iload_n hx hb dX1_holds_60 rfl (lv_at hl 1 rfl) ?_
      refine ig_ald C0 I 3 4 3 (a := a 3) (n := 72) (cA := d 3) rfl rfl i rfl (by omega) (by decide) dX1_holds_61 ?_
      refine lv_iconst (v := 4) hx hb dX1_holds_62 (by decide) ?_
      refine lv_icmp_ne (tgt := 98) hx hb dX1_holds_63 (by decide) (fun c63 => ?_) (fun c63 => ?_)
      · skip
        refine lv_aload_n hx hb dX1_holds_98 rfl (lv_at hl 0 rfl) ?_
        refine lv_aload_n hx hb dX1_holds_99 rfl (lv_at hl 0 rfl) ?_
        refine ig_get (C := RX1) (T := TX1) (N := 9) (ci := 1) (fs := FM a S) (v := .ref (a 4)) C0 I in_X1 rfl rfl 4 (by decide) q203 rfl dX1_holds_100 ?_
        refine lv_iload_n hx hb dX1_holds_103 rfl (lv_at hl 1 rfl) ?_
        refine ig_ald C0 I 4 5 4 (a := a 4) (n := 72) (cA := d 4) rfl rfl i rfl (by omega) (by decide) dX1_holds_104 ?_
        refine ig_calli (h := h) (As := [.int (S 4 i)]) (rest := []) (C := RX1) (T := TX1) (N := 9) (ci := 1) (fs := FM a S) C0 hA I (metX1_often l D h a d S L hL eL (S 4 i)) rfl rfl (lw_V q287 q289 qs17 q23 q290) 1 (by decide +kernel) rfl rfl ⟨by decide, by decide⟩ ⟨Nat.zero_le _, Nat.zero_le _⟩ rfl hl.1 (Nat.le_of_ble_eq_true rfl) dX1_holds_105 rfl (fun r1 S3 H locs hp2 I _ => ?_)
        rw [hp2.1] at I
        refine lv_if_le (tgt := 115) hx hb dX1_holds_108 (by decide) (fun c108 => ?_) (fun c108 => ?_)
        · skip
          refine lv_iconst (v := 0) hx hb dX1_holds_115 (by decide) ?_
          exact ig_zret C0 hr hk I rfl (⟨rfl, by rw [hM, if_neg c7, if_neg c36, if_neg c63, ← hp2.2, decide_eq_false (Int32.not_lt.mpr c108)]; rfl⟩) dX1_holds_116
        · skip
          refine lv_iconst (v := 1) hx hb dX1_holds_111 (by decide) ?_
          refine lv_goto (tgt := 116) hx hb dX1_holds_112 (by decide) ?_
          exact ig_zret C0 hr hk I rfl (⟨rfl, by rw [hM, if_neg c7, if_neg c36, if_neg c63, ← hp2.2, decide_eq_true (Int32.not_le.mp c108)]; rfl⟩) dX1_holds_116
      · skip
        refine lv_aload_n hx hb dX1_holds_66 rfl (lv_at hl 0 rfl) ?_
        refine ig_get (C := RX1) (T := TX1) (N := 9) (ci := 1) (fs := FM a S) (v := .ref (a 4)) C0 I in_X1 rfl rfl 4 (by decide) q203 rfl dX1_holds_67 ?_
        refine lv_iload_n hx hb dX1_holds_70 rfl (lv_at hl 1 rfl) ?_
        refine ig_ald C0 I 4 5 4 (a := a 4) (n := 72) (cA := d 4) rfl rfl i rfl (by omega) (by decide) dX1_holds_71 ?_
        refine lv_aload_n hx hb dX1_holds_72 rfl (lv_at hl 0 rfl) ?_
        refine ig_get (C := RX1) (T := TX1) (N := 9) (ci := 1) (fs := FM a S) (v := .int (S 8 0)) C0 I in_X1 rfl rfl 8 (by decide) q207 rfl dX1_holds_73 ?_
        refine lv_icmp_gt (tgt := 96) hx hb dX1_holds_76 (by decide) (fun c76 => ?_) (fun c76 => ?_)
        · skip
          refine lv_iconst (v := 0) hx hb dX1_holds_96 (by decide) ?_
          exact ig_zret C0 hr hk I rfl (⟨rfl, by rw [hM, if_neg c7, if_neg c36, if_pos c63, decide_eq_false (Int32.not_le.mpr c76)]; rfl⟩) dX1_holds_97
        · skip
          refine lv_aload_n hx hb dX1_holds_79 rfl (lv_at hl 0 rfl) ?_
          refine ig_get (C := RX1) (T := TX1) (N := 9) (ci := 1) (fs := FM a S) (v := .int (S 8 0)) C0 I in_X1 rfl rfl 8 (by decide) q207 rfl dX1_holds_80 ?_
          refine lv_aload_n hx hb dX1_holds_83 rfl (lv_at hl 0 rfl) ?_
          refine ig_get (C := RX1) (T := TX1) (N := 9) (ci := 1) (fs := FM a S) (v := .ref (a 5)) C0 I in_X1 rfl rfl 5 (by decide) q204 rfl dX1_holds_84 ?_
          refine lv_iload_n hx hb dX1_holds_87 rfl (lv_at hl 1 rfl) ?_
          refine ig_ald C0 I 5 6 5 (a := a 5) (n := 72) (cA := d 5) rfl rfl i rfl (by omega) (by decide) dX1_holds_88 ?_
          refine lv_icmp_gt (tgt := 96) hx hb dX1_holds_89 (by decide) (fun c89 => ?_) (fun c89 => ?_)
          · skip
            refine lv_iconst (v := 0) hx hb dX1_holds_96 (by decide) ?_
            exact ig_zret C0 hr hk I rfl (⟨rfl, by rw [hM, if_neg c7, if_neg c36, if_pos c63, decide_eq_false (Int32.not_le.mpr c89), Bool.and_false]; rfl⟩) dX1_holds_97
          · skip
            refine lv_iconst (v := 1) hx hb dX1_holds_92 (by decide) ?_
            refine lv_goto (tgt := 97) hx hb dX1_holds_93 (by decide) ?_
            exact ig_zret C0 hr hk I rfl (⟨rfl, by rw [hM, if_neg c7, if_neg c36, if_pos c63, decide_eq_true (Int32.not_lt.mp c76), decide_eq_true (Int32.not_lt.mp c89)]; rfl⟩) dX1_holds_97
    · skip
      refine lv_aload_n hx hb dX1_holds_39 rfl (lv_at hl 0 rfl) ?_
      refine lv_aload_n hx hb dX1_holds_40 rfl (lv_at hl 0 rfl) ?_
      refine ig_get (C := RX1) (T := TX1) (N := 9) (ci := 1) (fs := FM a S) (v := .ref (a 4)) C0 I in_X1 rfl rfl 4 (by decide) q203 rfl dX1_holds_41 ?_
      refine lv_iload_n hx hb dX1_holds_44 rfl (lv_at hl 1 rfl) ?_
      refine ig_ald C0 I 4 5 4 (a := a 4) (n := 72) (cA := d 4) rfl rfl i rfl (by omega) (by decide) dX1_holds_45 ?_
      refine lv_aload_n hx hb dX1_holds_46 rfl (lv_at hl 0 rfl) ?_
      refine ig_get (C := RX1) (T := TX1) (N := 9) (ci := 1) (fs := FM a S) (v := .ref (a 5)) C0 I in_X1 rfl rfl 5 (by decide) q204 rfl dX1_holds_47 ?_
      refine lv_iload_n hx hb dX1_holds_50 rfl (lv_at hl 1 rfl) ?_
      refine ig_ald C0 I 5 6 5 (a := a 5) (n := 72) (cA := d 5) rfl rfl i rfl (by omega) (by decide) dX1_holds_51 ?_
      refine ig_calli (h := h) (As := [.int (S 4 i), .int (S 5 i)]) (rest := []) (C := RX1) (T := TX1) (N := 9) (ci := 1) (fs := FM a S) C0 hA I (metX1_beside l D h a d S L hL eL (S 4 i) (S 5 i)) rfl rfl (lw_V q291 q293 qs18 q23 q294) 2 (by decide +kernel) rfl rfl ⟨by decide, by decide⟩ ⟨Nat.zero_le _, Nat.zero_le _⟩ rfl hl.1 (Nat.le_of_ble_eq_true rfl) dX1_holds_52 rfl (fun r4 S6 H locs hp5 I _ => ?_)
      rw [hp5.1] at I
      exact ig_zret C0 hr hk I (by rw [hp5.2]; exact bI_nar _) (⟨rfl, by rw [hM, if_neg c7, if_pos c36, hp5.2]⟩) dX1_holds_55
  · skip
    refine lv_aload_n hx hb dX1_holds_10 rfl (lv_at hl 0 rfl) ?_
    refine lv_aload_n hx hb dX1_holds_11 rfl (lv_at hl 0 rfl) ?_
    refine ig_get (C := RX1) (T := TX1) (N := 9) (ci := 1) (fs := FM a S) (v := .ref (a 4)) C0 I in_X1 rfl rfl 4 (by decide) q203 rfl dX1_holds_12 ?_
    refine lv_iload_n hx hb dX1_holds_15 rfl (lv_at hl 1 rfl) ?_
    refine ig_ald C0 I 4 5 4 (a := a 4) (n := 72) (cA := d 4) rfl rfl i rfl (by omega) (by decide) dX1_holds_16 ?_
    refine ig_calli (h := h) (As := [.int (S 4 i)]) (rest := []) (C := RX1) (T := TX1) (N := 9) (ci := 1) (fs := FM a S) C0 hA I (metX1_often l D h a d S L hL eL (S 4 i)) rfl rfl (lw_V q287 q289 qs17 q23 q290) 1 (by decide +kernel) rfl rfl ⟨by decide, by decide⟩ ⟨Nat.zero_le _, Nat.zero_le _⟩ rfl hl.1 (Nat.le_of_ble_eq_true rfl) dX1_holds_17 rfl (fun r7 S9 H locs hp8 I _ => ?_)
    rw [hp8.1] at I
    refine lv_if_ne (tgt := 27) hx hb dX1_holds_20 (by decide) (fun c20 => ?_) (fun c20 => ?_)
    · skip
      refine lv_iconst (v := 0) hx hb dX1_holds_27 (by decide) ?_
      exact ig_zret C0 hr hk I rfl (⟨rfl, by rw [hM, if_pos c7, ← hp8.2, decide_eq_false c20]; rfl⟩) dX1_holds_28
    · skip
      refine lv_iconst (v := 1) hx hb dX1_holds_23 (by decide) ?_
      refine lv_goto (tgt := 28) hx hb dX1_holds_24 (by decide) ?_
      exact ig_zret C0 hr hk I rfl (⟨rfl, by rw [hM, if_pos c7, ← hp8.2, decide_eq_true c20]; rfl⟩) dX1_holds_28

set_option maxHeartbeats 4000000 in
set_option maxRecDepth 100000 in
/-- scoreOf(q) -/
theorem metX1_scoreOf (l : Launch) (D : va_G) (h : Nat) (a : Nat → Nat) (d : Nat → ClassId) (S : ST) (L : Nat) (hL : L ≤ 16) (eL : S 7 0 = nI L) (Q cq : Nat) (hQ : Q < 12) (hc : cq ≤ 6) (eC : S 2 Q = nI cq) : mi_ l D clX (WM h a d) (TYM d) yX1_scoreOf cX1_scoreOf 4 (some .int) (rmX 1 23) [.ref h, .int (nI Q)] S (fun r S1 => S1 = S ∧ r = scM S L Q cq) := by
  refine mi_of (by decide) (Nat.le_of_ble_eq_true rfl) ?_
  intro p e s m below meth c A ls C0 hr hk hA I hl
  have C0 : CallFix p m c cX1_scoreOf 4 s ([.ref h, .int (nI Q)] : List Value).toArray lw_all RX1 := C0
  have hl : lv_has ls 4 [(0, .ref h), (1, .int (nI Q))] := hl
  have hx := C0.1
  have hb := C0.2.1
  refine lv_iconst (v := 0) hx hb dX1_scoreOf_0 (by decide) ?_
  refine lv_istore_n (lv' := [(2, .int 0), (0, .ref h), (1, .int (nI Q))]) hx hb dX1_scoreOf_1 rfl hl (by decide) rfl (fun ls hl => ?_)
  refine lv_iload_n hx hb dX1_scoreOf_2 rfl (lv_at hl 2 rfl) ?_
  refine lv_bipush (v := 6) hx hb dX1_scoreOf_3 (by decide) ?_
  refine lv_imul hx hb dX1_scoreOf_5 ?_
  refine lv_topi (fun v1 ev1 => ?_)
  obtain rfl : v1 = nI (Q * 6) := ev1.trans (pk_mul Q 6)
  refine lv_istore_n (lv' := [(3, .int (nI (Q * 6))), (2, .int 0), (0, .ref h), (1, .int (nI Q))]) hx hb dX1_scoreOf_6 rfl hl (by decide) rfl (fun ls hl => ?_)
  have loop : ∀ (n : Nat) (j : Nat) (b : Int32), j ≤ cq → cq < j + n → b = scG (S 3) (S 4) (cnM S L) (Q * 6) j → ∀ (H : Heap) (locs : List Loc) (ls : Array Slot), ig_ D clX (WM h a d) (TYM d) A s S H locs → lv_has ls 4 [(3, .int (nI (Q * 6 + j))), (2, .int b), (0, .ref h), (1, .int (nI Q))] → W p l e (rmX 1 23) s m ([.ref h, .int (nI Q)] : List Value).toArray below meth c H locs 0 0 (MQ below (va_Qi (fun r S1 => S1 = S ∧ r = scM S L Q cq) (bg_ D clX (WM h a d) (TYM d) A) A) ([.ref h, .int (nI Q)] : List Value).toArray s 0 0 A) (F0 m 7 ls []) := by
    intro n
    induction n with
    | zero =>
      intro j b h1 h2 hv
      exact absurd h2 (by omega)
    | succ n ih =>
      intro j b h1 h2 hv H locs ls I hl
      refine lv_iload_n hx hb dX1_scoreOf_7 rfl (lv_at hl 0 rfl) ?_
      refine lv_iload_n hx hb dX1_scoreOf_8 rfl (lv_at hl 3 rfl) ?_
      refine lv_bipush (v := 6) hx hb dX1_scoreOf_9 (by decide) ?_
      refine lv_imul hx hb dX1_scoreOf_11 ?_
      refine lv_topi (fun v2 ev2 => ?_)
      obtain rfl : v2 = nI (Q * 6) := ev2.trans (pk_mul Q 6)
      refine lv_aload_n hx hb dX1_scoreOf_12 rfl (lv_at hl 2 rfl) ?_
      refine ig_get (C := RX1) (T := TX1) (N := 9) (ci := 1) (fs := FM a S) (v := .ref (a 2)) C0 I in_X1 rfl rfl 2 (by decide) q201 rfl dX1_scoreOf_13 ?_
      refine lv_iload_n hx hb dX1_scoreOf_16 rfl (lv_at hl 3 rfl) ?_
      refine ig_ald C0 I 2 3 2 (a := a 2) (n := 12) (cA := d 2) rfl rfl Q rfl (by omega) (by decide) dX1_scoreOf_17 ?_
      refine lv_topi (fun v3 ev3 => ?_)
      obtain rfl : v3 = nI cq := ev3.trans eC
      refine lv_iadd hx hb dX1_scoreOf_18 ?_
      refine lv_topi (fun v4 ev4 => ?_)
      obtain rfl : v4 = nI (Q * 6 + cq) := ev4.trans (nI_add (Q * 6) cq)
      refine lv_icmp_ge (tgt := 73) hx hb dX1_scoreOf_19 (by decide) (fun c19 => ?_) (fun c19 => ?_)
      · skip
        have hge : j = cq := by
          have := (nI_leI (a := Q * 6 + cq) (b := Q * 6 + j) (by omega) (by omega)).mp c19
          omega
        subst hge
        refine lv_iload_n hx hb dX1_scoreOf_73 rfl (lv_at hl 1 rfl) ?_
        exact ig_iret C0 hr hk I (⟨rfl, hv⟩) dX1_scoreOf_74
      · skip
        have hlt : j < cq := by
          rcases Nat.lt_or_ge j cq with q | q
          · exact q
          · exact absurd (nI_le (a := Q * 6 + cq) (b := Q * 6 + j) (by omega) (by omega)) c19
        refine lv_aload_n hx hb dX1_scoreOf_22 rfl (lv_at hl 2 rfl) ?_
        refine ig_get (C := RX1) (T := TX1) (N := 9) (ci := 1) (fs := FM a S) (v := .ref (a 3)) C0 I in_X1 rfl rfl 3 (by decide) q202 rfl dX1_scoreOf_23 ?_
        refine lv_iload_n hx hb dX1_scoreOf_26 rfl (lv_at hl 0 rfl) ?_
        refine ig_ald C0 I 3 4 3 (a := a 3) (n := 72) (cA := d 3) rfl rfl (Q * 6 + j) rfl (by omega) (by decide) dX1_scoreOf_27 ?_
        refine lv_if_eq (tgt := 41) hx hb dX1_scoreOf_28 (by decide) (fun c28 => ?_) (fun c28 => ?_)
        · skip
          refine lv_iload_n hx hb dX1_scoreOf_41 rfl (lv_at hl 1 rfl) ?_
          refine lv_aload_n hx hb dX1_scoreOf_42 rfl (lv_at hl 2 rfl) ?_
          refine lv_aload_n hx hb dX1_scoreOf_43 rfl (lv_at hl 2 rfl) ?_
          refine ig_get (C := RX1) (T := TX1) (N := 9) (ci := 1) (fs := FM a S) (v := .ref (a 4)) C0 I in_X1 rfl rfl 4 (by decide) q203 rfl dX1_scoreOf_44 ?_
          refine lv_iload_n hx hb dX1_scoreOf_47 rfl (lv_at hl 0 rfl) ?_
          refine ig_ald C0 I 4 5 4 (a := a 4) (n := 72) (cA := d 4) rfl rfl (Q * 6 + j) rfl (by omega) (by decide) dX1_scoreOf_48 ?_
          refine ig_calli (h := h) (As := [.int (S 4 (Q * 6 + j))]) (rest := [.int b]) (C := RX1) (T := TX1) (N := 9) (ci := 1) (fs := FM a S) C0 hA I (metX1_often l D h a d S L hL eL (S 4 (Q * 6 + j))) rfl rfl (lw_V q287 q289 qs17 q23 q290) 1 (by decide +kernel) rfl rfl ⟨by decide, by decide⟩ ⟨Nat.zero_le _, Nat.zero_le _⟩ rfl hl.1 (Nat.le_of_ble_eq_true rfl) dX1_scoreOf_49 rfl (fun r5 S7 H locs hp6 I _ => ?_)
          rw [hp6.1] at I
          refine lv_iadd hx hb dX1_scoreOf_52 ?_
          refine lv_istore_n (lv' := [(2, .int (b + r5)), (3, .int (nI (Q * 6 + j))), (0, .ref h), (1, .int (nI Q))]) hx hb dX1_scoreOf_53 rfl hl (by decide) rfl (fun ls hl => ?_)
          have hb1 : sc1 (S 3) (S 4) (cnM S L) (Q * 6 + j) b = b + r5 := by rw [sc_a (by rw [c28]; decide), hp6.2]
          refine lv_aload_n hx hb dX1_scoreOf_54 rfl (lv_at hl 2 rfl) ?_
          refine ig_get (C := RX1) (T := TX1) (N := 9) (ci := 1) (fs := FM a S) (v := .ref (a 3)) C0 I in_X1 rfl rfl 3 (by decide) q202 rfl dX1_scoreOf_55 ?_
          refine lv_iload_n hx hb dX1_scoreOf_58 rfl (lv_at hl 1 rfl) ?_
          refine ig_ald C0 I 3 4 3 (a := a 3) (n := 72) (cA := d 3) rfl rfl (Q * 6 + j) rfl (by omega) (by decide) dX1_scoreOf_59 ?_
          refine lv_iconst (v := 3) hx hb dX1_scoreOf_60 (by decide) ?_
          refine lv_icmp_ne (tgt := 67) hx hb dX1_scoreOf_61 (by decide) (fun c61 => ?_) (fun c61 => ?_)
          · skip
            refine lv_iinc (v := nI (Q * 6 + j + 1)) (lv' := [(3, .int (nI (Q * 6 + j + 1))), (2, .int (b + r5)), (0, .ref h), (1, .int (nI Q))]) hx hb dX1_scoreOf_67 hl (k := 1) rfl (nI_1 (Q * 6 + j)) (by decide) rfl (fun ls hl => ?_)
            refine lv_goto (tgt := 7) hx hb dX1_scoreOf_70 (by decide) ?_
            exact ih (j + 1) (b + r5) (by omega) (by omega) (by rw [sc_n3 c61, ← hv, hb1]) _ _ _ I (lv_sub hl [0, 1, 2, 3] rfl)
          · skip
            refine lv_iinc (v := (b + r5) + 5) (lv' := [(2, .int ((b + r5) + 5)), (3, .int (nI (Q * 6 + j))), (0, .ref h), (1, .int (nI Q))]) hx hb dX1_scoreOf_64 hl (k := 0) rfl rfl (by decide) rfl (fun ls hl => ?_)
            refine lv_iinc (v := nI (Q * 6 + j + 1)) (lv' := [(3, .int (nI (Q * 6 + j + 1))), (2, .int ((b + r5) + 5)), (0, .ref h), (1, .int (nI Q))]) hx hb dX1_scoreOf_67 hl (k := 1) rfl (nI_1 (Q * 6 + j)) (by decide) rfl (fun ls hl => ?_)
            refine lv_goto (tgt := 7) hx hb dX1_scoreOf_70 (by decide) ?_
            exact ih (j + 1) (b + r5 + 5) (by omega) (by omega) (by rw [sc_3 c61, ← hv, hb1]) _ _ _ I (lv_sub hl [0, 1, 2, 3] rfl)
        · skip
          refine lv_aload_n hx hb dX1_scoreOf_31 rfl (lv_at hl 2 rfl) ?_
          refine ig_get (C := RX1) (T := TX1) (N := 9) (ci := 1) (fs := FM a S) (v := .ref (a 3)) C0 I in_X1 rfl rfl 3 (by decide) q202 rfl dX1_scoreOf_32 ?_
          refine lv_iload_n hx hb dX1_scoreOf_35 rfl (lv_at hl 0 rfl) ?_
          refine ig_ald C0 I 3 4 3 (a := a 3) (n := 72) (cA := d 3) rfl rfl (Q * 6 + j) rfl (by omega) (by decide) dX1_scoreOf_36 ?_
          refine lv_iconst (v := 2) hx hb dX1_scoreOf_37 (by decide) ?_
          refine lv_icmp_ne (tgt := 54) hx hb dX1_scoreOf_38 (by decide) (fun c38 => ?_) (fun c38 => ?_)
          · skip
            have hb1 : sc1 (S 3) (S 4) (cnM S L) (Q * 6 + j) b = b := sc_b (fun q => q.elim c28 c38)
            refine lv_aload_n hx hb dX1_scoreOf_54 rfl (lv_at hl 2 rfl) ?_
            refine ig_get (C := RX1) (T := TX1) (N := 9) (ci := 1) (fs := FM a S) (v := .ref (a 3)) C0 I in_X1 rfl rfl 3 (by decide) q202 rfl dX1_scoreOf_55 ?_
            refine lv_iload_n hx hb dX1_scoreOf_58 rfl (lv_at hl 0 rfl) ?_
            refine ig_ald C0 I 3 4 3 (a := a 3) (n := 72) (cA := d 3) rfl rfl (Q * 6 + j) rfl (by omega) (by decide) dX1_scoreOf_59 ?_
            refine lv_iconst (v := 3) hx hb dX1_scoreOf_60 (by decide) ?_
            refine lv_icmp_ne (tgt := 67) hx hb dX1_scoreOf_61 (by decide) (fun c61 => ?_) (fun c61 => ?_)
            · skip
              refine lv_iinc (v := nI (Q * 6 + j + 1)) (lv' := [(3, .int (nI (Q * 6 + j + 1))), (2, .int b), (0, .ref h), (1, .int (nI Q))]) hx hb dX1_scoreOf_67 hl (k := 0) rfl (nI_1 (Q * 6 + j)) (by decide) rfl (fun ls hl => ?_)
              refine lv_goto (tgt := 7) hx hb dX1_scoreOf_70 (by decide) ?_
              exact ih (j + 1) (b) (by omega) (by omega) (by rw [sc_n3 c61, ← hv, hb1]) _ _ _ I (lv_sub hl [0, 1, 2, 3] rfl)
            · skip
              refine lv_iinc (v := b + 5) (lv' := [(2, .int (b + 5)), (3, .int (nI (Q * 6 + j))), (0, .ref h), (1, .int (nI Q))]) hx hb dX1_scoreOf_64 hl (k := 1) rfl rfl (by decide) rfl (fun ls hl => ?_)
              refine lv_iinc (v := nI (Q * 6 + j + 1)) (lv' := [(3, .int (nI (Q * 6 + j + 1))), (2, .int (b + 5)), (0, .ref h), (1, .int (nI Q))]) hx hb dX1_scoreOf_67 hl (k := 1) rfl (nI_1 (Q * 6 + j)) (by decide) rfl (fun ls hl => ?_)
              refine lv_goto (tgt := 7) hx hb dX1_scoreOf_70 (by decide) ?_
              exact ih (j + 1) (b + 5) (by omega) (by omega) (by rw [sc_3 c61, ← hv, hb1]) _ _ _ I (lv_sub hl [0, 1, 2, 3] rfl)
          · skip
            refine lv_iload_n hx hb dX1_scoreOf_41 rfl (lv_at hl 1 rfl) ?_
            refine lv_aload_n hx hb dX1_scoreOf_42 rfl (lv_at hl 2 rfl) ?_
            refine lv_aload_n hx hb dX1_scoreOf_43 rfl (lv_at hl 2 rfl) ?_
            refine ig_get (C := RX1) (T := TX1) (N := 9) (ci := 1) (fs := FM a S) (v := .ref (a 4)) C0 I in_X1 rfl rfl 4 (by decide) q203 rfl dX1_scoreOf_44 ?_
            refine lv_iload_n hx hb dX1_scoreOf_47 rfl (lv_at hl 0 rfl) ?_
            refine ig_ald C0 I 4 5 4 (a := a 4) (n := 72) (cA := d 4) rfl rfl (Q * 6 + j) rfl (by omega) (by decide) dX1_scoreOf_48 ?_
            refine ig_calli (h := h) (As := [.int (S 4 (Q * 6 + j))]) (rest := [.int b]) (C := RX1) (T := TX1) (N := 9) (ci := 1) (fs := FM a S) C0 hA I (metX1_often l D h a d S L hL eL (S 4 (Q * 6 + j))) rfl rfl (lw_V q287 q289 qs17 q23 q290) 1 (by decide +kernel) rfl rfl ⟨by decide, by decide⟩ ⟨Nat.zero_le _, Nat.zero_le _⟩ rfl hl.1 (Nat.le_of_ble_eq_true rfl) dX1_scoreOf_49 rfl (fun r8 S10 H locs hp9 I _ => ?_)
            rw [hp9.1] at I
            refine lv_iadd hx hb dX1_scoreOf_52 ?_
            refine lv_istore_n (lv' := [(2, .int (b + r8)), (3, .int (nI (Q * 6 + j))), (0, .ref h), (1, .int (nI Q))]) hx hb dX1_scoreOf_53 rfl hl (by decide) rfl (fun ls hl => ?_)
            have hb1 : sc1 (S 3) (S 4) (cnM S L) (Q * 6 + j) b = b + r8 := by rw [sc_a (by rw [c38]; decide), hp9.2]
            refine lv_aload_n hx hb dX1_scoreOf_54 rfl (lv_at hl 2 rfl) ?_
            refine ig_get (C := RX1) (T := TX1) (N := 9) (ci := 1) (fs := FM a S) (v := .ref (a 3)) C0 I in_X1 rfl rfl 3 (by decide) q202 rfl dX1_scoreOf_55 ?_
            refine lv_iload_n hx hb dX1_scoreOf_58 rfl (lv_at hl 1 rfl) ?_
            refine ig_ald C0 I 3 4 3 (a := a 3) (n := 72) (cA := d 3) rfl rfl (Q * 6 + j) rfl (by omega) (by decide) dX1_scoreOf_59 ?_
            refine lv_iconst (v := 3) hx hb dX1_scoreOf_60 (by decide) ?_
            refine lv_icmp_ne (tgt := 67) hx hb dX1_scoreOf_61 (by decide) (fun c61 => ?_) (fun c61 => ?_)
            · skip
              refine lv_iinc (v := nI (Q * 6 + j + 1)) (lv' := [(3, .int (nI (Q * 6 + j + 1))), (2, .int (b + r8)), (0, .ref h), (1, .int (nI Q))]) hx hb dX1_scoreOf_67 hl (k := 1) rfl (nI_1 (Q * 6 + j)) (by decide) rfl (fun ls hl => ?_)
              refine lv_goto (tgt := 7) hx hb dX1_scoreOf_70 (by decide) ?_
              exact ih (j + 1) (b + r8) (by omega) (by omega) (by rw [sc_n3 c61, ← hv, hb1]) _ _ _ I (lv_sub hl [0, 1, 2, 3] rfl)
            · skip
              refine lv_iinc (v := (b + r8) + 5) (lv' := [(2, .int ((b + r8) + 5)), (3, .int (nI (Q * 6 + j))), (0, .ref h), (1, .int (nI Q))]) hx hb dX1_scoreOf_64 hl (k := 0) rfl rfl (by decide) rfl (fun ls hl => ?_)
              refine lv_iinc (v := nI (Q * 6 + j + 1)) (lv' := [(3, .int (nI (Q * 6 + j + 1))), (2, .int ((b + r8) + 5)), (0, .ref h), (1, .int (nI Q))]) hx hb dX1_scoreOf_67 hl (k := 1) rfl (nI_1 (Q * 6 + j)) (by decide) rfl (fun ls hl => ?_)
              refine lv_goto (tgt := 7) hx hb dX1_scoreOf_70 (by decide) ?_
              exact ih (j + 1) (b + r8 + 5) (by omega) (by omega) (by rw [sc_3 c61, ← hv, hb1]) _ _ _ I (lv_sub hl [0, 1, 2, 3] rfl)
  exact loop (cq + 1) 0 0 (by omega) (by omega) rfl _ _ _ I (lv_sub hl [0, 1, 2, 3] rfl)

set_option maxHeartbeats 4000000 in
set_option maxRecDepth 100000 in
/-- matchesQuery(q) -/
theorem metX1_matchesQuery (l : Launch) (D : va_G) (h : Nat) (a : Nat → Nat) (d : Nat → ClassId) (S : ST) (L : Nat) (hL : L ≤ 16) (eL : S 7 0 = nI L) (ok : okC S) (p0 : Int32) : mi_ l D clX (WM h a d) (TYM d) yX1_matchesQuery cX1_matchesQuery 5 (some .boolean) (rmX 2 44) [.ref h, .int p0] S (fun r S1 => S1 = S ∧ ((¬ isQ S p0 ∧ r = 0) ∨ ∃ K, K < 12 ∧ p0 = nI K ∧ ¬ S 0 K = 0 ∧ r = bI (ckM S L K (clN S K)))) := by
  refine mi_of (by decide) (Nat.le_of_ble_eq_true rfl) ?_
  intro p e s m below meth c A ls C0 hr hk hA I hl
  have C0 : CallFix p m c cX1_matchesQuery 5 s ([.ref h, .int p0] : List Value).toArray lw_all RX1 := C0
  have hl : lv_has ls 5 [(0, .ref h), (1, .int p0)] := hl
  have hx := C0.1
  have hb := C0.2.1
  refine lv_aload_n hx hb dX1_matchesQuery_0 rfl (lv_at hl 0 rfl) ?_
  refine lv_iload_n hx hb dX1_matchesQuery_1 rfl (lv_at hl 1 rfl) ?_
  refine ig_calli (h := h) (As := [.int p0]) (rest := []) (C := RX1) (T := TX1) (N := 9) (ci := 1) (fs := FM a S) C0 hA I (metX1_isQuery l D h a d S p0) rfl rfl (lw_V q239 q241 qs14 q23 q242) 1 (by decide +kernel) rfl rfl ⟨by decide, by decide⟩ ⟨Nat.zero_le _, Nat.zero_le _⟩ rfl hl.1 (Nat.le_of_ble_eq_true rfl) dX1_matchesQuery_2 rfl (fun r1 S3 H locs hp2 I _ => ?_)
  rw [hp2.1] at I
  refine lv_if_ne (tgt := 10) hx hb dX1_matchesQuery_5 (by decide) (fun c5 => ?_) (fun c5 => ?_)
  · skip
    have hq : isQ S p0 := by
      rcases hp2.2 with q | q
      · exact absurd q.1 c5
      · exact q.2
    obtain ⟨Q, hQ, rfl, hu⟩ := hq
    have hcl := clN_ok ok hQ
    generalize hcq : clN S Q = cq at hcl
    refine lv_iconst (v := 0) hx hb dX1_matchesQuery_10 (by decide) ?_
    refine lv_istore_n (lv' := [(2, .int 0), (0, .ref h), (1, .int (nI Q))]) hx hb dX1_matchesQuery_11 rfl hl (by decide) rfl (fun ls hl => ?_)
    refine lv_iload_n hx hb dX1_matchesQuery_12 rfl (lv_at hl 2 rfl) ?_
    refine lv_bipush (v := 6) hx hb dX1_matchesQuery_13 (by decide) ?_
    refine lv_imul hx hb dX1_matchesQuery_15 ?_
    refine lv_topi (fun v4 ev4 => ?_)
    obtain rfl : v4 = nI (Q * 6) := ev4.trans (pk_mul Q 6)
    refine lv_istore_n (lv' := [(3, .int (nI (Q * 6))), (2, .int 0), (0, .ref h), (1, .int (nI Q))]) hx hb dX1_matchesQuery_16 rfl hl (by decide) rfl (fun ls hl => ?_)
    have loop : ∀ (n : Nat) (i : Nat) (k : Nat) (b : Int32), Q * 6 ≤ i → i + k = Q * 6 + cq → k < n → ckG (S 3) (S 4) (S 5) (cnM S L) (bsM S L) (S 8 0) (S 1 Q) k i b = ckM S L Q cq → ∀ (H : Heap) (locs : List Loc) (ls : Array Slot), ig_ D clX (WM h a d) (TYM d) A s S H locs → lv_has ls 5 [(3, .int (nI i)), (2, .int b), (0, .ref h), (1, .int (nI Q))] → W p l e (rmX 2 44) s m ([.ref h, .int (nI Q)] : List Value).toArray below meth c H locs 0 0 (MQ below (va_Qi (fun r S1 => S1 = S ∧ ((¬ isQ S (nI Q) ∧ r = 0) ∨ ∃ K, K < 12 ∧ (nI Q) = nI K ∧ ¬ S 0 K = 0 ∧ r = bI (ckM S L K (clN S K)))) (bg_ D clX (WM h a d) (TYM d) A) A) ([.ref h, .int (nI Q)] : List Value).toArray s 0 0 A) (F0 m 17 ls []) := by
      intro n
      induction n with
      | zero =>
        intro i k b h0 h1 h2 hv
        exact absurd h2 (by omega)
      | succ n ih =>
        intro i k b h0 h1 h2 hv H locs ls I hl
        have hc := hcl.1
        refine lv_iload_n hx hb dX1_matchesQuery_17 rfl (lv_at hl 0 rfl) ?_
        refine lv_iload_n hx hb dX1_matchesQuery_18 rfl (lv_at hl 3 rfl) ?_
        refine lv_bipush (v := 6) hx hb dX1_matchesQuery_19 (by decide) ?_
        refine lv_imul hx hb dX1_matchesQuery_21 ?_
        refine lv_topi (fun v5 ev5 => ?_)
        obtain rfl : v5 = nI (Q * 6) := ev5.trans (pk_mul Q 6)
        refine lv_aload_n hx hb dX1_matchesQuery_22 rfl (lv_at hl 2 rfl) ?_
        refine ig_get (C := RX1) (T := TX1) (N := 9) (ci := 1) (fs := FM a S) (v := .ref (a 2)) C0 I in_X1 rfl rfl 2 (by decide) q201 rfl dX1_matchesQuery_23 ?_
        refine lv_iload_n hx hb dX1_matchesQuery_26 rfl (lv_at hl 3 rfl) ?_
        refine ig_ald C0 I 2 3 2 (a := a 2) (n := 12) (cA := d 2) rfl rfl Q rfl (by omega) (by decide) dX1_matchesQuery_27 ?_
        refine lv_topi (fun v6 ev6 => ?_)
        obtain rfl : v6 = nI cq := ev6.trans hcl.2
        refine lv_iadd hx hb dX1_matchesQuery_28 ?_
        refine lv_topi (fun v7 ev7 => ?_)
        obtain rfl : v7 = nI (Q * 6 + cq) := ev7.trans (nI_add (Q * 6) cq)
        refine lv_icmp_ge (tgt := 73) hx hb dX1_matchesQuery_29 (by decide) (fun c29 => ?_) (fun c29 => ?_)
        · skip
          have hge : k = 0 := by
            have := (nI_leI (a := Q * 6 + cq) (b := i) (by omega) (by omega)).mp c29
            omega
          subst hge
          refine lv_iload_n hx hb dX1_matchesQuery_73 rfl (lv_at hl 1 rfl) ?_
          refine lv_aload_n hx hb dX1_matchesQuery_74 rfl (lv_at hl 2 rfl) ?_
          refine ig_get (C := RX1) (T := TX1) (N := 9) (ci := 1) (fs := FM a S) (v := .ref (a 1)) C0 I in_X1 rfl rfl 1 (by decide) q200 rfl dX1_matchesQuery_75 ?_
          refine lv_iload_n hx hb dX1_matchesQuery_78 rfl (lv_at hl 3 rfl) ?_
          refine ig_ald C0 I 1 2 1 (a := a 1) (n := 12) (cA := d 1) rfl rfl Q rfl (by omega) (by decide) dX1_matchesQuery_79 ?_
          refine lv_icmp_lt (tgt := 87) hx hb dX1_matchesQuery_80 (by decide) (fun c80 => ?_) (fun c80 => ?_)
          · skip
            refine lv_iconst (v := 0) hx hb dX1_matchesQuery_87 (by decide) ?_
            exact ig_zret C0 hr hk I rfl (⟨rfl, Or.inr ⟨Q, hQ, rfl, hu, by rw [hcq, ← hv, ckG, decide_eq_false (Int32.not_le.mpr c80)]; rfl⟩⟩) dX1_matchesQuery_88
          · skip
            refine lv_iconst (v := 1) hx hb dX1_matchesQuery_83 (by decide) ?_
            refine lv_goto (tgt := 88) hx hb dX1_matchesQuery_84 (by decide) ?_
            exact ig_zret C0 hr hk I rfl (⟨rfl, Or.inr ⟨Q, hQ, rfl, hu, by rw [hcq, ← hv, ckG, decide_eq_true (Int32.not_lt.mp c80)]; rfl⟩⟩) dX1_matchesQuery_88
        · skip
          have hlt : i < Q * 6 + cq := by
            rcases Nat.lt_or_ge i (Q * 6 + cq) with q | q
            · exact q
            · exact absurd (nI_le q (by omega)) c29
          obtain ⟨k, rfl⟩ : ∃ z, k = z + 1 := ⟨k - 1, by omega⟩
          refine lv_aload_n hx hb dX1_matchesQuery_32 rfl (lv_at hl 2 rfl) ?_
          refine lv_iload_n hx hb dX1_matchesQuery_33 rfl (lv_at hl 0 rfl) ?_
          refine ig_calli (h := h) (As := [.int (nI i)]) (rest := []) (C := RX1) (T := TX1) (N := 9) (ci := 1) (fs := FM a S) C0 hA I (metX1_holds l D h a d S L hL eL i (by omega)) rfl rfl (lw_V q283 q285 qs16 q23 q286) 1 (by decide +kernel) rfl rfl ⟨by decide, by decide⟩ ⟨Nat.zero_le _, Nat.zero_le _⟩ rfl hl.1 (Nat.le_of_ble_eq_true rfl) dX1_matchesQuery_34 rfl (fun r8 S10 H locs hp9 I _ => ?_)
          rw [hp9.1] at I
          refine lv_istore (lv' := [(4, .int r8), (3, .int (nI i)), (2, .int b), (0, .ref h), (1, .int (nI Q))]) hx hb dX1_matchesQuery_37 hl (by decide) rfl (fun ls hl => ?_)
          refine lv_aload_n hx hb dX1_matchesQuery_39 rfl (lv_at hl 3 rfl) ?_
          refine ig_get (C := RX1) (T := TX1) (N := 9) (ci := 1) (fs := FM a S) (v := .ref (a 3)) C0 I in_X1 rfl rfl 3 (by decide) q202 rfl dX1_matchesQuery_40 ?_
          refine lv_iload_n hx hb dX1_matchesQuery_43 rfl (lv_at hl 1 rfl) ?_
          refine ig_ald C0 I 3 4 3 (a := a 3) (n := 72) (cA := d 3) rfl rfl i rfl (by omega) (by decide) dX1_matchesQuery_44 ?_
          refine lv_iconst (v := 2) hx hb dX1_matchesQuery_45 (by decide) ?_
          refine lv_icmp_ne (tgt := 60) hx hb dX1_matchesQuery_46 (by decide) (fun c46 => ?_) (fun c46 => ?_)
          · skip
            have hh := hM_n2 (L := L) ok (j := i) (by omega) c46
            refine lv_iload hx hb dX1_matchesQuery_60 (lv_at hl 0 rfl) ?_
            refine lv_if_ne (tgt := 67) hx hb dX1_matchesQuery_62 (by decide) (fun c62 => ?_) (fun c62 => ?_)
            · skip
              have hg : hM S L i = true := bI_n0 (by rw [← hp9.2]; exact c62)
              rw [hh] at hg
              refine lv_iinc (v := nI (i + 1)) (lv' := [(3, .int (nI (i + 1))), (4, .int r8), (2, .int b), (0, .ref h), (1, .int (nI Q))]) hx hb dX1_matchesQuery_67 hl (k := 1) rfl (nI_1 i) (by decide) rfl (fun ls hl => ?_)
              refine lv_goto (tgt := 17) hx hb dX1_matchesQuery_70 (by decide) ?_
              exact ih (i + 1) k b (by omega) (by omega) (by omega) (by rw [← hv, ck_n2 c46 hg]) _ _ _ I (lv_sub hl [0, 2, 3, 4] rfl)
            · skip
              have hg : hM S L i = false := bI_0.mp (by rw [← hp9.2]; exact c62)
              rw [hh] at hg
              refine lv_iconst (v := 0) hx hb dX1_matchesQuery_65 (by decide) ?_
              exact ig_zret C0 hr hk I rfl (⟨rfl, Or.inr ⟨Q, hQ, rfl, hu, by rw [hcq, ← hv, ck_no hg]; rfl⟩⟩) dX1_matchesQuery_66
          · skip
            have hh := hM_2 (L := L) c46
            refine lv_iload hx hb dX1_matchesQuery_49 (lv_at hl 0 rfl) ?_
            refine lv_if_eq (tgt := 67) hx hb dX1_matchesQuery_51 (by decide) (fun c51 => ?_) (fun c51 => ?_)
            · skip
              have hg : hM S L i = false := bI_0.mp (by rw [← hp9.2]; exact c51)
              rw [hh] at hg
              refine lv_iinc (v := nI (i + 1)) (lv' := [(3, .int (nI (i + 1))), (4, .int r8), (2, .int b), (0, .ref h), (1, .int (nI Q))]) hx hb dX1_matchesQuery_67 hl (k := 1) rfl (nI_1 i) (by decide) rfl (fun ls hl => ?_)
              refine lv_goto (tgt := 17) hx hb dX1_matchesQuery_70 (by decide) ?_
              exact ih (i + 1) k b (by omega) (by omega) (by omega) (by rw [← hv, ck_2 c46, if_neg (of_decide_eq_false hg)]) _ _ _ I (lv_sub hl [0, 2, 3, 4] rfl)
            · skip
              have hg : hM S L i = true := bI_n0 (by rw [← hp9.2]; exact c51)
              rw [hh] at hg
              refine lv_iinc (v := b + 1) (lv' := [(2, .int (b + 1)), (4, .int r8), (3, .int (nI i)), (0, .ref h), (1, .int (nI Q))]) hx hb dX1_matchesQuery_54 hl (k := 2) rfl rfl (by decide) rfl (fun ls hl => ?_)
              refine lv_goto (tgt := 67) hx hb dX1_matchesQuery_57 (by decide) ?_
              refine lv_iinc (v := nI (i + 1)) (lv' := [(3, .int (nI (i + 1))), (2, .int (b + 1)), (4, .int r8), (0, .ref h), (1, .int (nI Q))]) hx hb dX1_matchesQuery_67 hl (k := 2) rfl (nI_1 i) (by decide) rfl (fun ls hl => ?_)
              refine lv_goto (tgt := 17) hx hb dX1_matchesQuery_70 (by decide) ?_
              exact ih (i + 1) k (b + 1) (by omega) (by omega) (by omega) (by rw [← hv, ck_2 c46, if_pos (of_decide_eq_true hg)]) _ _ _ I (lv_sub hl [0, 1, 3, 4] rfl)
    exact loop (cq + 1) (Q * 6) cq 0 (Nat.le_refl _) rfl (by omega) rfl _ _ _ I (lv_sub hl [0, 1, 2, 3] rfl)
  · skip
    have hq : ¬ isQ S p0 := by
      rcases hp2.2 with q | q
      · exact q.2
      · exact absurd (q.1.symm.trans c5) (by decide)
    refine lv_iconst (v := 0) hx hb dX1_matchesQuery_8 (by decide) ?_
    exact ig_zret C0 hr hk I rfl (⟨rfl, Or.inl ⟨hq, rfl⟩⟩) dX1_matchesQuery_9

theorem mq_of {S : ST} {L q : Nat} {r : Int32} (hq : q < 12) (h : (¬ isQ S (nI q) ∧ r = 0) ∨ ∃ Q, Q < 12 ∧ nI q = nI Q ∧ ¬ S 0 Q = 0 ∧ r = bI (ckM S L Q (clN S Q))) : r = bI (mqM S L q) := by
  rcases h with ⟨h1, h2⟩ | ⟨Q, h1, h2, h3, h4⟩
  · have : S 0 q = 0 := Classical.byContradiction fun z => h1 ⟨q, hq, rfl, z⟩
    rw [mqM, decide_eq_true this, h2]
    rfl
  · have : q = Q := (nI_eq (by omega) (by omega)).mp h2
    subst this
    rw [mqM, decide_eq_false h3, h4]
    rfl

set_option maxHeartbeats 4000000 in
set_option maxRecDepth 100000 in
/-- matches() -/
theorem metX1_matches (l : Launch) (D : va_G) (h : Nat) (a : Nat → Nat) (d : Nat → ClassId) (S : ST) (L : Nat) (hL : L ≤ 16) (eL : S 7 0 = nI L) (ok : okC S) : mi_ l D clX (WM h a d) (TYM d) yX1_matches cX1_matches 3 (some .int) (rmX 3 68) [.ref h] S (fun r S1 => S1 = S ∧ r = nI (cntB (mqM S L) 12)) := by
  refine mi_of (by decide) (Nat.le_of_ble_eq_true rfl) ?_
  intro p e s m below meth c A ls C0 hr hk hA I hl
  have C0 : CallFix p m c cX1_matches 3 s ([.ref h] : List Value).toArray lw_all RX1 := C0
  have hl : lv_has ls 3 [(0, .ref h)] := hl
  have hx := C0.1
  have hb := C0.2.1
  refine lv_iconst (v := 0) hx hb dX1_matches_0 (by decide) ?_
  refine lv_istore_n (lv' := [(1, .int 0), (0, .ref h)]) hx hb dX1_matches_1 rfl hl (by decide) rfl (fun ls hl => ?_)
  refine lv_iconst (v := 0) hx hb dX1_matches_2 (by decide) ?_
  refine lv_istore_n (lv' := [(2, .int 0), (1, .int 0), (0, .ref h)]) hx hb dX1_matches_3 rfl hl (by decide) rfl (fun ls hl => ?_)
  have loop : ∀ (n : Nat) (i : Nat), i ≤ 12 → 12 < i + n → ∀ (H : Heap) (locs : List Loc) (ls : Array Slot), ig_ D clX (WM h a d) (TYM d) A s S H locs → lv_has ls 3 [(2, .int (nI i)), (1, .int (nI (cntB (mqM S L) i))), (0, .ref h)] → W p l e (rmX 3 68) s m ([.ref h] : List Value).toArray below meth c H locs 0 0 (MQ below (va_Qi (fun r S1 => S1 = S ∧ r = nI (cntB (mqM S L) 12)) (bg_ D clX (WM h a d) (TYM d) A) A) ([.ref h] : List Value).toArray s 0 0 A) (F0 m 4 ls []) := by
    intro n
    induction n with
    | zero =>
      intro i h1 h2
      exact absurd h2 (by omega)
    | succ n ih =>
      intro i h1 h2 H locs ls I hl
      refine lv_iload_n hx hb dX1_matches_4 rfl (lv_at hl 0 rfl) ?_
      refine lv_bipush (v := 12) hx hb dX1_matches_5 (by decide) ?_
      refine lv_icmp_ge (tgt := 27) hx hb dX1_matches_7 (by decide) (fun c7 => ?_) (fun c7 => ?_)
      · skip
        have hge : i = 12 := by
          have := (nI_leI (a := 12) (b := i) (by omega) (by omega)).mp c7
          omega
        subst hge
        refine lv_iload_n hx hb dX1_matches_27 rfl (lv_at hl 1 rfl) ?_
        exact ig_iret C0 hr hk I (⟨rfl, rfl⟩) dX1_matches_28
      · skip
        have hlt : i < 12 := by
          rcases Nat.lt_or_ge i 12 with q | q
          · exact q
          · exact absurd (nI_le q (by omega)) c7
        refine lv_aload_n hx hb dX1_matches_10 rfl (lv_at hl 2 rfl) ?_
        refine lv_iload_n hx hb dX1_matches_11 rfl (lv_at hl 0 rfl) ?_
        refine ig_calli (h := h) (As := [.int (nI i)]) (rest := []) (C := RX1) (T := TX1) (N := 9) (ci := 1) (fs := FM a S) C0 hA I (metX1_matchesQuery l D h a d S L hL eL ok (nI i)) rfl rfl (lw_V q279 q280 q281 q23 q282) 1 (by decide +kernel) rfl rfl ⟨by decide, by decide⟩ ⟨Nat.zero_le _, Nat.zero_le _⟩ rfl hl.1 (Nat.le_of_ble_eq_true rfl) dX1_matches_12 rfl (fun r1 S3 H locs hp2 I _ => ?_)
        rw [hp2.1] at I
        have hm := mq_of hlt hp2.2
        refine lv_if_eq (tgt := 21) hx hb dX1_matches_15 (by decide) (fun c15 => ?_) (fun c15 => ?_)
        · skip
          have ec : cntB (mqM S L) (i + 1) = cntB (mqM S L) i := by rw [cntB, bI_0.mp (hm.symm.trans c15)]; rfl
          rw [← ec] at hl
          refine lv_iinc (v := nI (i + 1)) (lv' := [(2, .int (nI (i + 1))), (1, .int (nI (cntB (mqM S L) (i + 1)))), (0, .ref h)]) hx hb dX1_matches_21 hl (k := 0) rfl (nI_1 i) (by decide) rfl (fun ls hl => ?_)
          refine lv_goto (tgt := 4) hx hb dX1_matches_24 (by decide) ?_
          exact ih (i + 1) (by omega) (by omega) _ _ _ I (lv_sub hl [0, 1, 2] rfl)
        · skip
          have ec : cntB (mqM S L) (i + 1) = cntB (mqM S L) i + 1 := by rw [cntB, bI_n0 (b := mqM S L i) (by rw [← hm]; exact c15)]; rfl
          refine lv_iinc (v := nI (cntB (mqM S L) i + 1)) (lv' := [(1, .int (nI (cntB (mqM S L) i + 1))), (2, .int (nI i)), (0, .ref h)]) hx hb dX1_matches_18 hl (k := 1) rfl (nI_1 (cntB (mqM S L) i)) (by decide) rfl (fun ls hl => ?_)
          rw [← ec] at hl
          refine lv_iinc (v := nI (i + 1)) (lv' := [(2, .int (nI (i + 1))), (1, .int (nI (cntB (mqM S L) (i + 1)))), (0, .ref h)]) hx hb dX1_matches_21 hl (k := 1) rfl (nI_1 i) (by decide) rfl (fun ls hl => ?_)
          refine lv_goto (tgt := 4) hx hb dX1_matches_24 (by decide) ?_
          exact ih (i + 1) (by omega) (by omega) _ _ _ I (lv_sub hl [0, 1, 2] rfl)
  exact loop 13 0 (by omega) (by omega) _ _ _ I (lv_sub hl [0, 1, 2] rfl)

set_option maxHeartbeats 4000000 in
set_option maxRecDepth 100000 in
/-- before(q) -/
theorem metX1_before (l : Launch) (D : va_G) (h : Nat) (a : Nat → Nat) (d : Nat → ClassId) (S : ST) (L : Nat) (hL : L ≤ 16) (eL : S 7 0 = nI L) (ok : okC S) (q : Nat) (hq : q < 12) : mi_ l D clX (WM h a d) (TYM d) yX1_before cX1_before 5 (some .int) (rmX 3 68) [.ref h, .int (nI q)] S (fun r S1 => S1 = S ∧ r = nI (befN (mqM S L) (scN S L) q 12)) := by
  refine mi_of (by decide) (Nat.le_of_ble_eq_true rfl) ?_
  intro p e s m below meth c A ls C0 hr hk hA I hl
  have C0 : CallFix p m c cX1_before 5 s ([.ref h, .int (nI q)] : List Value).toArray lw_all RX1 := C0
  have hl : lv_has ls 5 [(0, .ref h), (1, .int (nI q))] := hl
  have hx := C0.1
  have hb := C0.2.1
  have cq := clN_ok ok hq
  refine lv_iconst (v := 0) hx hb dX1_before_0 (by decide) ?_
  refine lv_istore_n (lv' := [(2, .int 0), (0, .ref h), (1, .int (nI q))]) hx hb dX1_before_1 rfl hl (by decide) rfl (fun ls hl => ?_)
  refine lv_iconst (v := 0) hx hb dX1_before_2 (by decide) ?_
  refine lv_istore_n (lv' := [(3, .int 0), (2, .int 0), (0, .ref h), (1, .int (nI q))]) hx hb dX1_before_3 rfl hl (by decide) rfl (fun ls hl => ?_)
  have loop : ∀ (n : Nat) (i : Nat), i ≤ 12 → 12 < i + n → ∀ (H : Heap) (locs : List Loc) (ls : Array Slot), ig_ D clX (WM h a d) (TYM d) A s S H locs → lv_has ls 5 [(3, .int (nI i)), (2, .int (nI (cntB (fun t => bfB (scN S L) t q && mqM S L t) i))), (0, .ref h), (1, .int (nI q))] → W p l e (rmX 3 68) s m ([.ref h, .int (nI q)] : List Value).toArray below meth c H locs 0 0 (MQ below (va_Qi (fun r S1 => S1 = S ∧ r = nI (befN (mqM S L) (scN S L) q 12)) (bg_ D clX (WM h a d) (TYM d) A) A) ([.ref h, .int (nI q)] : List Value).toArray s 0 0 A) (F0 m 4 ls []) := by
    intro n
    induction n with
    | zero =>
      intro i h1 h2
      exact absurd h2 (by omega)
    | succ n ih =>
      intro i h1 h2 H locs ls I hl
      refine lv_iload_n hx hb dX1_before_4 rfl (lv_at hl 0 rfl) ?_
      refine lv_bipush (v := 12) hx hb dX1_before_5 (by decide) ?_
      refine lv_icmp_ge (tgt := 70) hx hb dX1_before_7 (by decide) (fun c7 => ?_) (fun c7 => ?_)
      · skip
        have hge : i = 12 := by
          have := (nI_leI (a := 12) (b := i) (by omega) (by omega)).mp c7
          omega
        subst hge
        refine lv_iload_n hx hb dX1_before_70 rfl (lv_at hl 1 rfl) ?_
        exact ig_iret C0 hr hk I (⟨rfl, rfl⟩) dX1_before_71
      · skip
        have hlt : i < 12 := by
          rcases Nat.lt_or_ge i 12 with q | q
          · exact q
          · exact absurd (nI_le q (by omega)) c7
        have ci := clN_ok ok hlt
        refine lv_aload_n hx hb dX1_before_10 rfl (lv_at hl 2 rfl) ?_
        refine lv_iload_n hx hb dX1_before_11 rfl (lv_at hl 0 rfl) ?_
        refine ig_calli (h := h) (As := [.int (nI i)]) (rest := []) (C := RX1) (T := TX1) (N := 9) (ci := 1) (fs := FM a S) C0 hA I (metX1_scoreOf l D h a d S L hL eL i (clN S i) hlt ci.1 ci.2) rfl rfl (lw_V q303 q305 qs20 q23 q306) 1 (by decide +kernel) rfl rfl ⟨by decide, by decide⟩ ⟨Nat.zero_le _, Nat.zero_le _⟩ rfl hl.1 (Nat.le_of_ble_eq_true rfl) dX1_before_12 rfl (fun r1 S3 H locs hp2 I _ => ?_)
        rw [hp2.1] at I
        refine lv_aload_n hx hb dX1_before_15 rfl (lv_at hl 2 rfl) ?_
        refine lv_iload_n hx hb dX1_before_16 rfl (lv_at hl 3 rfl) ?_
        refine ig_calli (h := h) (As := [.int (nI q)]) (rest := [.int r1]) (C := RX1) (T := TX1) (N := 9) (ci := 1) (fs := FM a S) C0 hA I (metX1_scoreOf l D h a d S L hL eL q (clN S q) hq cq.1 cq.2) rfl rfl (lw_V q303 q305 qs20 q23 q306) 1 (by decide +kernel) rfl rfl ⟨by decide, by decide⟩ ⟨Nat.zero_le _, Nat.zero_le _⟩ rfl hl.1 (Nat.le_of_ble_eq_true rfl) dX1_before_17 rfl (fun r4 S6 H locs hp5 I _ => ?_)
        rw [hp5.1] at I
        refine lv_icmp_gt (tgt := 41) hx hb dX1_before_20 (by decide) (fun c20 => ?_) (fun c20 => ?_)
        · skip
          have hbf : bfB (scN S L) i q = true := by rw [bfB, decide_eq_true (show scN S L q < scN S L i by rw [scN, scN, ← hp2.2, ← hp5.2]; exact c20)]; rfl
          refine lv_iconst (v := 1) hx hb dX1_before_41 (by decide) ?_
          refine lv_goto (tgt := 46) hx hb dX1_before_42 (by decide) ?_
          refine lv_istore (lv' := [(4, .int 1), (3, .int (nI i)), (2, .int (nI (cntB (fun t => bfB (scN S L) t q && mqM S L t) i))), (0, .ref h), (1, .int (nI q))]) hx hb dX1_before_46 hl (by decide) rfl (fun ls hl => ?_)
          refine lv_iload hx hb dX1_before_48 (lv_at hl 0 rfl) ?_
          refine lv_if_eq (tgt := 64) hx hb dX1_before_50 (by decide) (fun c50 => ?_) (fun c50 => ?_)
          · skip
            exact absurd c50 (by decide)
          · skip
            refine lv_aload_n hx hb dX1_before_53 rfl (lv_at hl 3 rfl) ?_
            refine lv_iload_n hx hb dX1_before_54 rfl (lv_at hl 1 rfl) ?_
            refine ig_calli (h := h) (As := [.int (nI i)]) (rest := []) (C := RX1) (T := TX1) (N := 9) (ci := 1) (fs := FM a S) C0 hA I (metX1_matchesQuery l D h a d S L hL eL ok (nI i)) rfl rfl (lw_V q279 q280 q281 q23 q282) 1 (by decide +kernel) rfl rfl ⟨by decide, by decide⟩ ⟨Nat.zero_le _, Nat.zero_le _⟩ rfl hl.1 (Nat.le_of_ble_eq_true rfl) dX1_before_55 rfl (fun r7 S9 H locs hp8 I _ => ?_)
            rw [hp8.1] at I
            have hm := mq_of hlt hp8.2
            refine lv_if_eq (tgt := 64) hx hb dX1_before_58 (by decide) (fun c58 => ?_) (fun c58 => ?_)
            · skip
              have ec : cntB (fun t => bfB (scN S L) t q && mqM S L t) (i + 1) = cntB (fun t => bfB (scN S L) t q && mqM S L t) i := by show (if (bfB (scN S L) i q && mqM S L i) = true then _ else _) = _; rw [bI_0.mp (hm.symm.trans c58), Bool.and_false]; rfl
              rw [← ec] at hl
              refine lv_iinc (v := nI (i + 1)) (lv' := [(3, .int (nI (i + 1))), (4, .int 1), (2, .int (nI (cntB (fun t => bfB (scN S L) t q && mqM S L t) (i + 1)))), (0, .ref h), (1, .int (nI q))]) hx hb dX1_before_64 hl (k := 1) rfl (nI_1 i) (by decide) rfl (fun ls hl => ?_)
              refine lv_goto (tgt := 4) hx hb dX1_before_67 (by decide) ?_
              exact ih (i + 1) (by omega) (by omega) _ _ _ I (lv_sub hl [0, 2, 3, 4] rfl)
            · skip
              have ec : cntB (fun t => bfB (scN S L) t q && mqM S L t) (i + 1) = cntB (fun t => bfB (scN S L) t q && mqM S L t) i + 1 := by show (if (bfB (scN S L) i q && mqM S L i) = true then _ else _) = _; rw [hbf, bI_n0 (b := mqM S L i) (by rw [← hm]; exact c58)]; rfl
              refine lv_iinc (v := nI (cntB (fun t => bfB (scN S L) t q && mqM S L t) i + 1)) (lv' := [(2, .int (nI (cntB (fun t => bfB (scN S L) t q && mqM S L t) i + 1))), (4, .int 1), (3, .int (nI i)), (0, .ref h), (1, .int (nI q))]) hx hb dX1_before_61 hl (k := 2) rfl (nI_1 (cntB (fun t => bfB (scN S L) t q && mqM S L t) i)) (by decide) rfl (fun ls hl => ?_)
              rw [← ec] at hl
              refine lv_iinc (v := nI (i + 1)) (lv' := [(3, .int (nI (i + 1))), (2, .int (nI (cntB (fun t => bfB (scN S L) t q && mqM S L t) (i + 1)))), (4, .int 1), (0, .ref h), (1, .int (nI q))]) hx hb dX1_before_64 hl (k := 2) rfl (nI_1 i) (by decide) rfl (fun ls hl => ?_)
              refine lv_goto (tgt := 4) hx hb dX1_before_67 (by decide) ?_
              exact ih (i + 1) (by omega) (by omega) _ _ _ I (lv_sub hl [0, 1, 3, 4] rfl)
        · skip
          have hn : ¬ scN S L q < scN S L i := by rw [scN, scN, ← hp2.2, ← hp5.2]; exact c20
          refine lv_aload_n hx hb dX1_before_23 rfl (lv_at hl 2 rfl) ?_
          refine lv_iload_n hx hb dX1_before_24 rfl (lv_at hl 0 rfl) ?_
          refine ig_calli (h := h) (As := [.int (nI i)]) (rest := []) (C := RX1) (T := TX1) (N := 9) (ci := 1) (fs := FM a S) C0 hA I (metX1_scoreOf l D h a d S L hL eL i (clN S i) hlt ci.1 ci.2) rfl rfl (lw_V q303 q305 qs20 q23 q306) 1 (by decide +kernel) rfl rfl ⟨by decide, by decide⟩ ⟨Nat.zero_le _, Nat.zero_le _⟩ rfl hl.1 (Nat.le_of_ble_eq_true rfl) dX1_before_25 rfl (fun r10 S12 H locs hp11 I _ => ?_)
          rw [hp11.1] at I
          refine lv_aload_n hx hb dX1_before_28 rfl (lv_at hl 2 rfl) ?_
          refine lv_iload_n hx hb dX1_before_29 rfl (lv_at hl 3 rfl) ?_
          refine ig_calli (h := h) (As := [.int (nI q)]) (rest := [.int r10]) (C := RX1) (T := TX1) (N := 9) (ci := 1) (fs := FM a S) C0 hA I (metX1_scoreOf l D h a d S L hL eL q (clN S q) hq cq.1 cq.2) rfl rfl (lw_V q303 q305 qs20 q23 q306) 1 (by decide +kernel) rfl rfl ⟨by decide, by decide⟩ ⟨Nat.zero_le _, Nat.zero_le _⟩ rfl hl.1 (Nat.le_of_ble_eq_true rfl) dX1_before_30 rfl (fun r13 S15 H locs hp14 I _ => ?_)
          rw [hp14.1] at I
          refine lv_icmp_ne (tgt := 45) hx hb dX1_before_33 (by decide) (fun c33 => ?_) (fun c33 => ?_)
          · skip
            have hbf : bfB (scN S L) i q = false := by rw [bfB, decide_eq_false hn, decide_eq_false (show ¬ scN S L i = scN S L q by rw [scN, scN, ← hp11.2, ← hp14.2]; exact c33)]; rfl
            refine lv_iconst (v := 0) hx hb dX1_before_45 (by decide) ?_
            refine lv_istore (lv' := [(4, .int 0), (3, .int (nI i)), (2, .int (nI (cntB (fun t => bfB (scN S L) t q && mqM S L t) i))), (0, .ref h), (1, .int (nI q))]) hx hb dX1_before_46 hl (by decide) rfl (fun ls hl => ?_)
            refine lv_iload hx hb dX1_before_48 (lv_at hl 0 rfl) ?_
            refine lv_if_eq (tgt := 64) hx hb dX1_before_50 (by decide) (fun c50 => ?_) (fun c50 => ?_)
            · skip
              have ec : cntB (fun t => bfB (scN S L) t q && mqM S L t) (i + 1) = cntB (fun t => bfB (scN S L) t q && mqM S L t) i := by show (if (bfB (scN S L) i q && mqM S L i) = true then _ else _) = _; rw [hbf, Bool.false_and]; rfl
              rw [← ec] at hl
              refine lv_iinc (v := nI (i + 1)) (lv' := [(3, .int (nI (i + 1))), (4, .int 0), (2, .int (nI (cntB (fun t => bfB (scN S L) t q && mqM S L t) (i + 1)))), (0, .ref h), (1, .int (nI q))]) hx hb dX1_before_64 hl (k := 1) rfl (nI_1 i) (by decide) rfl (fun ls hl => ?_)
              refine lv_goto (tgt := 4) hx hb dX1_before_67 (by decide) ?_
              exact ih (i + 1) (by omega) (by omega) _ _ _ I (lv_sub hl [0, 2, 3, 4] rfl)
            · skip
              exact absurd rfl c50
          · skip
            have he : scN S L i = scN S L q := by rw [scN, scN, ← hp11.2, ← hp14.2]; exact c33
            refine lv_iload_n hx hb dX1_before_36 rfl (lv_at hl 0 rfl) ?_
            refine lv_iload_n hx hb dX1_before_37 rfl (lv_at hl 3 rfl) ?_
            refine lv_icmp_ge (tgt := 45) hx hb dX1_before_38 (by decide) (fun c38 => ?_) (fun c38 => ?_)
            · skip
              have hbf : bfB (scN S L) i q = false := by rw [bfB, decide_eq_false hn, decide_eq_true he, decide_eq_false (show ¬ i < q from Nat.not_lt.mpr ((nI_leI (a := q) (b := i) (by omega) (by omega)).mp c38))]; rfl
              refine lv_iconst (v := 0) hx hb dX1_before_45 (by decide) ?_
              refine lv_istore (lv' := [(4, .int 0), (3, .int (nI i)), (2, .int (nI (cntB (fun t => bfB (scN S L) t q && mqM S L t) i))), (0, .ref h), (1, .int (nI q))]) hx hb dX1_before_46 hl (by decide) rfl (fun ls hl => ?_)
              refine lv_iload hx hb dX1_before_48 (lv_at hl 0 rfl) ?_
              refine lv_if_eq (tgt := 64) hx hb dX1_before_50 (by decide) (fun c50 => ?_) (fun c50 => ?_)
              · skip
                have ec : cntB (fun t => bfB (scN S L) t q && mqM S L t) (i + 1) = cntB (fun t => bfB (scN S L) t q && mqM S L t) i := by show (if (bfB (scN S L) i q && mqM S L i) = true then _ else _) = _; rw [hbf, Bool.false_and]; rfl
                rw [← ec] at hl
                refine lv_iinc (v := nI (i + 1)) (lv' := [(3, .int (nI (i + 1))), (4, .int 0), (2, .int (nI (cntB (fun t => bfB (scN S L) t q && mqM S L t) (i + 1)))), (0, .ref h), (1, .int (nI q))]) hx hb dX1_before_64 hl (k := 1) rfl (nI_1 i) (by decide) rfl (fun ls hl => ?_)
                refine lv_goto (tgt := 4) hx hb dX1_before_67 (by decide) ?_
                exact ih (i + 1) (by omega) (by omega) _ _ _ I (lv_sub hl [0, 2, 3, 4] rfl)
              · skip
                exact absurd rfl c50
            · skip
              have hbf : bfB (scN S L) i q = true := by rw [bfB, decide_eq_false hn, decide_eq_true he, decide_eq_true (show i < q from Nat.lt_of_not_le fun z => c38 (nI_le z (by omega)))]; rfl
              refine lv_iconst (v := 1) hx hb dX1_before_41 (by decide) ?_
              refine lv_goto (tgt := 46) hx hb dX1_before_42 (by decide) ?_
              refine lv_istore (lv' := [(4, .int 1), (3, .int (nI i)), (2, .int (nI (cntB (fun t => bfB (scN S L) t q && mqM S L t) i))), (0, .ref h), (1, .int (nI q))]) hx hb dX1_before_46 hl (by decide) rfl (fun ls hl => ?_)
              refine lv_iload hx hb dX1_before_48 (lv_at hl 0 rfl) ?_
              refine lv_if_eq (tgt := 64) hx hb dX1_before_50 (by decide) (fun c50 => ?_) (fun c50 => ?_)
              · skip
                exact absurd c50 (by decide)
              · skip
                refine lv_aload_n hx hb dX1_before_53 rfl (lv_at hl 3 rfl) ?_
                refine lv_iload_n hx hb dX1_before_54 rfl (lv_at hl 1 rfl) ?_
                refine ig_calli (h := h) (As := [.int (nI i)]) (rest := []) (C := RX1) (T := TX1) (N := 9) (ci := 1) (fs := FM a S) C0 hA I (metX1_matchesQuery l D h a d S L hL eL ok (nI i)) rfl rfl (lw_V q279 q280 q281 q23 q282) 1 (by decide +kernel) rfl rfl ⟨by decide, by decide⟩ ⟨Nat.zero_le _, Nat.zero_le _⟩ rfl hl.1 (Nat.le_of_ble_eq_true rfl) dX1_before_55 rfl (fun r16 S18 H locs hp17 I _ => ?_)
                rw [hp17.1] at I
                have hm := mq_of hlt hp17.2
                refine lv_if_eq (tgt := 64) hx hb dX1_before_58 (by decide) (fun c58 => ?_) (fun c58 => ?_)
                · skip
                  have ec : cntB (fun t => bfB (scN S L) t q && mqM S L t) (i + 1) = cntB (fun t => bfB (scN S L) t q && mqM S L t) i := by show (if (bfB (scN S L) i q && mqM S L i) = true then _ else _) = _; rw [bI_0.mp (hm.symm.trans c58), Bool.and_false]; rfl
                  rw [← ec] at hl
                  refine lv_iinc (v := nI (i + 1)) (lv' := [(3, .int (nI (i + 1))), (4, .int 1), (2, .int (nI (cntB (fun t => bfB (scN S L) t q && mqM S L t) (i + 1)))), (0, .ref h), (1, .int (nI q))]) hx hb dX1_before_64 hl (k := 1) rfl (nI_1 i) (by decide) rfl (fun ls hl => ?_)
                  refine lv_goto (tgt := 4) hx hb dX1_before_67 (by decide) ?_
                  exact ih (i + 1) (by omega) (by omega) _ _ _ I (lv_sub hl [0, 2, 3, 4] rfl)
                · skip
                  have ec : cntB (fun t => bfB (scN S L) t q && mqM S L t) (i + 1) = cntB (fun t => bfB (scN S L) t q && mqM S L t) i + 1 := by show (if (bfB (scN S L) i q && mqM S L i) = true then _ else _) = _; rw [hbf, bI_n0 (b := mqM S L i) (by rw [← hm]; exact c58)]; rfl
                  refine lv_iinc (v := nI (cntB (fun t => bfB (scN S L) t q && mqM S L t) i + 1)) (lv' := [(2, .int (nI (cntB (fun t => bfB (scN S L) t q && mqM S L t) i + 1))), (4, .int 1), (3, .int (nI i)), (0, .ref h), (1, .int (nI q))]) hx hb dX1_before_61 hl (k := 2) rfl (nI_1 (cntB (fun t => bfB (scN S L) t q && mqM S L t) i)) (by decide) rfl (fun ls hl => ?_)
                  rw [← ec] at hl
                  refine lv_iinc (v := nI (i + 1)) (lv' := [(3, .int (nI (i + 1))), (2, .int (nI (cntB (fun t => bfB (scN S L) t q && mqM S L t) (i + 1)))), (4, .int 1), (0, .ref h), (1, .int (nI q))]) hx hb dX1_before_64 hl (k := 2) rfl (nI_1 i) (by decide) rfl (fun ls hl => ?_)
                  refine lv_goto (tgt := 4) hx hb dX1_before_67 (by decide) ?_
                  exact ih (i + 1) (by omega) (by omega) _ _ _ I (lv_sub hl [0, 1, 3, 4] rfl)
  exact loop 13 0 (by omega) (by omega) _ _ _ I (lv_sub hl [0, 1, 2, 3] rfl)

set_option maxHeartbeats 4000000 in
set_option maxRecDepth 100000 in
/-- match(i) -/
theorem metX1_match (l : Launch) (D : va_G) (h : Nat) (a : Nat → Nat) (d : Nat → ClassId) (S : ST) (L : Nat) (hL : L ≤ 16) (eL : S 7 0 = nI L) (ok : okC S) (p0 : Int32) : mi_ l D clX (WM h a d) (TYM d) yX1_match cX1_match 3 (some .int) (rmX 4 92) [.ref h, .int p0] S (fun r S1 => S1 = S ∧ ((∃ q, q < 12 ∧ mqM S L q = true ∧ nI (befN (mqM S L) (scN S L) q 12) = p0 ∧ r = nI q) ∨ ((∀ q, q < 12 → mqM S L q = true → ¬ nI (befN (mqM S L) (scN S L) q 12) = p0) ∧ r = -5))) := by
  refine mi_of (by decide) (Nat.le_of_ble_eq_true rfl) ?_
  intro p e s m below meth c A ls C0 hr hk hA I hl
  have C0 : CallFix p m c cX1_match 3 s ([.ref h, .int p0] : List Value).toArray lw_all RX1 := C0
  have hl : lv_has ls 3 [(0, .ref h), (1, .int p0)] := hl
  have hx := C0.1
  have hb := C0.2.1
  refine lv_iconst (v := 0) hx hb dX1_match_0 (by decide) ?_
  refine lv_istore_n (lv' := [(2, .int 0), (0, .ref h), (1, .int p0)]) hx hb dX1_match_1 rfl hl (by decide) rfl (fun ls hl => ?_)
  have loop : ∀ (n : Nat) (i : Nat), i ≤ 12 → 12 < i + n → (∀ q, q < i → mqM S L q = true → ¬ nI (befN (mqM S L) (scN S L) q 12) = p0) → ∀ (H : Heap) (locs : List Loc) (ls : Array Slot), ig_ D clX (WM h a d) (TYM d) A s S H locs → lv_has ls 3 [(2, .int (nI i)), (0, .ref h), (1, .int p0)] → W p l e (rmX 4 92) s m ([.ref h, .int p0] : List Value).toArray below meth c H locs 0 0 (MQ below (va_Qi (fun r S1 => S1 = S ∧ ((∃ q, q < 12 ∧ mqM S L q = true ∧ nI (befN (mqM S L) (scN S L) q 12) = p0 ∧ r = nI q) ∨ ((∀ q, q < 12 → mqM S L q = true → ¬ nI (befN (mqM S L) (scN S L) q 12) = p0) ∧ r = -5))) (bg_ D clX (WM h a d) (TYM d) A) A) ([.ref h, .int p0] : List Value).toArray s 0 0 A) (F0 m 2 ls []) := by
    intro n
    induction n with
    | zero =>
      intro i h1 h2 hv
      exact absurd h2 (by omega)
    | succ n ih =>
      intro i h1 h2 hv H locs ls I hl
      refine lv_iload_n hx hb dX1_match_2 rfl (lv_at hl 0 rfl) ?_
      refine lv_bipush (v := 12) hx hb dX1_match_3 (by decide) ?_
      refine lv_icmp_ge (tgt := 33) hx hb dX1_match_5 (by decide) (fun c5 => ?_) (fun c5 => ?_)
      · skip
        have hge : i = 12 := by
          have := (nI_leI (a := 12) (b := i) (by omega) (by omega)).mp c5
          omega
        subst hge
        refine lv_bipush (v := (-5)) hx hb dX1_match_33 (by decide) ?_
        exact ig_iret C0 hr hk I (⟨rfl, Or.inr ⟨hv, rfl⟩⟩) dX1_match_35
      · skip
        have hlt : i < 12 := by
          rcases Nat.lt_or_ge i 12 with q | q
          · exact q
          · exact absurd (nI_le q (by omega)) c5
        refine lv_aload_n hx hb dX1_match_8 rfl (lv_at hl 1 rfl) ?_
        refine lv_iload_n hx hb dX1_match_9 rfl (lv_at hl 0 rfl) ?_
        refine ig_calli (h := h) (As := [.int (nI i)]) (rest := []) (C := RX1) (T := TX1) (N := 9) (ci := 1) (fs := FM a S) C0 hA I (metX1_matchesQuery l D h a d S L hL eL ok (nI i)) rfl rfl (lw_V q279 q280 q281 q23 q282) 1 (by decide +kernel) rfl rfl ⟨by decide, by decide⟩ ⟨Nat.zero_le _, Nat.zero_le _⟩ rfl hl.1 (Nat.le_of_ble_eq_true rfl) dX1_match_10 rfl (fun r1 S3 H locs hp2 I _ => ?_)
        rw [hp2.1] at I
        have hm := mq_of hlt hp2.2
        refine lv_if_eq (tgt := 27) hx hb dX1_match_13 (by decide) (fun c13 => ?_) (fun c13 => ?_)
        · skip
          refine lv_iinc (v := nI (i + 1)) (lv' := [(2, .int (nI (i + 1))), (0, .ref h), (1, .int p0)]) hx hb dX1_match_27 hl (k := 0) rfl (nI_1 i) (by decide) rfl (fun ls hl => ?_)
          refine lv_goto (tgt := 2) hx hb dX1_match_30 (by decide) ?_
          refine ih (i + 1) (by omega) (by omega) (fun q hq1 hq2 => ?_) _ _ _ I (lv_sub hl [0, 1, 2] rfl)
          rcases Nat.lt_or_ge q i with z1 | z1
          · exact hv q z1 hq2
          · have e1 : q = i := by omega
            subst e1
            exact absurd hq2 (by rw [bI_0.mp (hm.symm.trans c13)]; decide)
        · skip
          refine lv_aload_n hx hb dX1_match_16 rfl (lv_at hl 1 rfl) ?_
          refine lv_iload_n hx hb dX1_match_17 rfl (lv_at hl 0 rfl) ?_
          refine ig_calli (h := h) (As := [.int (nI i)]) (rest := []) (C := RX1) (T := TX1) (N := 9) (ci := 1) (fs := FM a S) C0 hA I (metX1_before l D h a d S L hL eL ok i hlt) rfl rfl (lw_V q299 q301 qs19 q23 q302) 1 (by decide +kernel) rfl rfl ⟨by decide, by decide⟩ ⟨Nat.zero_le _, Nat.zero_le _⟩ rfl hl.1 (Nat.le_of_ble_eq_true rfl) dX1_match_18 rfl (fun r4 S6 H locs hp5 I _ => ?_)
          rw [hp5.1] at I
          refine lv_iload_n hx hb dX1_match_21 rfl (lv_at hl 2 rfl) ?_
          refine lv_icmp_ne (tgt := 27) hx hb dX1_match_22 (by decide) (fun c22 => ?_) (fun c22 => ?_)
          · skip
            refine lv_iinc (v := nI (i + 1)) (lv' := [(2, .int (nI (i + 1))), (0, .ref h), (1, .int p0)]) hx hb dX1_match_27 hl (k := 0) rfl (nI_1 i) (by decide) rfl (fun ls hl => ?_)
            refine lv_goto (tgt := 2) hx hb dX1_match_30 (by decide) ?_
            refine ih (i + 1) (by omega) (by omega) (fun q hq1 hq2 => ?_) _ _ _ I (lv_sub hl [0, 1, 2] rfl)
            rcases Nat.lt_or_ge q i with z1 | z1
            · exact hv q z1 hq2
            · have e1 : q = i := by omega
              subst e1
              rw [← hp5.2]; exact c22
          · skip
            refine lv_iload_n hx hb dX1_match_25 rfl (lv_at hl 0 rfl) ?_
            exact ig_iret C0 hr hk I (⟨rfl, Or.inl ⟨i, hlt, bI_n0 (by rw [← hm]; exact c13), by rw [← hp5.2]; exact c22, rfl⟩⟩) dX1_match_26
  exact loop 13 0 (by omega) (by omega) (fun q z => absurd z (by omega)) _ _ _ I (lv_sub hl [0, 1, 2] rfl)

set_option maxHeartbeats 4000000 in
set_option maxRecDepth 100000 in
/-- score(i) -/
theorem metX1_score (l : Launch) (D : va_G) (h : Nat) (a : Nat → Nat) (d : Nat → ClassId) (S : ST) (L : Nat) (hL : L ≤ 16) (eL : S 7 0 = nI L) (ok : okC S) (p0 : Int32) : mi_ l D clX (WM h a d) (TYM d) yX1_score cX1_score 3 (some .int) (rmX 5 114) [.ref h, .int p0] S (fun r S1 => S1 = S ∧ ((∃ q, q < 12 ∧ mqM S L q = true ∧ nI (befN (mqM S L) (scN S L) q 12) = p0 ∧ r = scN S L q) ∨ ((∀ q, q < 12 → mqM S L q = true → ¬ nI (befN (mqM S L) (scN S L) q 12) = p0) ∧ r = 0))) := by
  refine mi_of (by decide) (Nat.le_of_ble_eq_true rfl) ?_
  intro p e s m below meth c A ls C0 hr hk hA I hl
  have C0 : CallFix p m c cX1_score 3 s ([.ref h, .int p0] : List Value).toArray lw_all RX1 := C0
  have hl : lv_has ls 3 [(0, .ref h), (1, .int p0)] := hl
  have hx := C0.1
  have hb := C0.2.1
  refine lv_aload_n hx hb dX1_score_0 rfl (lv_at hl 0 rfl) ?_
  refine lv_iload_n hx hb dX1_score_1 rfl (lv_at hl 1 rfl) ?_
  refine ig_calli (h := h) (As := [.int p0]) (rest := []) (C := RX1) (T := TX1) (N := 9) (ci := 1) (fs := FM a S) C0 hA I (metX1_match l D h a d S L hL eL ok p0) rfl rfl (lw_V q311 q296 q297 q23 q298) 1 (by decide +kernel) rfl rfl ⟨by decide, by decide⟩ ⟨Nat.zero_le _, Nat.zero_le _⟩ rfl hl.1 (Nat.le_of_ble_eq_true rfl) dX1_score_2 rfl (fun r1 S3 H locs hp2 I _ => ?_)
  rw [hp2.1] at I
  refine lv_istore_n (lv' := [(2, .int r1), (0, .ref h), (1, .int p0)]) hx hb dX1_score_5 rfl hl (by decide) rfl (fun ls hl => ?_)
  refine lv_iload_n hx hb dX1_score_6 rfl (lv_at hl 0 rfl) ?_
  refine lv_if_ge (tgt := 14) hx hb dX1_score_7 (by decide) (fun c7 => ?_) (fun c7 => ?_)
  · skip
    obtain ⟨q, hq, q1, q2, q3⟩ : ∃ q, q < 12 ∧ mqM S L q = true ∧ nI (befN (mqM S L) (scN S L) q 12) = p0 ∧ r1 = nI q := by
      rcases hp2.2 with z | z
      · exact z
      · exact absurd c7 (by rw [z.2]; decide)
    have cq := clN_ok ok hq
    rw [q3] at hl
    refine lv_aload_n hx hb dX1_score_14 rfl (lv_at hl 1 rfl) ?_
    refine lv_iload_n hx hb dX1_score_15 rfl (lv_at hl 0 rfl) ?_
    refine ig_calli (h := h) (As := [.int (nI q)]) (rest := []) (C := RX1) (T := TX1) (N := 9) (ci := 1) (fs := FM a S) C0 hA I (metX1_scoreOf l D h a d S L hL eL q (clN S q) hq cq.1 cq.2) rfl rfl (lw_V q303 q305 qs20 q23 q306) 1 (by decide +kernel) rfl rfl ⟨by decide, by decide⟩ ⟨Nat.zero_le _, Nat.zero_le _⟩ rfl hl.1 (Nat.le_of_ble_eq_true rfl) dX1_score_16 rfl (fun r4 S6 H locs hp5 I _ => ?_)
    rw [hp5.1] at I
    exact ig_iret C0 hr hk I (⟨rfl, Or.inl ⟨q, hq, q1, q2, hp5.2⟩⟩) dX1_score_19
  · skip
    have hno : ∀ q, q < 12 → mqM S L q = true → ¬ nI (befN (mqM S L) (scN S L) q 12) = p0 := by
      rcases hp2.2 with ⟨q, q0, _, _, z⟩ | z
      · exact absurd (by rw [z]; exact nI_pos' (by omega)) c7
      · exact z.1
    refine lv_iconst (v := 0) hx hb dX1_score_10 (by decide) ?_
    refine lv_goto (tgt := 19) hx hb dX1_score_11 (by decide) ?_
    exact ig_iret C0 hr hk I (⟨rfl, Or.inr ⟨hno, rfl⟩⟩) dX1_score_19
end
section
/-! ===== what ties the class's state S to the reference's M: L words stand in the document ===== -/
def relC (S M : ST) : Prop := (∀ j, j < 12 → S 0 j = M 0 j ∧ S 1 j = M 1 j ∧ S 2 j = M 2 j ∧ ¬ S 1 j < 0) ∧ ∀ j, j < 72 → S 3 j = M 3 j ∧ S 4 j = M 4 j ∧ (S 3 j = 3 ∨ S 3 j = 4 → S 5 j = M 5 j)
def docR (S M : ST) (L : Nat) : Prop := L ≤ 16 ∧ M 7 0 = nI L ∧ S 9 0 = nI L ∧ S 10 0 = M 8 0 ∧ (∀ i, i < L → isT (M 6 i)) ∧ (L = 0 → S 11 0 = -1) ∧ (0 < L → S 11 0 = M 6 (L - 1)) ∧ (∀ t, t < 24 → S 12 t = nI (ofG (M 6) (nI t) L)) ∧ ∀ t u, t < 24 → u < 24 → bt (S 13 t) u = bsB (M 6) (nI t) (nI u) (L - 1)
def filR (S : ST) : Prop := ∀ q, q < 12 → (S 0 q = 0 → bt (S 7 0) q = false ∧ ∀ t, t < 24 → bt (S 6 t) q = false) ∧ (¬ S 0 q = 0 → FiledQ S q (clN S q))
def Rel (S M : ST) (L : Nat) : Prop := okC S ∧ okC M ∧ relC S M ∧ docR S M L ∧ filR S
theorem nI_gt0 {n : Nat} (h0 : 0 < n) (h : n < 2 ^ 31) : (0 : Int32) < nI n := nI_lt (a := 0) h0 h
theorem ofG_pos {w : Nat → Int32} {t : Int32} {i : Nat} (hi : w i = t) : ∀ n, i < n → 0 < ofG w t n
  | 0, h => absurd h (by omega)
  | n + 1, h => by
    rw [ofG]
    by_cases e : i = n
    · rw [← e, if_pos hi]; omega
    · have := ofG_pos hi n (by omega)
      split <;> omega
theorem ofG_le (w : Nat → Int32) (t : Int32) : ∀ n, ofG w t n ≤ n
  | 0 => Nat.le_refl 0
  | n + 1 => by
    have := ofG_le w t n
    rw [ofG]
    split <;> omega
theorem bsB_of {w : Nat → Int32} {t u : Int32} : ∀ n, bsB w t u n = true → ∃ i, i < n ∧ w i = t
  | 0, h => by cases h
  | n + 1, h => by
    rw [bsB, Bool.or_eq_true, Bool.and_eq_true, decide_eq_true_eq] at h
    rcases h with h | h
    · obtain ⟨i, h1, h2⟩ := bsB_of n h
      exact ⟨i, by omega, h2⟩
    · exact ⟨n, by omega, h.1⟩
section REL
variable {S M S' M' : ST} {L : Nat}
theorem rel_cn (H : Rel S M L) {j : Nat} (hj : j < 72) (h4 : ¬ S 3 j = 4) : cnS (S 12) (S 4 j) = cnM M L (M 4 j) := by
  obtain ⟨oS, oM, hC, hD, hF⟩ := H
  obtain ⟨t, ht, et⟩ := oS.2.2.2.1 j hj h4
  rw [cnS_n _ et ht, cnM, ← (hC.2 j hj).2.1, et]
  exact hD.2.2.2.2.2.2.2.1 t ht
theorem rel_bs (H : Rel S M L) {j : Nat} (hj : j < 72) (h3 : S 3 j = 3) : bsS (S 13) (S 4 j) (S 5 j) = bsM M L (M 4 j) (M 5 j) := by
  obtain ⟨oS, oM, hC, hD, hF⟩ := H
  obtain ⟨t, ht, et⟩ := oS.2.2.2.1 j hj (by rw [h3]; decide)
  obtain ⟨u, hu, eu⟩ := oS.2.2.2.2 j hj h3
  rw [bsM, ← (hC.2 j hj).2.1, ← (hC.2 j hj).2.2 (Or.inl h3), et, eu, ← hD.2.2.2.2.2.2.2.2 t u ht hu, bsS, nI_clamp (by omega)]
  by_cases e : bt (S 13 t) u = true
  · rw [e]; exact decide_eq_true ((b_ask (by omega) _).mpr e)
  · rw [Bool.eq_false_iff.mpr e]; exact decide_eq_false (fun z => e ((b_ask (by omega) _).mp z))
theorem rel_h (H : Rel S M L) {j : Nat} (hj : j < 72) : hS S j = hG (M 3) (M 4) (M 5) (cnM M L) (bsM M L) (M 8 0) j := by
  have hcn := rel_cn H hj
  have hbs := rel_bs H hj
  obtain ⟨oS, oM, hC, hD, hF⟩ := H
  obtain ⟨k, hk, ek⟩ := oS.2.2.1 j hj
  have e3 := (hC.2 j hj).1
  have e4 := (hC.2 j hj).2.1
  have e5 := (hC.2 j hj).2.2
  unfold hS
  rcases (show k = 0 ∨ k = 1 ∨ k = 2 ∨ k = 3 ∨ k = 4 by omega) with rfl | rfl | rfl | rfl | rfl
  · rw [hG_0 ek, hG_0 (e3.symm.trans ek), hcn (by rw [ek]; decide)]
  · rw [hG_1 ek, hG_1 (e3.symm.trans ek), hcn (by rw [ek]; decide)]
  · rw [hG_2 ek, hG_2 (e3.symm.trans ek)]
  · rw [hG_3 ek, hG_3 (e3.symm.trans ek), hbs ek]
  · rw [hG_4 ek, hG_4 (e3.symm.trans ek), e4, e5 (Or.inr ek), hD.2.2.2.1]
theorem rel_ckG (H : Rel S M L) (lst : Int32) : ∀ (n j : Nat) (met : Int32), j + n ≤ 72 → ckG (S 3) (S 4) (S 5) (cnS (S 12)) (bsS (S 13)) (S 10 0) lst n j met = ckG (M 3) (M 4) (M 5) (cnM M L) (bsM M L) (M 8 0) lst n j met
  | 0, _, _, _ => rfl
  | n + 1, j, met, h => by
    have ih := fun m => rel_ckG H lst n (j + 1) m (by omega)
    have hh := rel_h H (j := j) (by omega)
    have e3 := (H.2.2.1.2 j (by omega)).1
    rw [ckG, ckG, ← e3]
    by_cases e : S 3 j = 2
    · rw [if_pos e, if_pos e, ih, rel_cn H (by omega) (by rw [e]; decide)]
    · rw [if_neg e, if_neg e, ih, ← hh]
      rfl
theorem rel_ck (H : Rel S M L) {Q c : Nat} (hQ : Q < 12) (hc : c ≤ 6) : ckS S Q c = ckM M L Q c := by
  rw [ckS, ckM, (H.2.2.1.1 Q hQ).2.1]
  exact rel_ckG H _ c (Q * 6) 0 (by omega)
theorem rel_scG (H : Rel S M L) (b : Nat) : ∀ n, b + n ≤ 72 → scG (S 3) (S 4) (cnS (S 12)) b n = scG (M 3) (M 4) (cnM M L) b n
  | 0, _ => rfl
  | n + 1, h => by
    have ih := rel_scG H b n (by omega)
    have e3 := (H.2.2.1.2 (b + n) (by omega)).1
    have e1 : sc1 (S 3) (S 4) (cnS (S 12)) (b + n) (scG (S 3) (S 4) (cnS (S 12)) b n) = sc1 (M 3) (M 4) (cnM M L) (b + n) (scG (M 3) (M 4) (cnM M L) b n) := by
      rw [sc1, sc1, ← e3, ih]
      by_cases e : S 3 (b + n) = 0 ∨ S 3 (b + n) = 2
      · rw [if_pos e, if_pos e, rel_cn H (by omega) (by rcases e with e | e <;> rw [e] <;> decide)]
      · rw [if_neg e, if_neg e]
    rw [scG, scG, ← e3, e1]
theorem rel_sc (H : Rel S M L) {Q c : Nat} (hQ : Q < 12) (hc : c ≤ 6) : scS S Q c = scM M L Q c := rel_scG H (Q * 6) c (by omega)
theorem rel_cl (H : Rel S M L) {q : Nat} (hq : q < 12) : clN S q = clN M q := by rw [clN, clN, (H.2.2.1.1 q hq).2.2.1]
theorem rel_scQ (H : Rel S M L) {q : Nat} (hq : q < 12) : scQ S q = scN M L q := by
  rw [scQ, scN, ← rel_cl H hq]
  exact rel_sc H hq (clN_ok H.1 hq).1
/-- candidates -/
theorem cand_bt (S : ST) (q : Nat) : ∀ n, bt (candG S n) q = true ↔ bt (S 7 0) q = true ∨ ∃ t, t < n ∧ 0 < S 12 t ∧ bt (S 6 t) q = true
  | 0 => by
    constructor
    · exact fun h => Or.inl h
    · rintro (h | ⟨t, ht, -⟩)
      · exact h
      · exact absurd ht (by omega)
  | n + 1 => by
    have ih := cand_bt S q n
    rw [candG]
    by_cases e : 0 < S 12 n
    · rw [if_pos e, b_or, Bool.or_eq_true, ih]
      constructor
      · rintro ((h | ⟨t, h1, h2⟩) | h)
        · exact Or.inl h
        · exact Or.inr ⟨t, by omega, h2⟩
        · exact Or.inr ⟨n, by omega, e, h⟩
      · rintro (h | ⟨t, h1, h2, h3⟩)
        · exact Or.inl (Or.inl h)
        · by_cases et : t = n
          · rw [et] at h3; exact Or.inr h3
          · exact Or.inl (Or.inr ⟨t, by omega, h2, h3⟩)
    · rw [if_neg e, ih]
      constructor
      · rintro (h | ⟨t, h1, h2⟩)
        · exact Or.inl h
        · exact Or.inr ⟨t, by omega, h2⟩
      · rintro (h | ⟨t, h1, h2, h3⟩)
        · exact Or.inl h
        · by_cases et : t = n
          · rw [et] at h2; exact absurd h2 e
          · exact Or.inr ⟨t, by omega, h2, h3⟩
section CK
variable {K F G : Nat → Int32} {cn : Int32 → Int32} {bs : Int32 → Int32 → Bool} {num lst : Int32}
theorem ck_all : ∀ (n j : Nat) (met : Int32), ckG K F G cn bs num lst n j met = true → ∀ i, j ≤ i → i < j + n → ¬ K i = 2 → hG K F G cn bs num i = true
  | 0, j, met, _, i, h1, h2, _ => absurd h1 (by omega)
  | n + 1, j, met, h, i, h1, h2, h3 => by
    rw [ckG] at h
    by_cases e : K j = 2
    · rw [if_pos e] at h
      have : j ≠ i := fun z => h3 (by rw [← z]; exact e)
      exact ck_all n (j + 1) _ h i (by omega) (by omega) h3
    · rw [if_neg e, Bool.and_eq_true] at h
      by_cases ei : j = i
      · rw [← ei]; exact h.1
      · exact ck_all n (j + 1) _ h.2 i (by omega) (by omega) h3
theorem ck_met : ∀ (n j : Nat) (met : Int32), ckG K F G cn bs num lst n j met = true → lst ≤ met ∨ ∃ i, j ≤ i ∧ i < j + n ∧ K i = 2 ∧ 0 < cn (F i)
  | 0, j, met, h => Or.inl (of_decide_eq_true h)
  | n + 1, j, met, h => by
    rw [ckG] at h
    by_cases e : K j = 2
    · rw [if_pos e] at h
      by_cases ec : 0 < cn (F j)
      · exact Or.inr ⟨j, by omega, by omega, e, ec⟩
      · rw [if_neg ec] at h
        rcases ck_met n (j + 1) met h with h | ⟨i, h1, h2, h3⟩
        · exact Or.inl h
        · exact Or.inr ⟨i, by omega, by omega, h3⟩
    · rw [if_neg e, Bool.and_eq_true] at h
      rcases ck_met n (j + 1) met h.2 with h | ⟨i, h1, h2, h3⟩
      · exact Or.inl h
      · exact Or.inr ⟨i, by omega, by omega, h3⟩
end CK
theorem sureB_c {i : Nat} (h : sureB S i = true) : S 3 i = 0 ∨ S 3 i = 3 := by
  rw [sureB, Bool.or_eq_true, decide_eq_true_eq, decide_eq_true_eq] at h
  exact h
theorem rel_cand (H : Rel S M L) {q : Nat} (hq : q < 12) (hu : ¬ S 0 q = 0) (hck : ckS S q (clN S q) = true) : bt (candG S 24) q = true := by
  have hcl := clN_ok H.1 hq
  have hfil := (H.2.2.2.2 q hq).2 hu
  obtain ⟨oS, oM, hC, hD, hF⟩ := id H
  have hpos : ∀ i, i < 72 → ¬ S 3 i = 4 → 0 < cnS (S 12) (S 4 i) → bt (S 6 (S 4 i).toNatClampNeg) q = true → bt (candG S 24) q = true := by
    intro i hi h4 hp hb
    obtain ⟨t, ht, et⟩ := oS.2.2.2.1 i hi h4
    rw [cnS_n _ et ht] at hp
    rw [et, nI_clamp (by omega)] at hb
    exact (cand_bt S q 24).mpr (Or.inr ⟨t, ht, hp, hb⟩)
  rcases hfil with ⟨i, h1, h2, h3, h4⟩ | ⟨h1, h2⟩ | ⟨h1, h2⟩
  · have hs := sureB_c h3
    have hh := ck_all _ _ _ hck i h1 h2 (by rcases hs with e | e <;> rw [e] <;> decide)
    refine hpos i (by omega) (sure_n4 h3) ?_ h4
    rcases hs with e | e
    · rw [hG_0 e] at hh
      exact of_decide_eq_true hh
    · rw [hG_3 e, rel_bs H (by omega) e, bsM] at hh
      rw [rel_cn H (by omega) (sure_n4 h3), cnM]
      obtain ⟨z, z1, z2⟩ := bsB_of _ hh
      have hle := ofG_le (M 6) (M 4 i) L
      have := hD.1
      exact nI_gt0 (ofG_pos z2 L (by omega)) (by omega)
  · exact (cand_bt S q 24).mpr (Or.inl h2)
  · rcases ck_met _ _ _ hck with h | ⟨i, i1, i2, i3, i4⟩
    · exfalso
      have h3 := (hC.1 q hq).2.2.2
      apply h1
      rw [Int32.lt_iff_toInt_lt] at h3
      rw [Int32.le_iff_toInt_le] at h
      rw [← Int32.toInt_inj]
      have e0 : (0 : Int32).toInt = 0 := by decide
      omega
    · exact hpos i (by omega) (by rw [i3]; decide) i4 (h2 i i1 i2 i3)
theorem rel_mq (H : Rel S M L) {q : Nat} (hq : q < 12) : mqS S q = mqM M L q := by
  have hcl := clN_ok H.1 hq
  rw [mqS, mqM, ← rel_cl H hq, ← rel_ck H hq hcl.1, ← (H.2.2.1.1 q hq).1]
  by_cases hu : S 0 q = 0
  · have hf := (H.2.2.2.2 q hq).1 hu
    have : bt (candG S 24) q = false := Bool.eq_false_iff.mpr (fun z => by
      rcases (cand_bt S q 24).mp z with h | ⟨t, h1, h2, h3⟩
      · rw [hf.1] at h; cases h
      · rw [hf.2 t h1] at h3; cases h3)
    rw [this, decide_eq_true hu]
    rfl
  · rw [decide_eq_false hu]
    cases hk : ckS S q (clN S q) with
    | false => rw [Bool.and_false]; rfl
    | true => rw [rel_cand H hq hu hk]; rfl
theorem cntB_congr {f g : Nat → Bool} : ∀ n, (∀ i, i < n → f i = g i) → cntB f n = cntB g n
  | 0, _ => rfl
  | n + 1, h => by
    rw [cntB, cntB, cntB_congr n (fun i hi => h i (by omega)), h n (by omega)]
theorem rel_cnt (H : Rel S M L) : cntB (mqS S) 12 = cntB (mqM M L) 12 := cntB_congr 12 (fun i hi => rel_mq H hi)
theorem rel_bef (H : Rel S M L) {r : Nat} (hr : r < 12) : befN (mqS S) (scQ S) r 12 = befN (mqM M L) (scN M L) r 12 := by
  rw [befN, befN]
  refine cntB_congr 12 (fun i hi => ?_)
  rw [bfB, bfB, rel_scQ H hi, rel_scQ H hr, rel_mq H hi]
end REL
end
section
/-! ===== each call of the law: one answer, and the tie stays ===== -/
section OPS
variable {S M S' M' : ST} {L : Nat} {p r r' : Int32}
theorem docR_of (h9 : S' 9 = S 9) (h10 : S' 10 = S 10) (h11 : S' 11 = S 11) (h12 : S' 12 = S 12) (h13 : S' 13 = S 13) (m6 : M' 6 = M 6) (m7 : M' 7 = M 7) (m8 : M' 8 = M 8) (h : docR S M L) : docR S' M' L := by
  unfold docR
  rw [h9, h10, h11, h12, h13, m6, m7, m8]
  exact h
theorem relC_of (h0 : S' 0 = S 0) (h1 : S' 1 = S 1) (h2 : S' 2 = S 2) (h3 : S' 3 = S 3) (h4 : S' 4 = S 4) (h5 : S' 5 = S 5) (h : relC S M) : relC S' M := by
  unfold relC
  rw [h0, h1, h2, h3, h4, h5]
  exact h
/-- a query's filing looks at its own clauses, its own least, its own bits -/
theorem filed_of {q c : Nat} (ok : okC S) (hq : q < 12) (hc : c ≤ 6) (h1 : S' 1 q = S 1 q) (h34 : ∀ i, q * 6 ≤ i → i < q * 6 + c → S' 3 i = S 3 i ∧ S' 4 i = S 4 i) (h7 : bt (S' 7 0) q = bt (S 7 0) q) (h6 : ∀ t, t < 24 → bt (S' 6 t) q = bt (S 6 t) q) (h : FiledQ S q c) : FiledQ S' q c := by
  have hb : ∀ i, q * 6 ≤ i → i < q * 6 + c → ¬ S 3 i = 4 → bt (S 6 (S 4 i).toNatClampNeg) q = true → bt (S' 6 (S' 4 i).toNatClampNeg) q = true := by
    intro i i1 i2 i4 hb
    obtain ⟨t, ht, et⟩ := ok.2.2.2.1 i (by omega) i4
    rw [(h34 i i1 i2).2]
    rw [et, nI_clamp (by omega)] at hb ⊢
    rw [h6 t ht]
    exact hb
  rcases h with ⟨i, i1, i2, i3, i4⟩ | ⟨a1, a2⟩ | ⟨a1, a2⟩
  · refine Or.inl ⟨i, i1, i2, ?_, hb i i1 i2 (sure_n4 i3) i4⟩
    rw [sureB, (h34 i i1 i2).1]
    exact i3
  · exact Or.inr (Or.inl ⟨by rw [h1]; exact a1, by rw [h7]; exact a2⟩)
  · refine Or.inr (Or.inr ⟨by rw [h1]; exact a1, fun i i1 i2 i3 => ?_⟩)
    rw [(h34 i i1 i2).1] at i3
    exact hb i i1 i2 (by rw [i3]; decide) (a2 i i1 i2 i3)
theorem rel_14 (H : Rel S M L) (h : same14 S S') : Rel S' M L := by
  obtain ⟨oS, oM, hC, hD, hF⟩ := H
  have e : ∀ k, k < 14 → S' k = S k := fun k hk => h k (by omega) (by omega) (by omega)
  refine ⟨same14_ok h oS, oM, relC_of (e 0 (by omega)) (e 1 (by omega)) (e 2 (by omega)) (e 3 (by omega)) (e 4 (by omega)) (e 5 (by omega)) hC, docR_of (e 9 (by omega)) (e 10 (by omega)) (e 11 (by omega)) (e 12 (by omega)) (e 13 (by omega)) rfl rfl rfl hD, fun q hq => ?_⟩
  rw [e 0 (by omega), e 6 (by omega), e 7 (by omega)]
  refine ⟨(hF q hq).1, fun hu => ?_⟩
  rw [clN, e 2 (by omega)]
  exact filed_of oS hq (clN_ok oS hq).1 (by rw [e 1 (by omega)]) (fun i _ _ => by rw [e 3 (by omega), e 4 (by omega)]; exact ⟨rfl, rfl⟩) (by rw [e 7 (by omega)]) (fun t _ => by rw [e 6 (by omega)]) ((hF q hq).2 hu)
theorem op_matches (H : Rel S M L) (hx : ∃ n0, prP S S' n0 ∧ r = nI n0) (hm : r' = nI (cntB (mqM M L) 12)) : r = r' ∧ Rel S' M L := by
  obtain ⟨n0, hp, e⟩ := hx
  refine ⟨?_, rel_14 H hp.1⟩
  rw [e, hm, ← rel_cnt H, ← pc_n hp.2.2.2]
theorem op_find (H : Rel S M L) {n0 : Nat} (hp : prP S S' n0) (hx : (∃ x, x < n0 ∧ p = nI x) ∨ (∀ x, x < n0 → ¬ p = nI x)) :
    (∃ x q, x < n0 ∧ p = nI x ∧ q < 12 ∧ mqM M L q = true ∧ nI (befN (mqM M L) (scN M L) q 12) = p ∧ S' 15 x = nI q ∧ S' 16 x = scN M L q ∧ ∀ q', q' < 12 → mqM M L q' = true → nI (befN (mqM M L) (scN M L) q' 12) = p → q' = q) ∨ ((∀ x, x < n0 → ¬ p = nI x) ∧ ∀ q, q < 12 → mqM M L q = true → ¬ nI (befN (mqM M L) (scN M L) q 12) = p) := by
  have hn0 := hp.2.1
  have hof : ∀ q, q < 12 → mqM M L q = true → befN (mqM M L) (scN M L) q 12 < n0 ∧ S' 15 (befN (mqM M L) (scN M L) q 12) = nI q := by
    intro q hq hm
    rw [← rel_mq H hq] at hm
    have := pc_of hp.2.2.2 hq hm
    rw [rel_bef H hq] at this
    exact ⟨this.1, this.2.1⟩
  rcases hx with ⟨x, hx, e⟩ | hx
  · obtain ⟨q, hq, hm, hb, h15, h16⟩ := pc_at hp.2.2.2 hx
    rw [rel_mq H hq] at hm
    rw [rel_bef H hq] at hb
    rw [rel_scQ H hq] at h16
    refine Or.inl ⟨x, q, hx, e, hq, hm, by rw [hb, e], h15, h16, fun q' hq' hm' hb' => ?_⟩
    have h2 := hof q' hq' hm'
    have e2 : befN (mqM M L) (scN M L) q' 12 = x := (nI_eq (by omega) (by omega)).mp (hb'.trans e)
    rw [e2, h15] at h2
    exact ((nI_eq (by omega) (by omega)).mp h2.2).symm
  · exact Or.inr ⟨hx, fun q hq hm z => hx _ (hof q hq hm).1 z.symm⟩
theorem op_match (H : Rel S M L) (hx : ∃ n0, prP S S' n0 ∧ ((∃ x, x < n0 ∧ p = nI x ∧ r = S' 15 x) ∨ ((∀ x, x < n0 → ¬ p = nI x) ∧ r = -5)))
    (hm : (∃ q, q < 12 ∧ mqM M L q = true ∧ nI (befN (mqM M L) (scN M L) q 12) = p ∧ r' = nI q) ∨ ((∀ q, q < 12 → mqM M L q = true → ¬ nI (befN (mqM M L) (scN M L) q 12) = p) ∧ r' = -5)) : r = r' ∧ Rel S' M L := by
  obtain ⟨n0, hp, hx⟩ := hx
  have hn0 := hp.2.1
  refine ⟨?_, rel_14 H hp.1⟩
  rcases hx with ⟨x, h1, h2, h3⟩ | ⟨h1, h2⟩
  · rcases op_find H hp (Or.inl ⟨x, h1, h2⟩) with ⟨y, q, y1, y2, q1, q2, q3, q4, q5, q6⟩ | ⟨z1, z2⟩
    · have exy : x = y := (nI_eq (by omega) (by omega)).mp (h2.symm.trans y2)
      subst exy
      rcases hm with ⟨q', a1, a2, a3, a4⟩ | ⟨a1, a2⟩
      · rw [h3, q4, a4, q6 q' a1 a2 a3]
      · exact absurd q3 (a1 q q1 q2)
    · exact absurd h2 (z1 x h1)
  · rcases op_find H hp (Or.inr h1) with ⟨y, q, y1, y2, -⟩ | ⟨z1, z2⟩
    · exact absurd y2 (h1 y y1)
    · rcases hm with ⟨q', a1, a2, a3, a4⟩ | ⟨a1, a2⟩
      · exact absurd a3 (z2 q' a1 a2)
      · rw [h2, a2]
theorem op_score (H : Rel S M L) (hx : ∃ n0, prP S S' n0 ∧ ((∃ x, x < n0 ∧ p = nI x ∧ r = S' 16 x) ∨ ((∀ x, x < n0 → ¬ p = nI x) ∧ r = 0)))
    (hm : (∃ q, q < 12 ∧ mqM M L q = true ∧ nI (befN (mqM M L) (scN M L) q 12) = p ∧ r' = scN M L q) ∨ ((∀ q, q < 12 → mqM M L q = true → ¬ nI (befN (mqM M L) (scN M L) q 12) = p) ∧ r' = 0)) : r = r' ∧ Rel S' M L := by
  obtain ⟨n0, hp, hx⟩ := hx
  have hn0 := hp.2.1
  refine ⟨?_, rel_14 H hp.1⟩
  rcases hx with ⟨x, h1, h2, h3⟩ | ⟨h1, h2⟩
  · rcases op_find H hp (Or.inl ⟨x, h1, h2⟩) with ⟨y, q, y1, y2, q1, q2, q3, q4, q5, q6⟩ | ⟨z1, z2⟩
    · have exy : x = y := (nI_eq (by omega) (by omega)).mp (h2.symm.trans y2)
      subst exy
      rcases hm with ⟨q', a1, a2, a3, a4⟩ | ⟨a1, a2⟩
      · rw [h3, q5, a4, q6 q' a1 a2 a3]
      · exact absurd q3 (a1 q q1 q2)
    · exact absurd h2 (z1 x h1)
  · rcases op_find H hp (Or.inr h1) with ⟨y, q, y1, y2, -⟩ | ⟨z1, z2⟩
    · exact absurd y2 (h1 y y1)
    · rcases hm with ⟨q', a1, a2, a3, a4⟩ | ⟨a1, a2⟩
      · exact absurd a3 (z2 q' a1 a2)
      · rw [h2, a2]
theorem rel_isQ (H : Rel S M L) : isQ S p ↔ isQ M p := by
  constructor
  · rintro ⟨Q, h1, h2, h3⟩
    exact ⟨Q, h1, h2, by rw [← (H.2.2.1.1 Q h1).1]; exact h3⟩
  · rintro ⟨Q, h1, h2, h3⟩
    exact ⟨Q, h1, h2, by rw [(H.2.2.1.1 Q h1).1]; exact h3⟩
theorem op_mq (H : Rel S M L) (hx : (¬ isQ S p ∧ r = 0) ∨ ∃ Q, Q < 12 ∧ p = nI Q ∧ ¬ S 0 Q = 0 ∧ r = bI (ckS S Q (clN S Q))) (hm : (¬ isQ M p ∧ r' = 0) ∨ ∃ Q, Q < 12 ∧ p = nI Q ∧ ¬ M 0 Q = 0 ∧ r' = bI (ckM M L Q (clN M Q))) : r = r' := by
  rcases hx with ⟨h1, h2⟩ | ⟨Q, h1, h2, h3, h4⟩
  · rcases hm with ⟨a1, a2⟩ | ⟨K, a1, a2, a3, a4⟩
    · rw [h2, a2]
    · exact absurd ((rel_isQ H).mpr ⟨K, a1, a2, a3⟩) h1
  · rcases hm with ⟨a1, a2⟩ | ⟨K, a1, a2, a3, a4⟩
    · exact absurd ((rel_isQ H).mp ⟨Q, h1, h2, h3⟩) a1
    · have e : Q = K := (nI_eq (by omega) (by omega)).mp (h2.symm.trans a2)
      subst e
      rw [h4, a4, ← rel_cl H h1, rel_ck H h1 (clN_ok H.1 h1).1]
/-- behind fileP: the query q is filed, the others are as they were in S0 -/
theorem fil_after {S0 S1 : ST} {Q c : Nat} (ok0 : okC S0) (hQ : Q < 12) (hc : c ≤ 6) (hF : filR S0) (ok1 : okC S1) (e2 : S1 2 Q = nI c) (hu : ¬ S1 0 Q = 0)
    (h012 : ∀ q, q < 12 → q ≠ Q → S1 0 q = S0 0 q ∧ S1 1 q = S0 1 q ∧ S1 2 q = S0 2 q) (h34 : ∀ q i, q < 12 → q ≠ Q → q * 6 ≤ i → i < q * 6 + 6 → S1 3 i = S0 3 i ∧ S1 4 i = S0 4 i)
    (hk : keepB S0 S1 Q) (hfi : fileP S1 Q c S') : filR S' := by
  obtain ⟨s3, kb, fq⟩ := hfi
  intro q hq
  rw [s3 0 (by decide) (by decide) (by decide)]
  have e2' : S' 2 = S1 2 := s3 2 (by decide) (by decide) (by decide)
  by_cases e : q = Q
  · subst e
    refine ⟨fun z => absurd z hu, fun _ => ?_⟩
    have : clN S' q = c := by rw [clN, e2', e2]; exact nI_clamp (by omega)
    rw [this]
    exact fq
  · have hb7 := ((kb q hq e).1).trans (hk q hq e).1
    have hb6 : ∀ t, t < 24 → bt (S' 6 t) q = bt (S0 6 t) q := fun t ht => ((kb q hq e).2 t ht).trans ((hk q hq e).2 t ht)
    have hcl : clN S' q = clN S0 q := by rw [clN, clN, e2', (h012 q hq e).2.2]
    rw [(h012 q hq e).1]
    refine ⟨fun z => ?_, fun z => ?_⟩
    · rw [hb7]
      exact ⟨((hF q hq).1 z).1, fun t ht => by rw [hb6 t ht]; exact ((hF q hq).1 z).2 t ht⟩
    · rw [hcl]
      have hcc := (clN_ok ok0 hq).1
      refine filed_of ok0 hq hcc ?_ (fun i i1 i2 => ?_) hb7 hb6 ((hF q hq).2 z)
      · rw [s3 1 (by decide) (by decide) (by decide)]
        exact (h012 q hq e).2.1
      · rw [s3 3 (by decide) (by decide) (by decide), s3 4 (by decide) (by decide) (by decide)]
        exact h34 q i hq e i1 (by omega)
theorem same3_ok (h : same3 S S') (ok : okC S) : okC S' := okC_of (h 0 (by decide) (by decide) (by decide)) (h 2 (by decide) (by decide) (by decide)) (h 3 (by decide) (by decide) (by decide)) (h 4 (by decide) (by decide) (by decide)) (h 5 (by decide) (by decide) (by decide)) ok
theorem relC_cr3 (h : relC S M) (Q : Nat) (hp : ¬ p < 0) : relC (cr3 S Q p) (cr3 M Q p) := by
  refine ⟨fun j hj => ?_, h.2⟩
  show upd (S 0) Q 1 j = upd (M 0) Q 1 j ∧ upd (S 1) Q p j = upd (M 1) Q p j ∧ upd (S 2) Q 0 j = upd (M 2) Q 0 j ∧ ¬ upd (S 1) Q p j < 0
  by_cases e : j = Q
  · rw [e, pk_us, pk_us, pk_us, pk_us, pk_us, pk_us]
    exact ⟨rfl, rfl, rfl, hp⟩
  · rw [pk_un e, pk_un e, pk_un e, pk_un e, pk_un e, pk_un e]
    exact h.1 j hj
theorem op_create (H : Rel S M L) (hx : crP S p r S' (fun Q => fileP (cr3 S Q p) Q 0 S')) (hm : crP M p r' M' (fun Q => M' = cr3 M Q p)) : r = r' ∧ Rel S' M' L := by
  have h0 : ∀ j, j < 12 → S 0 j = M 0 j := fun j hj => (H.2.2.1.1 j hj).1
  rcases hx with ⟨b1, b2, b3⟩ | ⟨b1, b2⟩
  · rcases hm with ⟨-, a2, a3⟩ | ⟨a1, -⟩
    · rw [b2, a2, b3, a3]; exact ⟨rfl, H⟩
    · exact absurd b1 (fun z => z.elim a1.1 (fun y => y a1.2))
  · rcases hm with ⟨a1, -⟩ | ⟨-, a2⟩
    · exact absurd a1 (fun z => z.elim b1.1 (fun y => y b1.2))
    · rcases b2 with ⟨c1, c2, c3⟩ | ⟨Q, c1, c2, c3, c4, c5⟩
      · rcases a2 with ⟨d1, d2, d3⟩ | ⟨K, d1, d2, d3, -⟩
        · rw [c2, d2, c3, d3]; exact ⟨rfl, H⟩
        · exact absurd (by rw [h0 K d1]; exact d3) (c1 K d1)
      · rcases a2 with ⟨d1, -⟩ | ⟨K, d1, d2, d3, d4, d5⟩
        · exact absurd (by rw [← h0 Q c1]; exact c3) (d1 Q c1)
        · have e : Q = K := by
            rcases Nat.lt_trichotomy Q K with z | z | z
            · exact absurd (by rw [← h0 Q c1]; exact c3) (d2 Q z)
            · exact z
            · exact absurd (by rw [h0 K d1]; exact d3) (c2 K z)
          subst e
          refine ⟨by rw [c4, d4], ?_⟩
          subst d5
          obtain ⟨oS, oM, hC, hD, hF⟩ := H
          have s3 := c5.1
          have e : ∀ k, k ≠ 6 → k ≠ 7 → k ≠ 8 → S' k = cr3 S Q p k := s3
          refine ⟨same3_ok s3 (okC_cr3 oS p), okC_cr3 oM p, relC_of (e 0 (by decide) (by decide) (by decide)) (e 1 (by decide) (by decide) (by decide)) (e 2 (by decide) (by decide) (by decide)) (e 3 (by decide) (by decide) (by decide)) (e 4 (by decide) (by decide) (by decide)) (e 5 (by decide) (by decide) (by decide)) (relC_cr3 hC Q b1.1), docR_of (e 9 (by decide) (by decide) (by decide)) (e 10 (by decide) (by decide) (by decide)) (e 11 (by decide) (by decide) (by decide)) (e 12 (by decide) (by decide) (by decide)) (e 13 (by decide) (by decide) (by decide)) rfl rfl rfl hD, ?_⟩
          refine fil_after (c := 0) oS c1 (Nat.zero_le 6) hF (okC_cr3 oS p) pk_us ?_ (fun q hq hne => ⟨pk_un hne, pk_un hne, pk_un hne⟩) (fun _ _ _ _ _ _ => ⟨rfl, rfl⟩) (fun _ _ _ => ⟨rfl, fun _ _ => rfl⟩) c5
          show ¬ upd (S 0) Q 1 Q = 0
          rw [pk_us]; decide
theorem relC_ad5 {Q c : Nat} {w x y y' : Int32} (h : relC S M) (hy : w = 3 ∨ w = 4 → y = y') : relC (ad5 S Q c w x y) (ad5 M Q c w x y') := by
  refine ⟨fun j hj => ?_, fun j hj => ?_⟩
  · show S 0 j = M 0 j ∧ S 1 j = M 1 j ∧ upd (S 2) Q (nI (c + 1)) j = upd (M 2) Q (nI (c + 1)) j ∧ ¬ S 1 j < 0
    have hh := h.1 j hj
    refine ⟨hh.1, hh.2.1, ?_, hh.2.2.2⟩
    by_cases e : j = Q
    · rw [e, pk_us, pk_us]
    · rw [pk_un e, pk_un e]; exact hh.2.2.1
  · show upd (S 3) (Q * 6 + c) w j = upd (M 3) (Q * 6 + c) w j ∧ upd (S 4) (Q * 6 + c) x j = upd (M 4) (Q * 6 + c) x j ∧ (upd (S 3) (Q * 6 + c) w j = 3 ∨ upd (S 3) (Q * 6 + c) w j = 4 → upd (S 5) (Q * 6 + c) y j = upd (M 5) (Q * 6 + c) y' j)
    by_cases e : j = Q * 6 + c
    · rw [e, pk_us, pk_us, pk_us, pk_us, pk_us, pk_us]
      exact ⟨rfl, rfl, hy⟩
    · rw [pk_un e, pk_un e, pk_un e, pk_un e, pk_un e, pk_un e]
      exact h.2 j hj
theorem keep_unf {S1 : ST} {Q : Nat} (hQ : Q < 12) (h : unfileP S Q S1) : keepB S S1 Q := by
  intro q hq hne
  rw [h.2.1, b_clr _ (by omega) (by omega), decide_eq_false hne]
  refine ⟨by simp, fun t ht => ?_⟩
  rw [h.2.2 t ht, b_clr _ (by omega) (by omega), decide_eq_false hne]
  simp
theorem rel_add (H : Rel S M L) {S1 : ST} {Q c : Nat} {w x y y' : Int32} (hQ : Q < 12) (hu : ¬ S 0 Q = 0) (hc : c < 6) (hw : ∃ k, k ≤ 4 ∧ w = nI k) (hx : ¬ w = 4 → isT x) (hy : w = 3 → isT y) (hyy : w = 3 ∨ w = 4 → y = y') (h1 : unfileP S Q S1) (h2 : fileP (ad5 S1 Q c w x y) Q (c + 1) S') : Rel S' (ad5 M Q c w x y') L := by
  obtain ⟨oS, oM, hC, hD, hF⟩ := H
  have e1 := h1.1
  have ok1 := same3_ok e1 oS
  have ok2 : okC (ad5 S1 Q c w x y) := okC_ad5 ok1 hc hw hx hy
  have e : ∀ k, k ≠ 6 → k ≠ 7 → k ≠ 8 → S' k = ad5 S1 Q c w x y k := h2.1
  have hC1 : relC S1 M := relC_of (e1 0 (by decide) (by decide) (by decide)) (e1 1 (by decide) (by decide) (by decide)) (e1 2 (by decide) (by decide) (by decide)) (e1 3 (by decide) (by decide) (by decide)) (e1 4 (by decide) (by decide) (by decide)) (e1 5 (by decide) (by decide) (by decide)) hC
  have hD1 : docR S1 M L := docR_of (e1 9 (by decide) (by decide) (by decide)) (e1 10 (by decide) (by decide) (by decide)) (e1 11 (by decide) (by decide) (by decide)) (e1 12 (by decide) (by decide) (by decide)) (e1 13 (by decide) (by decide) (by decide)) rfl rfl rfl hD
  refine ⟨same3_ok h2.1 ok2, okC_ad5 oM hc hw hx (fun z => by rw [← hyy (Or.inl z)]; exact hy z), relC_of (e 0 (by decide) (by decide) (by decide)) (e 1 (by decide) (by decide) (by decide)) (e 2 (by decide) (by decide) (by decide)) (e 3 (by decide) (by decide) (by decide)) (e 4 (by decide) (by decide) (by decide)) (e 5 (by decide) (by decide) (by decide)) (relC_ad5 hC1 hyy), docR_of (e 9 (by decide) (by decide) (by decide)) (e 10 (by decide) (by decide) (by decide)) (e 11 (by decide) (by decide) (by decide)) (e 12 (by decide) (by decide) (by decide)) (e 13 (by decide) (by decide) (by decide)) rfl rfl rfl hD1, ?_⟩
  have kb1 := keep_unf hQ h1
  refine fil_after oS hQ (by omega) hF ok2 pk_us ?_ (fun q hq hne => ?_) (fun q i hq hne i1 i2 => ?_) (fun q hq hne => kb1 q hq hne) h2
  · show ¬ S1 0 Q = 0
    rw [e1 0 (by decide) (by decide) (by decide)]
    exact hu
  · show S1 0 q = S 0 q ∧ S1 1 q = S 1 q ∧ upd (S1 2) Q (nI (c + 1)) q = S 2 q
    rw [pk_un hne, e1 0 (by decide) (by decide) (by decide), e1 1 (by decide) (by decide) (by decide), e1 2 (by decide) (by decide) (by decide)]
    exact ⟨rfl, rfl, rfl⟩
  · show upd (S1 3) (Q * 6 + c) w i = S 3 i ∧ upd (S1 4) (Q * 6 + c) x i = S 4 i
    rw [pk_un (by omega), pk_un (by omega), e1 3 (by decide) (by decide) (by decide), e1 4 (by decide) (by decide) (by decide)]
    exact ⟨rfl, rfl⟩
/-- the common rest of must, not, should, phrase, range -/
theorem op_add (H : Rel S M L) {w x y y' : Int32} (hw : ∃ k, k ≤ 4 ∧ w = nI k) (hx : ¬ w = 4 → isT x) (hy : w = 3 → isT y) (hyy : w = 3 ∨ w = 4 → y = y') (h1 : addQ S p w x y r S')
    (h2 : ∃ Q c, Q < 12 ∧ p = nI Q ∧ ¬ M 0 Q = 0 ∧ c ≤ 6 ∧ M 2 Q = nI c ∧ ((c = 6 ∧ r' = -3 ∧ M' = M) ∨ (c < 6 ∧ r' = nI (c + 1) ∧ M' = ad5 M Q c w x y'))) : r = r' ∧ Rel S' M' L := by
  obtain ⟨Q, c, a1, a2, a3, a4, a5, a6⟩ := h1
  obtain ⟨K, d, b1, b2, b3, b4, b5, b6⟩ := h2
  have e : Q = K := (nI_eq (by omega) (by omega)).mp (a2.symm.trans b2)
  subst e
  have e2 : c = d := (nI_eq (by omega) (by omega)).mp (a5.symm.trans ((H.2.2.1.1 Q a1).2.2.1.trans b5))
  subst e2
  rcases a6 with ⟨c1, c2, c3⟩ | ⟨c1, c2, S1, c3, c4⟩
  · rcases b6 with ⟨-, d2, d3⟩ | ⟨d1, -⟩
    · rw [c2, d2, c3, d3]; exact ⟨rfl, H⟩
    · omega
  · rcases b6 with ⟨d1, -⟩ | ⟨-, d2, d3⟩
    · omega
    · rw [c2, d2, d3]
      exact ⟨rfl, rel_add H a1 a3 c1 hw hx hy hyy c3 c4⟩
theorem addQ_isQ {w x y : Int32} (h : addQ S p w x y r S') : isQ S p := by
  obtain ⟨Q, c, a1, a2, a3, -⟩ := h
  exact ⟨Q, a1, a2, a3⟩
theorem op_term (H : Rel S M L) {w t : Int32} (hw : ∃ k, k ≤ 2 ∧ w = nI k) (hx : termP S p w t r S') (hm : maddP M p w t t r' M') : r = r' ∧ Rel S' M' L := by
  obtain ⟨k, hk, ek⟩ := hw
  have hw3 : w ≤ 3 := by rw [ek]; exact nI_le (b := 3) (by omega) (by decide)
  have n3 : ¬ w = 3 := by rw [ek]; exact fun z => absurd ((nI_eq (a := k) (b := 3) (by omega) (by decide)).mp z) (by omega)
  have n4 : ¬ w = 4 := by rw [ek]; exact fun z => absurd ((nI_eq (a := k) (b := 4) (by omega) (by decide)).mp z) (by omega)
  rcases hx with ⟨a1, a2, a3⟩ | ⟨a1, a2, a3, a4⟩ | ⟨a1, a2⟩
  · rcases hm with ⟨-, b2, b3⟩ | ⟨b1, -⟩ | ⟨-, Q, c, c1, c2, c3, -⟩
    · rw [a2, b2, a3, b3]; exact ⟨rfl, H⟩
    · exact absurd ((rel_isQ H).mpr b1) a1
    · exact absurd ((rel_isQ H).mpr ⟨Q, c1, c2, c3⟩) a1
  · rcases hm with ⟨b1, -⟩ | ⟨-, -, -, b4, b5⟩ | ⟨b1, -⟩
    · exact absurd ((rel_isQ H).mp a1) b1
    · rw [a3, b4, a4, b5]; exact ⟨rfl, H⟩
    · exact absurd (b1 hw3).1 a2
  · rcases hm with ⟨b1, -⟩ | ⟨-, -, b3, -⟩ | ⟨-, b2⟩
    · exact absurd ((rel_isQ H).mp (addQ_isQ a2)) b1
    · exact absurd ⟨a1, a1⟩ b3
    · exact op_add H ⟨k, by omega, ek⟩ (fun _ => a1) (fun z => absurd z n3) (fun z => absurd z (fun q => q.elim n3 n4)) a2 b2
theorem op_phrase (H : Rel S M L) {t u : Int32} (hx : phrP S p t u r S') (hm : maddP M p 3 t u r' M') : r = r' ∧ Rel S' M' L := by
  have hw3 : (3 : Int32) ≤ 3 := by decide
  rcases hx with ⟨a1, a2, a3⟩ | ⟨a1, a2, a3, a4⟩ | ⟨a1, a1', a2⟩
  · rcases hm with ⟨-, b2, b3⟩ | ⟨b1, -⟩ | ⟨-, Q, c, c1, c2, c3, -⟩
    · rw [a2, b2, a3, b3]; exact ⟨rfl, H⟩
    · exact absurd ((rel_isQ H).mpr b1) a1
    · exact absurd ((rel_isQ H).mpr ⟨Q, c1, c2, c3⟩) a1
  · rcases hm with ⟨b1, -⟩ | ⟨-, -, -, b4, b5⟩ | ⟨b1, -⟩
    · exact absurd ((rel_isQ H).mp a1) b1
    · rw [a3, b4, a4, b5]; exact ⟨rfl, H⟩
    · exact absurd (b1 hw3) a2
  · rcases hm with ⟨b1, -⟩ | ⟨-, -, b3, -⟩ | ⟨-, b2⟩
    · exact absurd ((rel_isQ H).mp (addQ_isQ a2)) b1
    · exact absurd ⟨a1, a1'⟩ b3
    · exact op_add H ⟨3, by omega, rfl⟩ (fun _ => a1) (fun _ => a1') (fun _ => rfl) a2 b2
theorem op_range (H : Rel S M L) {t u : Int32} (hx : rngP S p t u r S') (hm : maddP M p 4 t u r' M') : r = r' ∧ Rel S' M' L := by
  have hw3 : ¬ (4 : Int32) ≤ 3 := by decide
  rcases hx with ⟨a1, a2, a3⟩ | a2
  · rcases hm with ⟨-, b2, b3⟩ | ⟨b1, -⟩ | ⟨-, Q, c, c1, c2, c3, -⟩
    · rw [a2, b2, a3, b3]; exact ⟨rfl, H⟩
    · exact absurd ((rel_isQ H).mpr b1) a1
    · exact absurd ((rel_isQ H).mpr ⟨Q, c1, c2, c3⟩) a1
  · rcases hm with ⟨b1, -⟩ | ⟨-, b2, -⟩ | ⟨-, b2⟩
    · exact absurd ((rel_isQ H).mp (addQ_isQ a2)) b1
    · exact absurd b2 hw3
    · exact op_add H ⟨4, by omega, rfl⟩ (fun z => absurd rfl z) (fun z => absurd z (by decide)) (fun _ => rfl) a2 b2
theorem cntU_congr {f g : Nat → Int32} : ∀ n, (∀ j, j < n → f j = g j) → cntU f n = cntU g n
  | 0, _ => rfl
  | n + 1, h => by
    rw [cntU, cntU, cntU_congr n (fun j hj => h j (by omega)), h n (by omega)]
theorem op_remove (H : Rel S M L) (hx : remP S p r S') (hm : mremP M p r' M') : r = r' ∧ Rel S' M' L := by
  rcases hx with ⟨a1, a2, a3⟩ | ⟨Q, a1, a2, a3, S1, a4, a5, a6⟩
  · rcases hm with ⟨-, b2, b3⟩ | ⟨K, b1, b2, b3, -⟩
    · rw [a2, b2, a3, b3]; exact ⟨rfl, H⟩
    · exact absurd ((rel_isQ H).mpr ⟨K, b1, b2, b3⟩) a1
  · rcases hm with ⟨b1, -⟩ | ⟨K, b1, b2, b3, b4, b5⟩
    · exact absurd ((rel_isQ H).mp ⟨Q, a1, a2, a3⟩) b1
    · have e : Q = K := (nI_eq (by omega) (by omega)).mp (a2.symm.trans b2)
      subst e
      obtain ⟨oS, oM, hC, hD, hF⟩ := H
      have e1 := a4.1
      have h0 : ∀ j, j < 12 → S' 0 j = M' 0 j := by
        intro j hj
        rw [a5, b4]
        show upd (S1 0) Q 0 j = upd (M 0) Q 0 j
        by_cases e : j = Q
        · rw [e, pk_us, pk_us]
        · rw [pk_un e, pk_un e, e1 0 (by decide) (by decide) (by decide)]
          exact (hC.1 j hj).1
      refine ⟨by rw [a6, b5, cntU_congr 12 h0], ?_⟩
      have g : ∀ k, k ≠ 0 → k ≠ 6 → k ≠ 7 → k ≠ 8 → S' k = S k := fun k k0 k6 k7 k8 => by
        rw [a5]
        exact (if_neg k0).trans (e1 k k6 k7 k8)
      have gM : ∀ k, k ≠ 0 → M' k = M k := fun k k0 => by
        rw [b4]
        exact if_neg k0
      have bit : ∀ (T : ST) (f : Nat → Int32), (∀ j, j < 12 → T 0 j = 0 ∨ T 0 j = 1) → ∀ j, j < 12 → upd (T 0) Q 0 j = 0 ∨ upd (T 0) Q 0 j = 1 := by
        intro T f h j hj
        by_cases e : j = Q
        · rw [e, pk_us]; exact Or.inl rfl
        · rw [pk_un e]; exact h j hj
      have okS : okC S' := by
        refine ⟨?_, ?_, ?_, ?_, ?_⟩
        · rw [a5]
          exact bit S1 (S1 0) (by rw [e1 0 (by decide) (by decide) (by decide)]; exact oS.1)
        · rw [g 2 (by decide) (by decide) (by decide) (by decide)]; exact oS.2.1
        · rw [g 3 (by decide) (by decide) (by decide) (by decide)]; exact oS.2.2.1
        · rw [g 3 (by decide) (by decide) (by decide) (by decide), g 4 (by decide) (by decide) (by decide) (by decide)]; exact oS.2.2.2.1
        · rw [g 3 (by decide) (by decide) (by decide) (by decide), g 5 (by decide) (by decide) (by decide) (by decide)]; exact oS.2.2.2.2
      have okM : okC M' := by
        refine ⟨?_, ?_, ?_, ?_, ?_⟩
        · rw [b4]
          exact bit M (M 0) oM.1
        · rw [gM 2 (by decide)]; exact oM.2.1
        · rw [gM 3 (by decide)]; exact oM.2.2.1
        · rw [gM 3 (by decide), gM 4 (by decide)]; exact oM.2.2.2.1
        · rw [gM 3 (by decide), gM 5 (by decide)]; exact oM.2.2.2.2
      refine ⟨okS, okM, ⟨fun j hj => ?_, fun j hj => ?_⟩, docR_of (g 9 (by decide) (by decide) (by decide) (by decide)) (g 10 (by decide) (by decide) (by decide) (by decide)) (g 11 (by decide) (by decide) (by decide) (by decide)) (g 12 (by decide) (by decide) (by decide) (by decide)) (g 13 (by decide) (by decide) (by decide) (by decide)) (gM 6 (by decide)) (gM 7 (by decide)) (gM 8 (by decide)) hD, fun q hq => ?_⟩
      · refine ⟨h0 j hj, ?_⟩
        rw [g 1 (by decide) (by decide) (by decide) (by decide), g 2 (by decide) (by decide) (by decide) (by decide), gM 1 (by decide), gM 2 (by decide)]
        exact (hC.1 j hj).2
      · rw [g 3 (by decide) (by decide) (by decide) (by decide), g 4 (by decide) (by decide) (by decide) (by decide), g 5 (by decide) (by decide) (by decide) (by decide), gM 3 (by decide), gM 4 (by decide), gM 5 (by decide)]
        exact hC.2 j hj
      · have e7 : S' 7 0 = clr (S 7 0) Q := by rw [a5]; exact a4.2.1
        have e6 : ∀ t, t < 24 → S' 6 t = clr (S 6 t) Q := fun t ht => by rw [a5]; exact a4.2.2 t ht
        by_cases e : q = Q
        · subst e
          have z0 : S' 0 q = 0 := by rw [a5]; exact pk_us
          refine ⟨fun _ => ⟨?_, fun t ht => ?_⟩, fun z => absurd z0 z⟩
          · rw [e7, b_clr _ (by omega) (by omega)]; simp
          · rw [e6 t ht, b_clr _ (by omega) (by omega)]; simp
        · have hb7 : bt (S' 7 0) q = bt (S 7 0) q := by rw [e7, b_clr _ (by omega) (by omega), decide_eq_false e]; simp
          have hb6 : ∀ t, t < 24 → bt (S' 6 t) q = bt (S 6 t) q := fun t ht => by rw [e6 t ht, b_clr _ (by omega) (by omega), decide_eq_false e]; simp
          have e0 : S' 0 q = S 0 q := by
            rw [a5]
            show upd (S1 0) Q 0 q = _
            rw [pk_un e, e1 0 (by decide) (by decide) (by decide)]
          rw [e0]
          refine ⟨fun z => ⟨by rw [hb7]; exact ((hF q hq).1 z).1, fun t ht => by rw [hb6 t ht]; exact ((hF q hq).1 z).2 t ht⟩, fun z => ?_⟩
          rw [show clN S' q = clN S q by rw [clN, clN, g 2 (by decide) (by decide) (by decide) (by decide)]]
          exact filed_of oS hq (clN_ok oS hq).1 (by rw [g 1 (by decide) (by decide) (by decide) (by decide)]) (fun i _ _ => by rw [g 3 (by decide) (by decide) (by decide) (by decide), g 4 (by decide) (by decide) (by decide) (by decide)]; exact ⟨rfl, rfl⟩) hb7 hb6 ((hF q hq).2 z)
end OPS
end
section
/-! ===== the document's calls, and the start ===== -/
section OPD
variable {S M S' M' : ST} {L : Nat} {p r r' : Int32}
theorem relC_of2 (h : relC S M) (e : ∀ k, k < 6 → S' k = S k) (f : ∀ k, k < 6 → M' k = M k) : relC S' M' := by
  unfold relC
  rw [e 0 (by omega), e 1 (by omega), e 2 (by omega), e 3 (by omega), e 4 (by omega), e 5 (by omega), f 0 (by omega), f 1 (by omega), f 2 (by omega), f 3 (by omega), f 4 (by omega), f 5 (by omega)]
  exact h
theorem okC_of6 (ok : okC S) (e : ∀ k, k < 6 → S' k = S k) : okC S' := okC_of (e 0 (by omega)) (e 2 (by omega)) (e 3 (by omega)) (e 4 (by omega)) (e 5 (by omega)) ok
theorem filR_of (h : filR S) (ok : okC S) (e : ∀ k, k < 9 → S' k = S k) : filR S' := by
  intro q hq
  rw [e 0 (by omega), e 6 (by omega), e 7 (by omega)]
  refine ⟨(h q hq).1, fun hu => ?_⟩
  rw [clN, e 2 (by omega)]
  exact filed_of ok hq (clN_ok ok hq).1 (by rw [e 1 (by omega)]) (fun i _ _ => by rw [e 3 (by omega), e 4 (by omega)]; exact ⟨rfl, rfl⟩) (by rw [e 7 (by omega)]) (fun t _ => by rw [e 6 (by omega)]) ((h q hq).2 hu)
theorem ofG_congr {w w' : Nat → Int32} {t : Int32} : ∀ n, (∀ i, i < n → w' i = w i) → ofG w' t n = ofG w t n
  | 0, _ => rfl
  | n + 1, h => by rw [ofG, ofG, ofG_congr n (fun i hi => h i (by omega)), h n (by omega)]
theorem bsB_congr {w w' : Nat → Int32} {t u : Int32} : ∀ n, (∀ i, i < n + 1 → w' i = w i) → bsB w' t u n = bsB w t u n
  | 0, _ => rfl
  | n + 1, h => by rw [bsB, bsB, bsB_congr n (fun i hi => h i (by omega)), h n (by omega), h (n + 1) (by omega)]
theorem nI_ne {a b : Nat} (ha : a < 24) (hb : b < 24) (h : a ≠ b) : ¬ nI a = nI b := fun z => h ((nI_eq (by omega) (by omega)).mp z)
theorem m1_ne {u : Nat} (hu : u < 24) : ¬ (-1 : Int32) = nI u := fun z => nI_pos (n := u) (by omega) (by rw [← z]; decide)
theorem op_word (H : Rel S M L) (hx : wordP S L p r S') (hm : mwordP M L p r' M') : r = r' ∧ ∃ L', Rel S' M' L' := by
  rcases hx with ⟨a1, a2, a3⟩ | ⟨a1, a2, a3, a4⟩ | ⟨a1, a2, t, ht, ep, g, e9, e11, e12, e13⟩
  · rcases hm with ⟨-, b2, b3⟩ | ⟨b1, -⟩ | ⟨b1, -⟩
    · rw [a2, b2, a3, b3]; exact ⟨rfl, L, H⟩
    · exact absurd b1 a1
    · exact absurd b1 a1
  · rcases hm with ⟨b1, -⟩ | ⟨-, -, b2, b3⟩ | ⟨-, b1, -⟩
    · exact absurd a1 b1
    · rw [a3, b2, a4, b3]; exact ⟨rfl, L, H⟩
    · omega
  · rcases hm with ⟨b1, -⟩ | ⟨-, b1, -⟩ | ⟨-, b1, b2, b3⟩
    · exact absurd ⟨t, ht, ep⟩ b1
    · omega
    · refine ⟨by rw [a2, b2], L + 1, ?_⟩
      subst ep
      obtain ⟨oS, oM, hC, hD, hF⟩ := H
      obtain ⟨d1, d2, d3, d4, d5, d6, d7, d8, d9⟩ := hD
      have gM : ∀ k, k ≠ 6 → k ≠ 7 → M' k = M k := fun k k6 k7 => by
        rw [b3]
        exact (if_neg k7).trans (if_neg k6)
      have w6 : M' 6 = upd (M 6) L (nI t) := by rw [b3]; rfl
      have w7 : M' 7 0 = nI (L + 1) := by rw [b3]; rfl
      have wlow : ∀ i, i < L → upd (M 6) L (nI t) i = M 6 i := fun i hi => pk_un (by omega)
      have wtop : upd (M 6) L (nI t) L = nI t := pk_us
      refine ⟨okC_of6 oS (fun k hk => g k (by omega) (by omega) (by omega) (by omega)), okC_of6 oM (fun k hk => gM k (by omega) (by omega)), relC_of2 hC (fun k hk => g k (by omega) (by omega) (by omega) (by omega)) (fun k hk => gM k (by omega) (by omega)), ?_, filR_of hF oS (fun k hk => g k (by omega) (by omega) (by omega) (by omega))⟩
      refine ⟨by omega, w7, e9, ?_, fun i hi => ?_, fun z => absurd z (by omega), fun _ => ?_, fun u hu => ?_, fun x y hx hy => ?_⟩
      · rw [g 10 (by decide) (by decide) (by decide) (by decide), gM 8 (by decide) (by decide)]
        exact d4
      · rw [w6]
        by_cases e : i = L
        · rw [e, wtop]; exact ⟨t, ht, rfl⟩
        · rw [wlow i (by omega)]; exact d5 i (by omega)
      · rw [w6, e11, Nat.add_sub_cancel, wtop]
      · rw [e12, w6, ofG, wtop, ofG_congr L wlow]
        by_cases e : u = t
        · rw [e, pk_us, if_pos rfl, d8 t ht, nI_1]
        · rw [pk_un e, if_neg (nI_ne ht hu (fun z => e z.symm)), d8 u hu]
      · rw [w6, Nat.add_sub_cancel]
        rcases Nat.eq_zero_or_pos L with z | z
        · subst z
          rcases e13 with ⟨-, q2⟩ | ⟨u, hu, q2, -⟩
          · rw [q2, d9 x y hx hy]; rfl
          · exact absurd ((d6 rfl).symm.trans q2) (m1_ne hu)
        · obtain ⟨k, rfl⟩ : ∃ k, L = k + 1 := ⟨L - 1, by omega⟩
          have hlast := d7 z
          rw [Nat.add_sub_cancel] at hlast d9
          rcases e13 with ⟨q1, -⟩ | ⟨u, hu, q2, q3⟩
          · obtain ⟨v, hv, ev⟩ := d5 k (by omega)
            exact absurd (q1.symm.trans (hlast.trans ev)) (m1_ne hv)
          · have ek : M 6 k = nI u := hlast.symm.trans q2
            rw [q3, bsB, bsB_congr k (fun i hi => wlow i (by omega)), wlow k (by omega), wtop, ek]
            by_cases e : x = u
            · rw [e, pk_us, b_st1 _ (by omega) (by omega), d9 u y hu hy, decide_eq_true rfl, Bool.true_and]
              by_cases e2 : y = t
              · rw [e2, decide_eq_true rfl, decide_eq_true rfl]
              · rw [decide_eq_false e2, decide_eq_false (nI_ne ht hy (fun z => e2 z.symm))]
            · rw [pk_un e, d9 x y hx hy, decide_eq_false (nI_ne hu hx (fun z => e z.symm)), Bool.false_and, Bool.or_false]
theorem op_doc (H : Rel S M L) (hx : docP S p S') (hm : M' = va_up (va_up M 7 (fun _ => 0)) 8 (fun _ => p)) : Rel S' M' 0 := by
  obtain ⟨oS, oM, hC, hD, hF⟩ := H
  obtain ⟨g, e9, e10, e11, e1213⟩ := hx
  have gM : ∀ k, k ≠ 7 → k ≠ 8 → M' k = M k := fun k k7 k8 => by
    rw [hm]
    exact (if_neg k8).trans (if_neg k7)
  refine ⟨okC_of6 oS (fun k hk => g k (by omega) (by omega) (by omega) (by omega) (by omega)), okC_of6 oM (fun k hk => gM k (by omega) (by omega)), relC_of2 hC (fun k hk => g k (by omega) (by omega) (by omega) (by omega) (by omega)) (fun k hk => gM k (by omega) (by omega)), ?_, filR_of hF oS (fun k hk => g k (by omega) (by omega) (by omega) (by omega) (by omega))⟩
  refine ⟨by omega, by rw [hm]; rfl, e9, by rw [e10, hm]; rfl, fun i hi => absurd hi (by omega), fun _ => e11, fun z => absurd z (by omega), fun t ht => (e1213 t ht).1, fun t u ht hu => ?_⟩
  rw [(e1213 t ht).2, b_0]
  rfl
def SX0 : ST := fun k _ => if k = 11 then -1 else 0
def SM0 : ST := fun _ _ => 0
theorem okC_0 {T : ST} (h : ∀ k, k < 6 → T k = fun _ => 0) : okC T := by
  unfold okC
  rw [h 0 (by omega), h 2 (by omega), h 3 (by omega), h 4 (by omega), h 5 (by omega)]
  exact ⟨fun _ _ => Or.inl rfl, fun _ _ => ⟨0, by omega, rfl⟩, fun _ _ => ⟨0, by omega, rfl⟩, fun _ _ _ => ⟨0, by omega, rfl⟩, fun _ _ _ => ⟨0, by omega, rfl⟩⟩
theorem rel_0 : Rel SX0 SM0 0 := by
  have hs : ∀ k, k ≠ 11 → SX0 k = fun _ => 0 := fun k hk => funext fun j => if_neg hk
  refine ⟨okC_0 (fun k hk => hs k (by omega)), okC_0 (fun k hk => rfl), ⟨fun j _ => ⟨rfl, rfl, rfl, by show ¬ (0 : Int32) < 0; decide⟩, fun j _ => ⟨rfl, rfl, fun _ => rfl⟩⟩, ⟨by omega, rfl, rfl, rfl, fun i hi => absurd hi (by omega), fun _ => rfl, fun z => absurd z (by omega), fun t _ => rfl, fun t u _ _ => b_0 u⟩, fun q _ => ⟨fun _ => ⟨b_0 q, fun t _ => b_0 q⟩, fun z => absurd rfl z⟩⟩
end OPD
end
section
set_option maxHeartbeats 4000000 in
set_option maxRecDepth 100000 in
/-- Percolator(): its arrays are made -/
theorem metX0_init (l : Launch) (D : va_G) (h sz : Nat) : Met l yX0_init (ws_ yX0_init cX0_init 1 none) ({ frames := 1, cells := 12, slots := 372, locals := 12 }) (va_Pc [.ref h] (fun U => U.heap.size = sz ∧ va_P D clX [(h, .inr (0, [.null, .null, .null, .null, .null, .null, .null, .int 0, .null, .int 0, .int 0, .int 0, .null, .null, .int 0, .null, .null]))] U.heap ∧ va_K D clX [] U ∧ va_D (fun _ => True) [(h, .inr (0, [.null, .null, .null, .null, .null, .null, .null, .int 0, .null, .int 0, .int 0, .int 0, .null, .null, .int 0, .null, .null]))])) (va_Qv (fun _ : Unit => True) (fun _ t => ∃ (a : Nat → Nat) (d : Nat → ClassId), bg_ D clX (WX h a d) (TYX d) (va_A [(h, .inr (0, [.null, .null, .null, .null, .null, .null, .null, .int 0, .null, .int 0, .int 0, .int 0, .null, .null, .int 0, .null, .null]))] sz) SX0 t) (va_A [(h, .inr (0, [.null, .null, .null, .null, .null, .null, .null, .int 0, .null, .int 0, .int 0, .int 0, .null, .null, .int 0, .null, .null]))] sz)) 12 372 (va_A [(h, .inr (0, [.null, .null, .null, .null, .null, .null, .null, .int 0, .null, .int 0, .int 0, .int 0, .null, .null, .int 0, .null, .null]))] sz) := by
  refine Met.ofW (cc := cX0_init) (maxL := 1) (ret := none) (by decide) rfl ?_
  intro p e s m args below meth c s₁ B hml hv
  obtain ⟨rfl, hsz, hP, hK, hD0⟩ := hv
  have hx := B.exec
  have hb := B.bytes
  have hr := B.returns
  have hts := atoms_spec (ws := ws_ yX0_init cX0_init 1 none) B.pre
  have hts : ∀ w ∈ lw_all, w.before _ s = true := fun w h => hts w (List.mem_cons_of_mem _ h)
  have hown : s.vm.findClass RX0 = some m.cls := findClass_of_methodNamed B.named
  have hlocks := B.notSynchronized
  have hin : meth.name = "<init>" := (name_of_methodNamed B.named B.method).1
  subst hsz
  have hD := hD0.self (sz := s.heap.size)
  generalize hAe : va_A [(h, .inr (0, [.null, .null, .null, .null, .null, .null, .null, .int 0, .null, .int 0, .int 0, .int 0, .null, .null, .int 0, .null, .null]))] s.heap.size = A at hD ⊢
  have hA : ∀ q : Nat, s.heap.size ≤ q → A q := fun q h => by rw [← hAe]; exact Or.inr h
  have hS : va_S A s.heap s.heap [] := va_S.rf
  have hP : va_P D clX [(h, .inr (0, [.null, .null, .null, .null, .null, .null, .null, .int 0, .null, .int 0, .int 0, .int 0, .null, .null, .int 0, .null, .null]))] s.heap := hP
  have hl := lv_entry ([.ref h]) (n := 1) (Nat.le_of_ble_eq_true rfl)
  rw [lg_entry_eq]
  generalize (lg_sl ([.ref h]) ++ List.replicate (1 - (lg_sl ([.ref h])).length) Slot.unset).toArray = ls at hl ⊢
  have hl : lv_has ls 1 [(0, .ref h)] := hl
  refine lv_aload_n hx hb dX0_init_0 rfl (lv_at hl 0 rfl) ?_
  refine W.objInit hx hb hown (hts _ q29) (hts _ q30) (hts _ q31) rfl (by rw [hml]; exact hl.1) rfl dX0_init_1 (Nat.le_of_ble_eq_true rfl) (Nat.le_of_ble_eq_true rfl) ?_
  refine W.eq (g2 := F0 m 4 ls []) rfl ?_
  refine lv_aload_n hx hb dX0_init_4 rfl (lv_at hl 0 rfl) ?_
  refine lv_bipush (v := 12) hx hb dX0_init_5 (by decide) ?_
  refine va_newa (atype := .boolean) (ty := .boolean) (N' := 12) (a0 := (12, .inl (fun _ => 0))) hx hb (hts _ q84) rfl hK hP hD hS hA (fun _ => rfl) (by decide) (by decide) (by decide) (Nat.le_of_ble_eq_true rfl) (Nat.le_of_ble_eq_true rfl) dX0_init_7 (fun q0 d0 H hK hP hD hS => ?_)
  have hP : va_P D clX [(h, .inr (0, [.null, .null, .null, .null, .null, .null, .null, .int 0, .null, .int 0, .int 0, .int 0, .null, .null, .int 0, .null, .null])), (q0, .inl (d0, 12, .inl (fun _ => 0)))] H := hP
  have hD : va_D A [(h, .inr (0, [.null, .null, .null, .null, .null, .null, .null, .int 0, .null, .int 0, .int 0, .int 0, .null, .null, .int 0, .null, .null])), (q0, .inl (d0, 12, .inl (fun _ => 0)))] := hD
  have hK : va_K D clX [(d0, .boolean)] s := hK
  refine W.widen (k := 1) (n := 12) (Nat.le_of_ble_eq_true rfl) (Nat.le_of_ble_eq_true rfl) ?_
  refine va_putF (D := D) (ci := 0) (v := .ref q0) (ty := .array .boolean) (C := RX0) (T := TX0) (N := 17) hx hb hts in_X0 tyX0 tyX0_ok nmX0 hown hK hP hD hS 0 rfl rfl 0 (by decide) (hts _ q32) (fun _ h9 => h9) rfl hin rfl (by decide +kernel) rfl rfl (Nat.le_of_ble_eq_true rfl) dX0_init_9 (fun H locs hP hD hS => ?_)
  have hP : va_P D clX [(h, .inr (0, [.ref q0, .null, .null, .null, .null, .null, .null, .int 0, .null, .int 0, .int 0, .int 0, .null, .null, .int 0, .null, .null])), (q0, .inl (d0, 12, .inl (fun _ => 0)))] H := hP
  have hD : va_D A [(h, .inr (0, [.ref q0, .null, .null, .null, .null, .null, .null, .int 0, .null, .int 0, .int 0, .int 0, .null, .null, .int 0, .null, .null])), (q0, .inl (d0, 12, .inl (fun _ => 0)))] := hD
  refine lv_aload_n hx hb dX0_init_12 rfl (lv_at hl 0 rfl) ?_
  refine lv_bipush (v := 12) hx hb dX0_init_13 (by decide) ?_
  refine va_newa (atype := .int) (ty := .int) (N' := 12) (a0 := (12, .inl (fun _ => 0))) hx hb (hts _ q85) rfl hK hP hD hS hA (fun _ => rfl) (by decide) (by decide) (by decide) (Nat.le_of_ble_eq_true rfl) (Nat.le_of_ble_eq_true rfl) dX0_init_15 (fun q1 d1 H hK hP hD hS => ?_)
  have hP : va_P D clX [(h, .inr (0, [.ref q0, .null, .null, .null, .null, .null, .null, .int 0, .null, .int 0, .int 0, .int 0, .null, .null, .int 0, .null, .null])), (q0, .inl (d0, 12, .inl (fun _ => 0))), (q1, .inl (d1, 12, .inl (fun _ => 0)))] H := hP
  have hD : va_D A [(h, .inr (0, [.ref q0, .null, .null, .null, .null, .null, .null, .int 0, .null, .int 0, .int 0, .int 0, .null, .null, .int 0, .null, .null])), (q0, .inl (d0, 12, .inl (fun _ => 0))), (q1, .inl (d1, 12, .inl (fun _ => 0)))] := hD
  have hK : va_K D clX [(d0, .boolean), (d1, .int)] s := hK
  refine W.widen (k := 2) (n := 24) (Nat.le_of_ble_eq_true rfl) (Nat.le_of_ble_eq_true rfl) ?_
  refine va_putF (D := D) (ci := 0) (v := .ref q1) (ty := .array .int) (C := RX0) (T := TX0) (N := 17) hx hb hts in_X0 tyX0 tyX0_ok nmX0 hown hK hP hD hS 0 rfl rfl 1 (by decide) (hts _ q33) (fun _ h9 => h9) rfl hin rfl (by decide +kernel) rfl rfl (Nat.le_of_ble_eq_true rfl) dX0_init_17 (fun H locs hP hD hS => ?_)
  have hP : va_P D clX [(h, .inr (0, [.ref q0, .ref q1, .null, .null, .null, .null, .null, .int 0, .null, .int 0, .int 0, .int 0, .null, .null, .int 0, .null, .null])), (q0, .inl (d0, 12, .inl (fun _ => 0))), (q1, .inl (d1, 12, .inl (fun _ => 0)))] H := hP
  have hD : va_D A [(h, .inr (0, [.ref q0, .ref q1, .null, .null, .null, .null, .null, .int 0, .null, .int 0, .int 0, .int 0, .null, .null, .int 0, .null, .null])), (q0, .inl (d0, 12, .inl (fun _ => 0))), (q1, .inl (d1, 12, .inl (fun _ => 0)))] := hD
  refine lv_aload_n hx hb dX0_init_20 rfl (lv_at hl 0 rfl) ?_
  refine lv_bipush (v := 12) hx hb dX0_init_21 (by decide) ?_
  refine va_newa (atype := .int) (ty := .int) (N' := 12) (a0 := (12, .inl (fun _ => 0))) hx hb (hts _ q85) rfl hK hP hD hS hA (fun _ => rfl) (by decide) (by decide) (by decide) (Nat.le_of_ble_eq_true rfl) (Nat.le_of_ble_eq_true rfl) dX0_init_23 (fun q2 d2 H hK hP hD hS => ?_)
  have hP : va_P D clX [(h, .inr (0, [.ref q0, .ref q1, .null, .null, .null, .null, .null, .int 0, .null, .int 0, .int 0, .int 0, .null, .null, .int 0, .null, .null])), (q0, .inl (d0, 12, .inl (fun _ => 0))), (q1, .inl (d1, 12, .inl (fun _ => 0))), (q2, .inl (d2, 12, .inl (fun _ => 0)))] H := hP
  have hD : va_D A [(h, .inr (0, [.ref q0, .ref q1, .null, .null, .null, .null, .null, .int 0, .null, .int 0, .int 0, .int 0, .null, .null, .int 0, .null, .null])), (q0, .inl (d0, 12, .inl (fun _ => 0))), (q1, .inl (d1, 12, .inl (fun _ => 0))), (q2, .inl (d2, 12, .inl (fun _ => 0)))] := hD
  have hK : va_K D clX [(d0, .boolean), (d1, .int), (d2, .int)] s := hK
  refine W.widen (k := 3) (n := 36) (Nat.le_of_ble_eq_true rfl) (Nat.le_of_ble_eq_true rfl) ?_
  refine va_putF (D := D) (ci := 0) (v := .ref q2) (ty := .array .int) (C := RX0) (T := TX0) (N := 17) hx hb hts in_X0 tyX0 tyX0_ok nmX0 hown hK hP hD hS 0 rfl rfl 2 (by decide) (hts _ q34) (fun _ h9 => h9) rfl hin rfl (by decide +kernel) rfl rfl (Nat.le_of_ble_eq_true rfl) dX0_init_25 (fun H locs hP hD hS => ?_)
  have hP : va_P D clX [(h, .inr (0, [.ref q0, .ref q1, .ref q2, .null, .null, .null, .null, .int 0, .null, .int 0, .int 0, .int 0, .null, .null, .int 0, .null, .null])), (q0, .inl (d0, 12, .inl (fun _ => 0))), (q1, .inl (d1, 12, .inl (fun _ => 0))), (q2, .inl (d2, 12, .inl (fun _ => 0)))] H := hP
  have hD : va_D A [(h, .inr (0, [.ref q0, .ref q1, .ref q2, .null, .null, .null, .null, .int 0, .null, .int 0, .int 0, .int 0, .null, .null, .int 0, .null, .null])), (q0, .inl (d0, 12, .inl (fun _ => 0))), (q1, .inl (d1, 12, .inl (fun _ => 0))), (q2, .inl (d2, 12, .inl (fun _ => 0)))] := hD
  refine lv_aload_n hx hb dX0_init_28 rfl (lv_at hl 0 rfl) ?_
  refine lv_bipush (v := 72) hx hb dX0_init_29 (by decide) ?_
  refine va_newa (atype := .int) (ty := .int) (N' := 72) (a0 := (72, .inl (fun _ => 0))) hx hb (hts _ q85) rfl hK hP hD hS hA (fun _ => rfl) (by decide) (by decide) (by decide) (Nat.le_of_ble_eq_true rfl) (Nat.le_of_ble_eq_true rfl) dX0_init_31 (fun q3 d3 H hK hP hD hS => ?_)
  have hP : va_P D clX [(h, .inr (0, [.ref q0, .ref q1, .ref q2, .null, .null, .null, .null, .int 0, .null, .int 0, .int 0, .int 0, .null, .null, .int 0, .null, .null])), (q0, .inl (d0, 12, .inl (fun _ => 0))), (q1, .inl (d1, 12, .inl (fun _ => 0))), (q2, .inl (d2, 12, .inl (fun _ => 0))), (q3, .inl (d3, 72, .inl (fun _ => 0)))] H := hP
  have hD : va_D A [(h, .inr (0, [.ref q0, .ref q1, .ref q2, .null, .null, .null, .null, .int 0, .null, .int 0, .int 0, .int 0, .null, .null, .int 0, .null, .null])), (q0, .inl (d0, 12, .inl (fun _ => 0))), (q1, .inl (d1, 12, .inl (fun _ => 0))), (q2, .inl (d2, 12, .inl (fun _ => 0))), (q3, .inl (d3, 72, .inl (fun _ => 0)))] := hD
  have hK : va_K D clX [(d0, .boolean), (d1, .int), (d2, .int), (d3, .int)] s := hK
  refine W.widen (k := 4) (n := 108) (Nat.le_of_ble_eq_true rfl) (Nat.le_of_ble_eq_true rfl) ?_
  refine va_putF (D := D) (ci := 0) (v := .ref q3) (ty := .array .int) (C := RX0) (T := TX0) (N := 17) hx hb hts in_X0 tyX0 tyX0_ok nmX0 hown hK hP hD hS 0 rfl rfl 3 (by decide) (hts _ q35) (fun _ h9 => h9) rfl hin rfl (by decide +kernel) rfl rfl (Nat.le_of_ble_eq_true rfl) dX0_init_33 (fun H locs hP hD hS => ?_)
  have hP : va_P D clX [(h, .inr (0, [.ref q0, .ref q1, .ref q2, .ref q3, .null, .null, .null, .int 0, .null, .int 0, .int 0, .int 0, .null, .null, .int 0, .null, .null])), (q0, .inl (d0, 12, .inl (fun _ => 0))), (q1, .inl (d1, 12, .inl (fun _ => 0))), (q2, .inl (d2, 12, .inl (fun _ => 0))), (q3, .inl (d3, 72, .inl (fun _ => 0)))] H := hP
  have hD : va_D A [(h, .inr (0, [.ref q0, .ref q1, .ref q2, .ref q3, .null, .null, .null, .int 0, .null, .int 0, .int 0, .int 0, .null, .null, .int 0, .null, .null])), (q0, .inl (d0, 12, .inl (fun _ => 0))), (q1, .inl (d1, 12, .inl (fun _ => 0))), (q2, .inl (d2, 12, .inl (fun _ => 0))), (q3, .inl (d3, 72, .inl (fun _ => 0)))] := hD
  refine lv_aload_n hx hb dX0_init_36 rfl (lv_at hl 0 rfl) ?_
  refine lv_bipush (v := 72) hx hb dX0_init_37 (by decide) ?_
  refine va_newa (atype := .int) (ty := .int) (N' := 72) (a0 := (72, .inl (fun _ => 0))) hx hb (hts _ q85) rfl hK hP hD hS hA (fun _ => rfl) (by decide) (by decide) (by decide) (Nat.le_of_ble_eq_true rfl) (Nat.le_of_ble_eq_true rfl) dX0_init_39 (fun q4 d4 H hK hP hD hS => ?_)
  have hP : va_P D clX [(h, .inr (0, [.ref q0, .ref q1, .ref q2, .ref q3, .null, .null, .null, .int 0, .null, .int 0, .int 0, .int 0, .null, .null, .int 0, .null, .null])), (q0, .inl (d0, 12, .inl (fun _ => 0))), (q1, .inl (d1, 12, .inl (fun _ => 0))), (q2, .inl (d2, 12, .inl (fun _ => 0))), (q3, .inl (d3, 72, .inl (fun _ => 0))), (q4, .inl (d4, 72, .inl (fun _ => 0)))] H := hP
  have hD : va_D A [(h, .inr (0, [.ref q0, .ref q1, .ref q2, .ref q3, .null, .null, .null, .int 0, .null, .int 0, .int 0, .int 0, .null, .null, .int 0, .null, .null])), (q0, .inl (d0, 12, .inl (fun _ => 0))), (q1, .inl (d1, 12, .inl (fun _ => 0))), (q2, .inl (d2, 12, .inl (fun _ => 0))), (q3, .inl (d3, 72, .inl (fun _ => 0))), (q4, .inl (d4, 72, .inl (fun _ => 0)))] := hD
  have hK : va_K D clX [(d0, .boolean), (d1, .int), (d2, .int), (d3, .int), (d4, .int)] s := hK
  refine W.widen (k := 5) (n := 180) (Nat.le_of_ble_eq_true rfl) (Nat.le_of_ble_eq_true rfl) ?_
  refine va_putF (D := D) (ci := 0) (v := .ref q4) (ty := .array .int) (C := RX0) (T := TX0) (N := 17) hx hb hts in_X0 tyX0 tyX0_ok nmX0 hown hK hP hD hS 0 rfl rfl 4 (by decide) (hts _ q36) (fun _ h9 => h9) rfl hin rfl (by decide +kernel) rfl rfl (Nat.le_of_ble_eq_true rfl) dX0_init_41 (fun H locs hP hD hS => ?_)
  have hP : va_P D clX [(h, .inr (0, [.ref q0, .ref q1, .ref q2, .ref q3, .ref q4, .null, .null, .int 0, .null, .int 0, .int 0, .int 0, .null, .null, .int 0, .null, .null])), (q0, .inl (d0, 12, .inl (fun _ => 0))), (q1, .inl (d1, 12, .inl (fun _ => 0))), (q2, .inl (d2, 12, .inl (fun _ => 0))), (q3, .inl (d3, 72, .inl (fun _ => 0))), (q4, .inl (d4, 72, .inl (fun _ => 0)))] H := hP
  have hD : va_D A [(h, .inr (0, [.ref q0, .ref q1, .ref q2, .ref q3, .ref q4, .null, .null, .int 0, .null, .int 0, .int 0, .int 0, .null, .null, .int 0, .null, .null])), (q0, .inl (d0, 12, .inl (fun _ => 0))), (q1, .inl (d1, 12, .inl (fun _ => 0))), (q2, .inl (d2, 12, .inl (fun _ => 0))), (q3, .inl (d3, 72, .inl (fun _ => 0))), (q4, .inl (d4, 72, .inl (fun _ => 0)))] := hD
  refine lv_aload_n hx hb dX0_init_44 rfl (lv_at hl 0 rfl) ?_
  refine lv_bipush (v := 72) hx hb dX0_init_45 (by decide) ?_
  refine va_newa (atype := .int) (ty := .int) (N' := 72) (a0 := (72, .inl (fun _ => 0))) hx hb (hts _ q85) rfl hK hP hD hS hA (fun _ => rfl) (by decide) (by decide) (by decide) (Nat.le_of_ble_eq_true rfl) (Nat.le_of_ble_eq_true rfl) dX0_init_47 (fun q5 d5 H hK hP hD hS => ?_)
  have hP : va_P D clX [(h, .inr (0, [.ref q0, .ref q1, .ref q2, .ref q3, .ref q4, .null, .null, .int 0, .null, .int 0, .int 0, .int 0, .null, .null, .int 0, .null, .null])), (q0, .inl (d0, 12, .inl (fun _ => 0))), (q1, .inl (d1, 12, .inl (fun _ => 0))), (q2, .inl (d2, 12, .inl (fun _ => 0))), (q3, .inl (d3, 72, .inl (fun _ => 0))), (q4, .inl (d4, 72, .inl (fun _ => 0))), (q5, .inl (d5, 72, .inl (fun _ => 0)))] H := hP
  have hD : va_D A [(h, .inr (0, [.ref q0, .ref q1, .ref q2, .ref q3, .ref q4, .null, .null, .int 0, .null, .int 0, .int 0, .int 0, .null, .null, .int 0, .null, .null])), (q0, .inl (d0, 12, .inl (fun _ => 0))), (q1, .inl (d1, 12, .inl (fun _ => 0))), (q2, .inl (d2, 12, .inl (fun _ => 0))), (q3, .inl (d3, 72, .inl (fun _ => 0))), (q4, .inl (d4, 72, .inl (fun _ => 0))), (q5, .inl (d5, 72, .inl (fun _ => 0)))] := hD
  have hK : va_K D clX [(d0, .boolean), (d1, .int), (d2, .int), (d3, .int), (d4, .int), (d5, .int)] s := hK
  refine W.widen (k := 6) (n := 252) (Nat.le_of_ble_eq_true rfl) (Nat.le_of_ble_eq_true rfl) ?_
  refine va_putF (D := D) (ci := 0) (v := .ref q5) (ty := .array .int) (C := RX0) (T := TX0) (N := 17) hx hb hts in_X0 tyX0 tyX0_ok nmX0 hown hK hP hD hS 0 rfl rfl 5 (by decide) (hts _ q37) (fun _ h9 => h9) rfl hin rfl (by decide +kernel) rfl rfl (Nat.le_of_ble_eq_true rfl) dX0_init_49 (fun H locs hP hD hS => ?_)
  have hP : va_P D clX [(h, .inr (0, [.ref q0, .ref q1, .ref q2, .ref q3, .ref q4, .ref q5, .null, .int 0, .null, .int 0, .int 0, .int 0, .null, .null, .int 0, .null, .null])), (q0, .inl (d0, 12, .inl (fun _ => 0))), (q1, .inl (d1, 12, .inl (fun _ => 0))), (q2, .inl (d2, 12, .inl (fun _ => 0))), (q3, .inl (d3, 72, .inl (fun _ => 0))), (q4, .inl (d4, 72, .inl (fun _ => 0))), (q5, .inl (d5, 72, .inl (fun _ => 0)))] H := hP
  have hD : va_D A [(h, .inr (0, [.ref q0, .ref q1, .ref q2, .ref q3, .ref q4, .ref q5, .null, .int 0, .null, .int 0, .int 0, .int 0, .null, .null, .int 0, .null, .null])), (q0, .inl (d0, 12, .inl (fun _ => 0))), (q1, .inl (d1, 12, .inl (fun _ => 0))), (q2, .inl (d2, 12, .inl (fun _ => 0))), (q3, .inl (d3, 72, .inl (fun _ => 0))), (q4, .inl (d4, 72, .inl (fun _ => 0))), (q5, .inl (d5, 72, .inl (fun _ => 0)))] := hD
  refine lv_aload_n hx hb dX0_init_52 rfl (lv_at hl 0 rfl) ?_
  refine lv_bipush (v := 24) hx hb dX0_init_53 (by decide) ?_
  refine va_newa (atype := .int) (ty := .int) (N' := 24) (a0 := (24, .inl (fun _ => 0))) hx hb (hts _ q85) rfl hK hP hD hS hA (fun _ => rfl) (by decide) (by decide) (by decide) (Nat.le_of_ble_eq_true rfl) (Nat.le_of_ble_eq_true rfl) dX0_init_55 (fun q6 d6 H hK hP hD hS => ?_)
  have hP : va_P D clX [(h, .inr (0, [.ref q0, .ref q1, .ref q2, .ref q3, .ref q4, .ref q5, .null, .int 0, .null, .int 0, .int 0, .int 0, .null, .null, .int 0, .null, .null])), (q0, .inl (d0, 12, .inl (fun _ => 0))), (q1, .inl (d1, 12, .inl (fun _ => 0))), (q2, .inl (d2, 12, .inl (fun _ => 0))), (q3, .inl (d3, 72, .inl (fun _ => 0))), (q4, .inl (d4, 72, .inl (fun _ => 0))), (q5, .inl (d5, 72, .inl (fun _ => 0))), (q6, .inl (d6, 24, .inl (fun _ => 0)))] H := hP
  have hD : va_D A [(h, .inr (0, [.ref q0, .ref q1, .ref q2, .ref q3, .ref q4, .ref q5, .null, .int 0, .null, .int 0, .int 0, .int 0, .null, .null, .int 0, .null, .null])), (q0, .inl (d0, 12, .inl (fun _ => 0))), (q1, .inl (d1, 12, .inl (fun _ => 0))), (q2, .inl (d2, 12, .inl (fun _ => 0))), (q3, .inl (d3, 72, .inl (fun _ => 0))), (q4, .inl (d4, 72, .inl (fun _ => 0))), (q5, .inl (d5, 72, .inl (fun _ => 0))), (q6, .inl (d6, 24, .inl (fun _ => 0)))] := hD
  have hK : va_K D clX [(d0, .boolean), (d1, .int), (d2, .int), (d3, .int), (d4, .int), (d5, .int), (d6, .int)] s := hK
  refine W.widen (k := 7) (n := 276) (Nat.le_of_ble_eq_true rfl) (Nat.le_of_ble_eq_true rfl) ?_
  refine va_putF (D := D) (ci := 0) (v := .ref q6) (ty := .array .int) (C := RX0) (T := TX0) (N := 17) hx hb hts in_X0 tyX0 tyX0_ok nmX0 hown hK hP hD hS 0 rfl rfl 6 (by decide) (hts _ q38) (fun _ h9 => h9) rfl hin rfl (by decide +kernel) rfl rfl (Nat.le_of_ble_eq_true rfl) dX0_init_57 (fun H locs hP hD hS => ?_)
  have hP : va_P D clX [(h, .inr (0, [.ref q0, .ref q1, .ref q2, .ref q3, .ref q4, .ref q5, .ref q6, .int 0, .null, .int 0, .int 0, .int 0, .null, .null, .int 0, .null, .null])), (q0, .inl (d0, 12, .inl (fun _ => 0))), (q1, .inl (d1, 12, .inl (fun _ => 0))), (q2, .inl (d2, 12, .inl (fun _ => 0))), (q3, .inl (d3, 72, .inl (fun _ => 0))), (q4, .inl (d4, 72, .inl (fun _ => 0))), (q5, .inl (d5, 72, .inl (fun _ => 0))), (q6, .inl (d6, 24, .inl (fun _ => 0)))] H := hP
  have hD : va_D A [(h, .inr (0, [.ref q0, .ref q1, .ref q2, .ref q3, .ref q4, .ref q5, .ref q6, .int 0, .null, .int 0, .int 0, .int 0, .null, .null, .int 0, .null, .null])), (q0, .inl (d0, 12, .inl (fun _ => 0))), (q1, .inl (d1, 12, .inl (fun _ => 0))), (q2, .inl (d2, 12, .inl (fun _ => 0))), (q3, .inl (d3, 72, .inl (fun _ => 0))), (q4, .inl (d4, 72, .inl (fun _ => 0))), (q5, .inl (d5, 72, .inl (fun _ => 0))), (q6, .inl (d6, 24, .inl (fun _ => 0)))] := hD
  refine lv_aload_n hx hb dX0_init_60 rfl (lv_at hl 0 rfl) ?_
  refine lv_bipush (v := 24) hx hb dX0_init_61 (by decide) ?_
  refine va_newa (atype := .int) (ty := .int) (N' := 24) (a0 := (24, .inl (fun _ => 0))) hx hb (hts _ q85) rfl hK hP hD hS hA (fun _ => rfl) (by decide) (by decide) (by decide) (Nat.le_of_ble_eq_true rfl) (Nat.le_of_ble_eq_true rfl) dX0_init_63 (fun q7 d7 H hK hP hD hS => ?_)
  have hP : va_P D clX [(h, .inr (0, [.ref q0, .ref q1, .ref q2, .ref q3, .ref q4, .ref q5, .ref q6, .int 0, .null, .int 0, .int 0, .int 0, .null, .null, .int 0, .null, .null])), (q0, .inl (d0, 12, .inl (fun _ => 0))), (q1, .inl (d1, 12, .inl (fun _ => 0))), (q2, .inl (d2, 12, .inl (fun _ => 0))), (q3, .inl (d3, 72, .inl (fun _ => 0))), (q4, .inl (d4, 72, .inl (fun _ => 0))), (q5, .inl (d5, 72, .inl (fun _ => 0))), (q6, .inl (d6, 24, .inl (fun _ => 0))), (q7, .inl (d7, 24, .inl (fun _ => 0)))] H := hP
  have hD : va_D A [(h, .inr (0, [.ref q0, .ref q1, .ref q2, .ref q3, .ref q4, .ref q5, .ref q6, .int 0, .null, .int 0, .int 0, .int 0, .null, .null, .int 0, .null, .null])), (q0, .inl (d0, 12, .inl (fun _ => 0))), (q1, .inl (d1, 12, .inl (fun _ => 0))), (q2, .inl (d2, 12, .inl (fun _ => 0))), (q3, .inl (d3, 72, .inl (fun _ => 0))), (q4, .inl (d4, 72, .inl (fun _ => 0))), (q5, .inl (d5, 72, .inl (fun _ => 0))), (q6, .inl (d6, 24, .inl (fun _ => 0))), (q7, .inl (d7, 24, .inl (fun _ => 0)))] := hD
  have hK : va_K D clX [(d0, .boolean), (d1, .int), (d2, .int), (d3, .int), (d4, .int), (d5, .int), (d6, .int), (d7, .int)] s := hK
  refine W.widen (k := 8) (n := 300) (Nat.le_of_ble_eq_true rfl) (Nat.le_of_ble_eq_true rfl) ?_
  refine va_putF (D := D) (ci := 0) (v := .ref q7) (ty := .array .int) (C := RX0) (T := TX0) (N := 17) hx hb hts in_X0 tyX0 tyX0_ok nmX0 hown hK hP hD hS 0 rfl rfl 8 (by decide) (hts _ q40) (fun _ h9 => h9) rfl hin rfl (by decide +kernel) rfl rfl (Nat.le_of_ble_eq_true rfl) dX0_init_65 (fun H locs hP hD hS => ?_)
  have hP : va_P D clX [(h, .inr (0, [.ref q0, .ref q1, .ref q2, .ref q3, .ref q4, .ref q5, .ref q6, .int 0, .ref q7, .int 0, .int 0, .int 0, .null, .null, .int 0, .null, .null])), (q0, .inl (d0, 12, .inl (fun _ => 0))), (q1, .inl (d1, 12, .inl (fun _ => 0))), (q2, .inl (d2, 12, .inl (fun _ => 0))), (q3, .inl (d3, 72, .inl (fun _ => 0))), (q4, .inl (d4, 72, .inl (fun _ => 0))), (q5, .inl (d5, 72, .inl (fun _ => 0))), (q6, .inl (d6, 24, .inl (fun _ => 0))), (q7, .inl (d7, 24, .inl (fun _ => 0)))] H := hP
  have hD : va_D A [(h, .inr (0, [.ref q0, .ref q1, .ref q2, .ref q3, .ref q4, .ref q5, .ref q6, .int 0, .ref q7, .int 0, .int 0, .int 0, .null, .null, .int 0, .null, .null])), (q0, .inl (d0, 12, .inl (fun _ => 0))), (q1, .inl (d1, 12, .inl (fun _ => 0))), (q2, .inl (d2, 12, .inl (fun _ => 0))), (q3, .inl (d3, 72, .inl (fun _ => 0))), (q4, .inl (d4, 72, .inl (fun _ => 0))), (q5, .inl (d5, 72, .inl (fun _ => 0))), (q6, .inl (d6, 24, .inl (fun _ => 0))), (q7, .inl (d7, 24, .inl (fun _ => 0)))] := hD
  refine lv_aload_n hx hb dX0_init_68 rfl (lv_at hl 0 rfl) ?_
  refine lv_bipush (v := 24) hx hb dX0_init_69 (by decide) ?_
  refine va_newa (atype := .int) (ty := .int) (N' := 24) (a0 := (24, .inl (fun _ => 0))) hx hb (hts _ q85) rfl hK hP hD hS hA (fun _ => rfl) (by decide) (by decide) (by decide) (Nat.le_of_ble_eq_true rfl) (Nat.le_of_ble_eq_true rfl) dX0_init_71 (fun q8 d8 H hK hP hD hS => ?_)
  have hP : va_P D clX [(h, .inr (0, [.ref q0, .ref q1, .ref q2, .ref q3, .ref q4, .ref q5, .ref q6, .int 0, .ref q7, .int 0, .int 0, .int 0, .null, .null, .int 0, .null, .null])), (q0, .inl (d0, 12, .inl (fun _ => 0))), (q1, .inl (d1, 12, .inl (fun _ => 0))), (q2, .inl (d2, 12, .inl (fun _ => 0))), (q3, .inl (d3, 72, .inl (fun _ => 0))), (q4, .inl (d4, 72, .inl (fun _ => 0))), (q5, .inl (d5, 72, .inl (fun _ => 0))), (q6, .inl (d6, 24, .inl (fun _ => 0))), (q7, .inl (d7, 24, .inl (fun _ => 0))), (q8, .inl (d8, 24, .inl (fun _ => 0)))] H := hP
  have hD : va_D A [(h, .inr (0, [.ref q0, .ref q1, .ref q2, .ref q3, .ref q4, .ref q5, .ref q6, .int 0, .ref q7, .int 0, .int 0, .int 0, .null, .null, .int 0, .null, .null])), (q0, .inl (d0, 12, .inl (fun _ => 0))), (q1, .inl (d1, 12, .inl (fun _ => 0))), (q2, .inl (d2, 12, .inl (fun _ => 0))), (q3, .inl (d3, 72, .inl (fun _ => 0))), (q4, .inl (d4, 72, .inl (fun _ => 0))), (q5, .inl (d5, 72, .inl (fun _ => 0))), (q6, .inl (d6, 24, .inl (fun _ => 0))), (q7, .inl (d7, 24, .inl (fun _ => 0))), (q8, .inl (d8, 24, .inl (fun _ => 0)))] := hD
  have hK : va_K D clX [(d0, .boolean), (d1, .int), (d2, .int), (d3, .int), (d4, .int), (d5, .int), (d6, .int), (d7, .int), (d8, .int)] s := hK
  refine W.widen (k := 9) (n := 324) (Nat.le_of_ble_eq_true rfl) (Nat.le_of_ble_eq_true rfl) ?_
  refine va_putF (D := D) (ci := 0) (v := .ref q8) (ty := .array .int) (C := RX0) (T := TX0) (N := 17) hx hb hts in_X0 tyX0 tyX0_ok nmX0 hown hK hP hD hS 0 rfl rfl 12 (by decide) (hts _ q44) (fun _ h9 => h9) rfl hin rfl (by decide +kernel) rfl rfl (Nat.le_of_ble_eq_true rfl) dX0_init_73 (fun H locs hP hD hS => ?_)
  have hP : va_P D clX [(h, .inr (0, [.ref q0, .ref q1, .ref q2, .ref q3, .ref q4, .ref q5, .ref q6, .int 0, .ref q7, .int 0, .int 0, .int 0, .ref q8, .null, .int 0, .null, .null])), (q0, .inl (d0, 12, .inl (fun _ => 0))), (q1, .inl (d1, 12, .inl (fun _ => 0))), (q2, .inl (d2, 12, .inl (fun _ => 0))), (q3, .inl (d3, 72, .inl (fun _ => 0))), (q4, .inl (d4, 72, .inl (fun _ => 0))), (q5, .inl (d5, 72, .inl (fun _ => 0))), (q6, .inl (d6, 24, .inl (fun _ => 0))), (q7, .inl (d7, 24, .inl (fun _ => 0))), (q8, .inl (d8, 24, .inl (fun _ => 0)))] H := hP
  have hD : va_D A [(h, .inr (0, [.ref q0, .ref q1, .ref q2, .ref q3, .ref q4, .ref q5, .ref q6, .int 0, .ref q7, .int 0, .int 0, .int 0, .ref q8, .null, .int 0, .null, .null])), (q0, .inl (d0, 12, .inl (fun _ => 0))), (q1, .inl (d1, 12, .inl (fun _ => 0))), (q2, .inl (d2, 12, .inl (fun _ => 0))), (q3, .inl (d3, 72, .inl (fun _ => 0))), (q4, .inl (d4, 72, .inl (fun _ => 0))), (q5, .inl (d5, 72, .inl (fun _ => 0))), (q6, .inl (d6, 24, .inl (fun _ => 0))), (q7, .inl (d7, 24, .inl (fun _ => 0))), (q8, .inl (d8, 24, .inl (fun _ => 0)))] := hD
  refine lv_aload_n hx hb dX0_init_76 rfl (lv_at hl 0 rfl) ?_
  refine lv_bipush (v := 24) hx hb dX0_init_77 (by decide) ?_
  refine va_newa (atype := .int) (ty := .int) (N' := 24) (a0 := (24, .inl (fun _ => 0))) hx hb (hts _ q85) rfl hK hP hD hS hA (fun _ => rfl) (by decide) (by decide) (by decide) (Nat.le_of_ble_eq_true rfl) (Nat.le_of_ble_eq_true rfl) dX0_init_79 (fun q9 d9 H hK hP hD hS => ?_)
  have hP : va_P D clX [(h, .inr (0, [.ref q0, .ref q1, .ref q2, .ref q3, .ref q4, .ref q5, .ref q6, .int 0, .ref q7, .int 0, .int 0, .int 0, .ref q8, .null, .int 0, .null, .null])), (q0, .inl (d0, 12, .inl (fun _ => 0))), (q1, .inl (d1, 12, .inl (fun _ => 0))), (q2, .inl (d2, 12, .inl (fun _ => 0))), (q3, .inl (d3, 72, .inl (fun _ => 0))), (q4, .inl (d4, 72, .inl (fun _ => 0))), (q5, .inl (d5, 72, .inl (fun _ => 0))), (q6, .inl (d6, 24, .inl (fun _ => 0))), (q7, .inl (d7, 24, .inl (fun _ => 0))), (q8, .inl (d8, 24, .inl (fun _ => 0))), (q9, .inl (d9, 24, .inl (fun _ => 0)))] H := hP
  have hD : va_D A [(h, .inr (0, [.ref q0, .ref q1, .ref q2, .ref q3, .ref q4, .ref q5, .ref q6, .int 0, .ref q7, .int 0, .int 0, .int 0, .ref q8, .null, .int 0, .null, .null])), (q0, .inl (d0, 12, .inl (fun _ => 0))), (q1, .inl (d1, 12, .inl (fun _ => 0))), (q2, .inl (d2, 12, .inl (fun _ => 0))), (q3, .inl (d3, 72, .inl (fun _ => 0))), (q4, .inl (d4, 72, .inl (fun _ => 0))), (q5, .inl (d5, 72, .inl (fun _ => 0))), (q6, .inl (d6, 24, .inl (fun _ => 0))), (q7, .inl (d7, 24, .inl (fun _ => 0))), (q8, .inl (d8, 24, .inl (fun _ => 0))), (q9, .inl (d9, 24, .inl (fun _ => 0)))] := hD
  have hK : va_K D clX [(d0, .boolean), (d1, .int), (d2, .int), (d3, .int), (d4, .int), (d5, .int), (d6, .int), (d7, .int), (d8, .int), (d9, .int)] s := hK
  refine W.widen (k := 10) (n := 348) (Nat.le_of_ble_eq_true rfl) (Nat.le_of_ble_eq_true rfl) ?_
  refine va_putF (D := D) (ci := 0) (v := .ref q9) (ty := .array .int) (C := RX0) (T := TX0) (N := 17) hx hb hts in_X0 tyX0 tyX0_ok nmX0 hown hK hP hD hS 0 rfl rfl 13 (by decide) (hts _ q45) (fun _ h9 => h9) rfl hin rfl (by decide +kernel) rfl rfl (Nat.le_of_ble_eq_true rfl) dX0_init_81 (fun H locs hP hD hS => ?_)
  have hP : va_P D clX [(h, .inr (0, [.ref q0, .ref q1, .ref q2, .ref q3, .ref q4, .ref q5, .ref q6, .int 0, .ref q7, .int 0, .int 0, .int 0, .ref q8, .ref q9, .int 0, .null, .null])), (q0, .inl (d0, 12, .inl (fun _ => 0))), (q1, .inl (d1, 12, .inl (fun _ => 0))), (q2, .inl (d2, 12, .inl (fun _ => 0))), (q3, .inl (d3, 72, .inl (fun _ => 0))), (q4, .inl (d4, 72, .inl (fun _ => 0))), (q5, .inl (d5, 72, .inl (fun _ => 0))), (q6, .inl (d6, 24, .inl (fun _ => 0))), (q7, .inl (d7, 24, .inl (fun _ => 0))), (q8, .inl (d8, 24, .inl (fun _ => 0))), (q9, .inl (d9, 24, .inl (fun _ => 0)))] H := hP
  have hD : va_D A [(h, .inr (0, [.ref q0, .ref q1, .ref q2, .ref q3, .ref q4, .ref q5, .ref q6, .int 0, .ref q7, .int 0, .int 0, .int 0, .ref q8, .ref q9, .int 0, .null, .null])), (q0, .inl (d0, 12, .inl (fun _ => 0))), (q1, .inl (d1, 12, .inl (fun _ => 0))), (q2, .inl (d2, 12, .inl (fun _ => 0))), (q3, .inl (d3, 72, .inl (fun _ => 0))), (q4, .inl (d4, 72, .inl (fun _ => 0))), (q5, .inl (d5, 72, .inl (fun _ => 0))), (q6, .inl (d6, 24, .inl (fun _ => 0))), (q7, .inl (d7, 24, .inl (fun _ => 0))), (q8, .inl (d8, 24, .inl (fun _ => 0))), (q9, .inl (d9, 24, .inl (fun _ => 0)))] := hD
  refine lv_aload_n hx hb dX0_init_84 rfl (lv_at hl 0 rfl) ?_
  refine lv_bipush (v := 12) hx hb dX0_init_85 (by decide) ?_
  refine va_newa (atype := .int) (ty := .int) (N' := 12) (a0 := (12, .inl (fun _ => 0))) hx hb (hts _ q85) rfl hK hP hD hS hA (fun _ => rfl) (by decide) (by decide) (by decide) (Nat.le_of_ble_eq_true rfl) (Nat.le_of_ble_eq_true rfl) dX0_init_87 (fun q10 d10 H hK hP hD hS => ?_)
  have hP : va_P D clX [(h, .inr (0, [.ref q0, .ref q1, .ref q2, .ref q3, .ref q4, .ref q5, .ref q6, .int 0, .ref q7, .int 0, .int 0, .int 0, .ref q8, .ref q9, .int 0, .null, .null])), (q0, .inl (d0, 12, .inl (fun _ => 0))), (q1, .inl (d1, 12, .inl (fun _ => 0))), (q2, .inl (d2, 12, .inl (fun _ => 0))), (q3, .inl (d3, 72, .inl (fun _ => 0))), (q4, .inl (d4, 72, .inl (fun _ => 0))), (q5, .inl (d5, 72, .inl (fun _ => 0))), (q6, .inl (d6, 24, .inl (fun _ => 0))), (q7, .inl (d7, 24, .inl (fun _ => 0))), (q8, .inl (d8, 24, .inl (fun _ => 0))), (q9, .inl (d9, 24, .inl (fun _ => 0))), (q10, .inl (d10, 12, .inl (fun _ => 0)))] H := hP
  have hD : va_D A [(h, .inr (0, [.ref q0, .ref q1, .ref q2, .ref q3, .ref q4, .ref q5, .ref q6, .int 0, .ref q7, .int 0, .int 0, .int 0, .ref q8, .ref q9, .int 0, .null, .null])), (q0, .inl (d0, 12, .inl (fun _ => 0))), (q1, .inl (d1, 12, .inl (fun _ => 0))), (q2, .inl (d2, 12, .inl (fun _ => 0))), (q3, .inl (d3, 72, .inl (fun _ => 0))), (q4, .inl (d4, 72, .inl (fun _ => 0))), (q5, .inl (d5, 72, .inl (fun _ => 0))), (q6, .inl (d6, 24, .inl (fun _ => 0))), (q7, .inl (d7, 24, .inl (fun _ => 0))), (q8, .inl (d8, 24, .inl (fun _ => 0))), (q9, .inl (d9, 24, .inl (fun _ => 0))), (q10, .inl (d10, 12, .inl (fun _ => 0)))] := hD
  have hK : va_K D clX [(d0, .boolean), (d1, .int), (d2, .int), (d3, .int), (d4, .int), (d5, .int), (d6, .int), (d7, .int), (d8, .int), (d9, .int), (d10, .int)] s := hK
  refine W.widen (k := 11) (n := 360) (Nat.le_of_ble_eq_true rfl) (Nat.le_of_ble_eq_true rfl) ?_
  refine va_putF (D := D) (ci := 0) (v := .ref q10) (ty := .array .int) (C := RX0) (T := TX0) (N := 17) hx hb hts in_X0 tyX0 tyX0_ok nmX0 hown hK hP hD hS 0 rfl rfl 15 (by decide) (hts _ q47) (fun _ h9 => h9) rfl hin rfl (by decide +kernel) rfl rfl (Nat.le_of_ble_eq_true rfl) dX0_init_89 (fun H locs hP hD hS => ?_)
  have hP : va_P D clX [(h, .inr (0, [.ref q0, .ref q1, .ref q2, .ref q3, .ref q4, .ref q5, .ref q6, .int 0, .ref q7, .int 0, .int 0, .int 0, .ref q8, .ref q9, .int 0, .ref q10, .null])), (q0, .inl (d0, 12, .inl (fun _ => 0))), (q1, .inl (d1, 12, .inl (fun _ => 0))), (q2, .inl (d2, 12, .inl (fun _ => 0))), (q3, .inl (d3, 72, .inl (fun _ => 0))), (q4, .inl (d4, 72, .inl (fun _ => 0))), (q5, .inl (d5, 72, .inl (fun _ => 0))), (q6, .inl (d6, 24, .inl (fun _ => 0))), (q7, .inl (d7, 24, .inl (fun _ => 0))), (q8, .inl (d8, 24, .inl (fun _ => 0))), (q9, .inl (d9, 24, .inl (fun _ => 0))), (q10, .inl (d10, 12, .inl (fun _ => 0)))] H := hP
  have hD : va_D A [(h, .inr (0, [.ref q0, .ref q1, .ref q2, .ref q3, .ref q4, .ref q5, .ref q6, .int 0, .ref q7, .int 0, .int 0, .int 0, .ref q8, .ref q9, .int 0, .ref q10, .null])), (q0, .inl (d0, 12, .inl (fun _ => 0))), (q1, .inl (d1, 12, .inl (fun _ => 0))), (q2, .inl (d2, 12, .inl (fun _ => 0))), (q3, .inl (d3, 72, .inl (fun _ => 0))), (q4, .inl (d4, 72, .inl (fun _ => 0))), (q5, .inl (d5, 72, .inl (fun _ => 0))), (q6, .inl (d6, 24, .inl (fun _ => 0))), (q7, .inl (d7, 24, .inl (fun _ => 0))), (q8, .inl (d8, 24, .inl (fun _ => 0))), (q9, .inl (d9, 24, .inl (fun _ => 0))), (q10, .inl (d10, 12, .inl (fun _ => 0)))] := hD
  refine lv_aload_n hx hb dX0_init_92 rfl (lv_at hl 0 rfl) ?_
  refine lv_bipush (v := 12) hx hb dX0_init_93 (by decide) ?_
  refine va_newa (atype := .int) (ty := .int) (N' := 12) (a0 := (12, .inl (fun _ => 0))) hx hb (hts _ q85) rfl hK hP hD hS hA (fun _ => rfl) (by decide) (by decide) (by decide) (Nat.le_of_ble_eq_true rfl) (Nat.le_of_ble_eq_true rfl) dX0_init_95 (fun q11 d11 H hK hP hD hS => ?_)
  have hP : va_P D clX [(h, .inr (0, [.ref q0, .ref q1, .ref q2, .ref q3, .ref q4, .ref q5, .ref q6, .int 0, .ref q7, .int 0, .int 0, .int 0, .ref q8, .ref q9, .int 0, .ref q10, .null])), (q0, .inl (d0, 12, .inl (fun _ => 0))), (q1, .inl (d1, 12, .inl (fun _ => 0))), (q2, .inl (d2, 12, .inl (fun _ => 0))), (q3, .inl (d3, 72, .inl (fun _ => 0))), (q4, .inl (d4, 72, .inl (fun _ => 0))), (q5, .inl (d5, 72, .inl (fun _ => 0))), (q6, .inl (d6, 24, .inl (fun _ => 0))), (q7, .inl (d7, 24, .inl (fun _ => 0))), (q8, .inl (d8, 24, .inl (fun _ => 0))), (q9, .inl (d9, 24, .inl (fun _ => 0))), (q10, .inl (d10, 12, .inl (fun _ => 0))), (q11, .inl (d11, 12, .inl (fun _ => 0)))] H := hP
  have hD : va_D A [(h, .inr (0, [.ref q0, .ref q1, .ref q2, .ref q3, .ref q4, .ref q5, .ref q6, .int 0, .ref q7, .int 0, .int 0, .int 0, .ref q8, .ref q9, .int 0, .ref q10, .null])), (q0, .inl (d0, 12, .inl (fun _ => 0))), (q1, .inl (d1, 12, .inl (fun _ => 0))), (q2, .inl (d2, 12, .inl (fun _ => 0))), (q3, .inl (d3, 72, .inl (fun _ => 0))), (q4, .inl (d4, 72, .inl (fun _ => 0))), (q5, .inl (d5, 72, .inl (fun _ => 0))), (q6, .inl (d6, 24, .inl (fun _ => 0))), (q7, .inl (d7, 24, .inl (fun _ => 0))), (q8, .inl (d8, 24, .inl (fun _ => 0))), (q9, .inl (d9, 24, .inl (fun _ => 0))), (q10, .inl (d10, 12, .inl (fun _ => 0))), (q11, .inl (d11, 12, .inl (fun _ => 0)))] := hD
  have hK : va_K D clX [(d0, .boolean), (d1, .int), (d2, .int), (d3, .int), (d4, .int), (d5, .int), (d6, .int), (d7, .int), (d8, .int), (d9, .int), (d10, .int), (d11, .int)] s := hK
  refine W.widen (k := 12) (n := 372) (Nat.le_of_ble_eq_true rfl) (Nat.le_of_ble_eq_true rfl) ?_
  refine va_putF (D := D) (ci := 0) (v := .ref q11) (ty := .array .int) (C := RX0) (T := TX0) (N := 17) hx hb hts in_X0 tyX0 tyX0_ok nmX0 hown hK hP hD hS 0 rfl rfl 16 (by decide) (hts _ q48) (fun _ h9 => h9) rfl hin rfl (by decide +kernel) rfl rfl (Nat.le_of_ble_eq_true rfl) dX0_init_97 (fun H locs hP hD hS => ?_)
  have hP : va_P D clX [(h, .inr (0, [.ref q0, .ref q1, .ref q2, .ref q3, .ref q4, .ref q5, .ref q6, .int 0, .ref q7, .int 0, .int 0, .int 0, .ref q8, .ref q9, .int 0, .ref q10, .ref q11])), (q0, .inl (d0, 12, .inl (fun _ => 0))), (q1, .inl (d1, 12, .inl (fun _ => 0))), (q2, .inl (d2, 12, .inl (fun _ => 0))), (q3, .inl (d3, 72, .inl (fun _ => 0))), (q4, .inl (d4, 72, .inl (fun _ => 0))), (q5, .inl (d5, 72, .inl (fun _ => 0))), (q6, .inl (d6, 24, .inl (fun _ => 0))), (q7, .inl (d7, 24, .inl (fun _ => 0))), (q8, .inl (d8, 24, .inl (fun _ => 0))), (q9, .inl (d9, 24, .inl (fun _ => 0))), (q10, .inl (d10, 12, .inl (fun _ => 0))), (q11, .inl (d11, 12, .inl (fun _ => 0)))] H := hP
  have hD : va_D A [(h, .inr (0, [.ref q0, .ref q1, .ref q2, .ref q3, .ref q4, .ref q5, .ref q6, .int 0, .ref q7, .int 0, .int 0, .int 0, .ref q8, .ref q9, .int 0, .ref q10, .ref q11])), (q0, .inl (d0, 12, .inl (fun _ => 0))), (q1, .inl (d1, 12, .inl (fun _ => 0))), (q2, .inl (d2, 12, .inl (fun _ => 0))), (q3, .inl (d3, 72, .inl (fun _ => 0))), (q4, .inl (d4, 72, .inl (fun _ => 0))), (q5, .inl (d5, 72, .inl (fun _ => 0))), (q6, .inl (d6, 24, .inl (fun _ => 0))), (q7, .inl (d7, 24, .inl (fun _ => 0))), (q8, .inl (d8, 24, .inl (fun _ => 0))), (q9, .inl (d9, 24, .inl (fun _ => 0))), (q10, .inl (d10, 12, .inl (fun _ => 0))), (q11, .inl (d11, 12, .inl (fun _ => 0)))] := hD
  refine lv_aload_n hx hb dX0_init_100 rfl (lv_at hl 0 rfl) ?_
  refine lv_iconst (v := (-1)) hx hb dX0_init_101 (by decide) ?_
  refine va_put (D := D) (ci := 0) (v := .int (-1)) (ty := .int) (C := RX0) (T := TX0) (N := 17) hx hb hts in_X0 tyX0 tyX0_ok nmX0 hown hK hP hD hS 0 rfl rfl 11 (by decide) (hts _ q43) (fun _ h9 => h9) rfl (by decide +kernel) rfl rfl (Nat.le_of_ble_eq_true rfl) dX0_init_102 (fun H locs hP hD hS => ?_)
  have hP : va_P D clX [(h, .inr (0, [.ref q0, .ref q1, .ref q2, .ref q3, .ref q4, .ref q5, .ref q6, .int 0, .ref q7, .int 0, .int 0, .int (-1), .ref q8, .ref q9, .int 0, .ref q10, .ref q11])), (q0, .inl (d0, 12, .inl (fun _ => 0))), (q1, .inl (d1, 12, .inl (fun _ => 0))), (q2, .inl (d2, 12, .inl (fun _ => 0))), (q3, .inl (d3, 72, .inl (fun _ => 0))), (q4, .inl (d4, 72, .inl (fun _ => 0))), (q5, .inl (d5, 72, .inl (fun _ => 0))), (q6, .inl (d6, 24, .inl (fun _ => 0))), (q7, .inl (d7, 24, .inl (fun _ => 0))), (q8, .inl (d8, 24, .inl (fun _ => 0))), (q9, .inl (d9, 24, .inl (fun _ => 0))), (q10, .inl (d10, 12, .inl (fun _ => 0))), (q11, .inl (d11, 12, .inl (fun _ => 0)))] H := hP
  have hD : va_D A [(h, .inr (0, [.ref q0, .ref q1, .ref q2, .ref q3, .ref q4, .ref q5, .ref q6, .int 0, .ref q7, .int 0, .int 0, .int (-1), .ref q8, .ref q9, .int 0, .ref q10, .ref q11])), (q0, .inl (d0, 12, .inl (fun _ => 0))), (q1, .inl (d1, 12, .inl (fun _ => 0))), (q2, .inl (d2, 12, .inl (fun _ => 0))), (q3, .inl (d3, 72, .inl (fun _ => 0))), (q4, .inl (d4, 72, .inl (fun _ => 0))), (q5, .inl (d5, 72, .inl (fun _ => 0))), (q6, .inl (d6, 24, .inl (fun _ => 0))), (q7, .inl (d7, 24, .inl (fun _ => 0))), (q8, .inl (d8, 24, .inl (fun _ => 0))), (q9, .inl (d9, 24, .inl (fun _ => 0))), (q10, .inl (d10, 12, .inl (fun _ => 0))), (q11, .inl (d11, 12, .inl (fun _ => 0)))] := hD
  obtain ⟨a, ea⟩ : ∃ z : Nat → Nat, z = (fun k => match k with | 0 => q0 | 1 => q1 | 2 => q2 | 3 => q3 | 4 => q4 | 5 => q5 | 6 => q6 | 8 => q7 | 12 => q8 | 13 => q9 | 15 => q10 | _ => q11) := ⟨_, rfl⟩
  obtain ⟨d, ed⟩ : ∃ z : Nat → ClassId, z = (fun k => match k with | 0 => d0 | 1 => d1 | 2 => d2 | 3 => d3 | 4 => d4 | 5 => d5 | 6 => d6 | 8 => d7 | 12 => d8 | 13 => d9 | 15 => d10 | _ => d11) := ⟨_, rfl⟩
  have hP9 : va_P D clX (WX h a d SX0) H := by rw [ea, ed]; exact hP
  have hD9 : va_D A (WX h a d SX0) := by rw [ea, ed]; exact hD
  have hK9 : va_K D clX (TYX d) s := by rw [ed]; exact hK
  exact W.vret hx hb hr (fun t ht hW => ⟨⟨(), rfl, trivial, a, d, by rw [ht]; exact hP9, va_K.moved hW.alike hK9, hD9⟩, hS.F ht⟩) hS.2.2 dX0_init_105
set_option maxHeartbeats 4000000 in
set_option maxRecDepth 100000 in
/-- PercolatorModel(): its arrays are made -/
theorem metX1_init (l : Launch) (D : va_G) (h sz : Nat) : Met l yX1_init (ws_ yX1_init cX1_init 1 none) ({ frames := 1, cells := 7, slots := 268, locals := 12 }) (va_Pc [.ref h] (fun U => U.heap.size = sz ∧ va_P D clX [(h, .inr (1, [.null, .null, .null, .null, .null, .null, .null, .int 0, .int 0]))] U.heap ∧ va_K D clX [] U ∧ va_D (fun _ => True) [(h, .inr (1, [.null, .null, .null, .null, .null, .null, .null, .int 0, .int 0]))])) (va_Qv (fun _ : Unit => True) (fun _ t => ∃ (a : Nat → Nat) (d : Nat → ClassId), bg_ D clX (WM h a d) (TYM d) (va_A [(h, .inr (1, [.null, .null, .null, .null, .null, .null, .null, .int 0, .int 0]))] sz) SM0 t) (va_A [(h, .inr (1, [.null, .null, .null, .null, .null, .null, .null, .int 0, .int 0]))] sz)) 7 268 (va_A [(h, .inr (1, [.null, .null, .null, .null, .null, .null, .null, .int 0, .int 0]))] sz) := by
  refine Met.ofW (cc := cX1_init) (maxL := 1) (ret := none) (by decide) rfl ?_
  intro p e s m args below meth c s₁ B hml hv
  obtain ⟨rfl, hsz, hP, hK, hD0⟩ := hv
  have hx := B.exec
  have hb := B.bytes
  have hr := B.returns
  have hts := atoms_spec (ws := ws_ yX1_init cX1_init 1 none) B.pre
  have hts : ∀ w ∈ lw_all, w.before _ s = true := fun w h => hts w (List.mem_cons_of_mem _ h)
  have hown : s.vm.findClass RX1 = some m.cls := findClass_of_methodNamed B.named
  have hlocks := B.notSynchronized
  have hin : meth.name = "<init>" := (name_of_methodNamed B.named B.method).1
  subst hsz
  have hD := hD0.self (sz := s.heap.size)
  generalize hAe : va_A [(h, .inr (1, [.null, .null, .null, .null, .null, .null, .null, .int 0, .int 0]))] s.heap.size = A at hD ⊢
  have hA : ∀ q : Nat, s.heap.size ≤ q → A q := fun q h => by rw [← hAe]; exact Or.inr h
  have hS : va_S A s.heap s.heap [] := va_S.rf
  have hP : va_P D clX [(h, .inr (1, [.null, .null, .null, .null, .null, .null, .null, .int 0, .int 0]))] s.heap := hP
  have hl := lv_entry ([.ref h]) (n := 1) (Nat.le_of_ble_eq_true rfl)
  rw [lg_entry_eq]
  generalize (lg_sl ([.ref h]) ++ List.replicate (1 - (lg_sl ([.ref h])).length) Slot.unset).toArray = ls at hl ⊢
  have hl : lv_has ls 1 [(0, .ref h)] := hl
  refine lv_aload_n hx hb dX1_init_0 rfl (lv_at hl 0 rfl) ?_
  refine W.objInit hx hb hown (hts _ q198) (hts _ q30) (hts _ q31) rfl (by rw [hml]; exact hl.1) rfl dX1_init_1 (Nat.le_of_ble_eq_true rfl) (Nat.le_of_ble_eq_true rfl) ?_
  refine W.eq (g2 := F0 m 4 ls []) rfl ?_
  refine lv_aload_n hx hb dX1_init_4 rfl (lv_at hl 0 rfl) ?_
  refine lv_bipush (v := 12) hx hb dX1_init_5 (by decide) ?_
  refine va_newa (atype := .boolean) (ty := .boolean) (N' := 12) (a0 := (12, .inl (fun _ => 0))) hx hb (hts _ q84) rfl hK hP hD hS hA (fun _ => rfl) (by decide) (by decide) (by decide) (Nat.le_of_ble_eq_true rfl) (Nat.le_of_ble_eq_true rfl) dX1_init_7 (fun q0 d0 H hK hP hD hS => ?_)
  have hP : va_P D clX [(h, .inr (1, [.null, .null, .null, .null, .null, .null, .null, .int 0, .int 0])), (q0, .inl (d0, 12, .inl (fun _ => 0)))] H := hP
  have hD : va_D A [(h, .inr (1, [.null, .null, .null, .null, .null, .null, .null, .int 0, .int 0])), (q0, .inl (d0, 12, .inl (fun _ => 0)))] := hD
  have hK : va_K D clX [(d0, .boolean)] s := hK
  refine W.widen (k := 1) (n := 12) (Nat.le_of_ble_eq_true rfl) (Nat.le_of_ble_eq_true rfl) ?_
  refine va_putF (D := D) (ci := 1) (v := .ref q0) (ty := .array .boolean) (C := RX1) (T := TX1) (N := 9) hx hb hts in_X1 tyX1 tyX1_ok nmX1 hown hK hP hD hS 0 rfl rfl 0 (by decide) (hts _ q199) (fun _ h9 => h9) rfl hin rfl (by decide +kernel) rfl rfl (Nat.le_of_ble_eq_true rfl) dX1_init_9 (fun H locs hP hD hS => ?_)
  have hP : va_P D clX [(h, .inr (1, [.ref q0, .null, .null, .null, .null, .null, .null, .int 0, .int 0])), (q0, .inl (d0, 12, .inl (fun _ => 0)))] H := hP
  have hD : va_D A [(h, .inr (1, [.ref q0, .null, .null, .null, .null, .null, .null, .int 0, .int 0])), (q0, .inl (d0, 12, .inl (fun _ => 0)))] := hD
  refine lv_aload_n hx hb dX1_init_12 rfl (lv_at hl 0 rfl) ?_
  refine lv_bipush (v := 12) hx hb dX1_init_13 (by decide) ?_
  refine va_newa (atype := .int) (ty := .int) (N' := 12) (a0 := (12, .inl (fun _ => 0))) hx hb (hts _ q85) rfl hK hP hD hS hA (fun _ => rfl) (by decide) (by decide) (by decide) (Nat.le_of_ble_eq_true rfl) (Nat.le_of_ble_eq_true rfl) dX1_init_15 (fun q1 d1 H hK hP hD hS => ?_)
  have hP : va_P D clX [(h, .inr (1, [.ref q0, .null, .null, .null, .null, .null, .null, .int 0, .int 0])), (q0, .inl (d0, 12, .inl (fun _ => 0))), (q1, .inl (d1, 12, .inl (fun _ => 0)))] H := hP
  have hD : va_D A [(h, .inr (1, [.ref q0, .null, .null, .null, .null, .null, .null, .int 0, .int 0])), (q0, .inl (d0, 12, .inl (fun _ => 0))), (q1, .inl (d1, 12, .inl (fun _ => 0)))] := hD
  have hK : va_K D clX [(d0, .boolean), (d1, .int)] s := hK
  refine W.widen (k := 2) (n := 24) (Nat.le_of_ble_eq_true rfl) (Nat.le_of_ble_eq_true rfl) ?_
  refine va_putF (D := D) (ci := 1) (v := .ref q1) (ty := .array .int) (C := RX1) (T := TX1) (N := 9) hx hb hts in_X1 tyX1 tyX1_ok nmX1 hown hK hP hD hS 0 rfl rfl 1 (by decide) (hts _ q200) (fun _ h9 => h9) rfl hin rfl (by decide +kernel) rfl rfl (Nat.le_of_ble_eq_true rfl) dX1_init_17 (fun H locs hP hD hS => ?_)
  have hP : va_P D clX [(h, .inr (1, [.ref q0, .ref q1, .null, .null, .null, .null, .null, .int 0, .int 0])), (q0, .inl (d0, 12, .inl (fun _ => 0))), (q1, .inl (d1, 12, .inl (fun _ => 0)))] H := hP
  have hD : va_D A [(h, .inr (1, [.ref q0, .ref q1, .null, .null, .null, .null, .null, .int 0, .int 0])), (q0, .inl (d0, 12, .inl (fun _ => 0))), (q1, .inl (d1, 12, .inl (fun _ => 0)))] := hD
  refine lv_aload_n hx hb dX1_init_20 rfl (lv_at hl 0 rfl) ?_
  refine lv_bipush (v := 12) hx hb dX1_init_21 (by decide) ?_
  refine va_newa (atype := .int) (ty := .int) (N' := 12) (a0 := (12, .inl (fun _ => 0))) hx hb (hts _ q85) rfl hK hP hD hS hA (fun _ => rfl) (by decide) (by decide) (by decide) (Nat.le_of_ble_eq_true rfl) (Nat.le_of_ble_eq_true rfl) dX1_init_23 (fun q2 d2 H hK hP hD hS => ?_)
  have hP : va_P D clX [(h, .inr (1, [.ref q0, .ref q1, .null, .null, .null, .null, .null, .int 0, .int 0])), (q0, .inl (d0, 12, .inl (fun _ => 0))), (q1, .inl (d1, 12, .inl (fun _ => 0))), (q2, .inl (d2, 12, .inl (fun _ => 0)))] H := hP
  have hD : va_D A [(h, .inr (1, [.ref q0, .ref q1, .null, .null, .null, .null, .null, .int 0, .int 0])), (q0, .inl (d0, 12, .inl (fun _ => 0))), (q1, .inl (d1, 12, .inl (fun _ => 0))), (q2, .inl (d2, 12, .inl (fun _ => 0)))] := hD
  have hK : va_K D clX [(d0, .boolean), (d1, .int), (d2, .int)] s := hK
  refine W.widen (k := 3) (n := 36) (Nat.le_of_ble_eq_true rfl) (Nat.le_of_ble_eq_true rfl) ?_
  refine va_putF (D := D) (ci := 1) (v := .ref q2) (ty := .array .int) (C := RX1) (T := TX1) (N := 9) hx hb hts in_X1 tyX1 tyX1_ok nmX1 hown hK hP hD hS 0 rfl rfl 2 (by decide) (hts _ q201) (fun _ h9 => h9) rfl hin rfl (by decide +kernel) rfl rfl (Nat.le_of_ble_eq_true rfl) dX1_init_25 (fun H locs hP hD hS => ?_)
  have hP : va_P D clX [(h, .inr (1, [.ref q0, .ref q1, .ref q2, .null, .null, .null, .null, .int 0, .int 0])), (q0, .inl (d0, 12, .inl (fun _ => 0))), (q1, .inl (d1, 12, .inl (fun _ => 0))), (q2, .inl (d2, 12, .inl (fun _ => 0)))] H := hP
  have hD : va_D A [(h, .inr (1, [.ref q0, .ref q1, .ref q2, .null, .null, .null, .null, .int 0, .int 0])), (q0, .inl (d0, 12, .inl (fun _ => 0))), (q1, .inl (d1, 12, .inl (fun _ => 0))), (q2, .inl (d2, 12, .inl (fun _ => 0)))] := hD
  refine lv_aload_n hx hb dX1_init_28 rfl (lv_at hl 0 rfl) ?_
  refine lv_bipush (v := 72) hx hb dX1_init_29 (by decide) ?_
  refine va_newa (atype := .int) (ty := .int) (N' := 72) (a0 := (72, .inl (fun _ => 0))) hx hb (hts _ q85) rfl hK hP hD hS hA (fun _ => rfl) (by decide) (by decide) (by decide) (Nat.le_of_ble_eq_true rfl) (Nat.le_of_ble_eq_true rfl) dX1_init_31 (fun q3 d3 H hK hP hD hS => ?_)
  have hP : va_P D clX [(h, .inr (1, [.ref q0, .ref q1, .ref q2, .null, .null, .null, .null, .int 0, .int 0])), (q0, .inl (d0, 12, .inl (fun _ => 0))), (q1, .inl (d1, 12, .inl (fun _ => 0))), (q2, .inl (d2, 12, .inl (fun _ => 0))), (q3, .inl (d3, 72, .inl (fun _ => 0)))] H := hP
  have hD : va_D A [(h, .inr (1, [.ref q0, .ref q1, .ref q2, .null, .null, .null, .null, .int 0, .int 0])), (q0, .inl (d0, 12, .inl (fun _ => 0))), (q1, .inl (d1, 12, .inl (fun _ => 0))), (q2, .inl (d2, 12, .inl (fun _ => 0))), (q3, .inl (d3, 72, .inl (fun _ => 0)))] := hD
  have hK : va_K D clX [(d0, .boolean), (d1, .int), (d2, .int), (d3, .int)] s := hK
  refine W.widen (k := 4) (n := 108) (Nat.le_of_ble_eq_true rfl) (Nat.le_of_ble_eq_true rfl) ?_
  refine va_putF (D := D) (ci := 1) (v := .ref q3) (ty := .array .int) (C := RX1) (T := TX1) (N := 9) hx hb hts in_X1 tyX1 tyX1_ok nmX1 hown hK hP hD hS 0 rfl rfl 3 (by decide) (hts _ q202) (fun _ h9 => h9) rfl hin rfl (by decide +kernel) rfl rfl (Nat.le_of_ble_eq_true rfl) dX1_init_33 (fun H locs hP hD hS => ?_)
  have hP : va_P D clX [(h, .inr (1, [.ref q0, .ref q1, .ref q2, .ref q3, .null, .null, .null, .int 0, .int 0])), (q0, .inl (d0, 12, .inl (fun _ => 0))), (q1, .inl (d1, 12, .inl (fun _ => 0))), (q2, .inl (d2, 12, .inl (fun _ => 0))), (q3, .inl (d3, 72, .inl (fun _ => 0)))] H := hP
  have hD : va_D A [(h, .inr (1, [.ref q0, .ref q1, .ref q2, .ref q3, .null, .null, .null, .int 0, .int 0])), (q0, .inl (d0, 12, .inl (fun _ => 0))), (q1, .inl (d1, 12, .inl (fun _ => 0))), (q2, .inl (d2, 12, .inl (fun _ => 0))), (q3, .inl (d3, 72, .inl (fun _ => 0)))] := hD
  refine lv_aload_n hx hb dX1_init_36 rfl (lv_at hl 0 rfl) ?_
  refine lv_bipush (v := 72) hx hb dX1_init_37 (by decide) ?_
  refine va_newa (atype := .int) (ty := .int) (N' := 72) (a0 := (72, .inl (fun _ => 0))) hx hb (hts _ q85) rfl hK hP hD hS hA (fun _ => rfl) (by decide) (by decide) (by decide) (Nat.le_of_ble_eq_true rfl) (Nat.le_of_ble_eq_true rfl) dX1_init_39 (fun q4 d4 H hK hP hD hS => ?_)
  have hP : va_P D clX [(h, .inr (1, [.ref q0, .ref q1, .ref q2, .ref q3, .null, .null, .null, .int 0, .int 0])), (q0, .inl (d0, 12, .inl (fun _ => 0))), (q1, .inl (d1, 12, .inl (fun _ => 0))), (q2, .inl (d2, 12, .inl (fun _ => 0))), (q3, .inl (d3, 72, .inl (fun _ => 0))), (q4, .inl (d4, 72, .inl (fun _ => 0)))] H := hP
  have hD : va_D A [(h, .inr (1, [.ref q0, .ref q1, .ref q2, .ref q3, .null, .null, .null, .int 0, .int 0])), (q0, .inl (d0, 12, .inl (fun _ => 0))), (q1, .inl (d1, 12, .inl (fun _ => 0))), (q2, .inl (d2, 12, .inl (fun _ => 0))), (q3, .inl (d3, 72, .inl (fun _ => 0))), (q4, .inl (d4, 72, .inl (fun _ => 0)))] := hD
  have hK : va_K D clX [(d0, .boolean), (d1, .int), (d2, .int), (d3, .int), (d4, .int)] s := hK
  refine W.widen (k := 5) (n := 180) (Nat.le_of_ble_eq_true rfl) (Nat.le_of_ble_eq_true rfl) ?_
  refine va_putF (D := D) (ci := 1) (v := .ref q4) (ty := .array .int) (C := RX1) (T := TX1) (N := 9) hx hb hts in_X1 tyX1 tyX1_ok nmX1 hown hK hP hD hS 0 rfl rfl 4 (by decide) (hts _ q203) (fun _ h9 => h9) rfl hin rfl (by decide +kernel) rfl rfl (Nat.le_of_ble_eq_true rfl) dX1_init_41 (fun H locs hP hD hS => ?_)
  have hP : va_P D clX [(h, .inr (1, [.ref q0, .ref q1, .ref q2, .ref q3, .ref q4, .null, .null, .int 0, .int 0])), (q0, .inl (d0, 12, .inl (fun _ => 0))), (q1, .inl (d1, 12, .inl (fun _ => 0))), (q2, .inl (d2, 12, .inl (fun _ => 0))), (q3, .inl (d3, 72, .inl (fun _ => 0))), (q4, .inl (d4, 72, .inl (fun _ => 0)))] H := hP
  have hD : va_D A [(h, .inr (1, [.ref q0, .ref q1, .ref q2, .ref q3, .ref q4, .null, .null, .int 0, .int 0])), (q0, .inl (d0, 12, .inl (fun _ => 0))), (q1, .inl (d1, 12, .inl (fun _ => 0))), (q2, .inl (d2, 12, .inl (fun _ => 0))), (q3, .inl (d3, 72, .inl (fun _ => 0))), (q4, .inl (d4, 72, .inl (fun _ => 0)))] := hD
  refine lv_aload_n hx hb dX1_init_44 rfl (lv_at hl 0 rfl) ?_
  refine lv_bipush (v := 72) hx hb dX1_init_45 (by decide) ?_
  refine va_newa (atype := .int) (ty := .int) (N' := 72) (a0 := (72, .inl (fun _ => 0))) hx hb (hts _ q85) rfl hK hP hD hS hA (fun _ => rfl) (by decide) (by decide) (by decide) (Nat.le_of_ble_eq_true rfl) (Nat.le_of_ble_eq_true rfl) dX1_init_47 (fun q5 d5 H hK hP hD hS => ?_)
  have hP : va_P D clX [(h, .inr (1, [.ref q0, .ref q1, .ref q2, .ref q3, .ref q4, .null, .null, .int 0, .int 0])), (q0, .inl (d0, 12, .inl (fun _ => 0))), (q1, .inl (d1, 12, .inl (fun _ => 0))), (q2, .inl (d2, 12, .inl (fun _ => 0))), (q3, .inl (d3, 72, .inl (fun _ => 0))), (q4, .inl (d4, 72, .inl (fun _ => 0))), (q5, .inl (d5, 72, .inl (fun _ => 0)))] H := hP
  have hD : va_D A [(h, .inr (1, [.ref q0, .ref q1, .ref q2, .ref q3, .ref q4, .null, .null, .int 0, .int 0])), (q0, .inl (d0, 12, .inl (fun _ => 0))), (q1, .inl (d1, 12, .inl (fun _ => 0))), (q2, .inl (d2, 12, .inl (fun _ => 0))), (q3, .inl (d3, 72, .inl (fun _ => 0))), (q4, .inl (d4, 72, .inl (fun _ => 0))), (q5, .inl (d5, 72, .inl (fun _ => 0)))] := hD
  have hK : va_K D clX [(d0, .boolean), (d1, .int), (d2, .int), (d3, .int), (d4, .int), (d5, .int)] s := hK
  refine W.widen (k := 6) (n := 252) (Nat.le_of_ble_eq_true rfl) (Nat.le_of_ble_eq_true rfl) ?_
  refine va_putF (D := D) (ci := 1) (v := .ref q5) (ty := .array .int) (C := RX1) (T := TX1) (N := 9) hx hb hts in_X1 tyX1 tyX1_ok nmX1 hown hK hP hD hS 0 rfl rfl 5 (by decide) (hts _ q204) (fun _ h9 => h9) rfl hin rfl (by decide +kernel) rfl rfl (Nat.le_of_ble_eq_true rfl) dX1_init_49 (fun H locs hP hD hS => ?_)
  have hP : va_P D clX [(h, .inr (1, [.ref q0, .ref q1, .ref q2, .ref q3, .ref q4, .ref q5, .null, .int 0, .int 0])), (q0, .inl (d0, 12, .inl (fun _ => 0))), (q1, .inl (d1, 12, .inl (fun _ => 0))), (q2, .inl (d2, 12, .inl (fun _ => 0))), (q3, .inl (d3, 72, .inl (fun _ => 0))), (q4, .inl (d4, 72, .inl (fun _ => 0))), (q5, .inl (d5, 72, .inl (fun _ => 0)))] H := hP
  have hD : va_D A [(h, .inr (1, [.ref q0, .ref q1, .ref q2, .ref q3, .ref q4, .ref q5, .null, .int 0, .int 0])), (q0, .inl (d0, 12, .inl (fun _ => 0))), (q1, .inl (d1, 12, .inl (fun _ => 0))), (q2, .inl (d2, 12, .inl (fun _ => 0))), (q3, .inl (d3, 72, .inl (fun _ => 0))), (q4, .inl (d4, 72, .inl (fun _ => 0))), (q5, .inl (d5, 72, .inl (fun _ => 0)))] := hD
  refine lv_aload_n hx hb dX1_init_52 rfl (lv_at hl 0 rfl) ?_
  refine lv_bipush (v := 16) hx hb dX1_init_53 (by decide) ?_
  refine va_newa (atype := .int) (ty := .int) (N' := 16) (a0 := (16, .inl (fun _ => 0))) hx hb (hts _ q85) rfl hK hP hD hS hA (fun _ => rfl) (by decide) (by decide) (by decide) (Nat.le_of_ble_eq_true rfl) (Nat.le_of_ble_eq_true rfl) dX1_init_55 (fun q6 d6 H hK hP hD hS => ?_)
  have hP : va_P D clX [(h, .inr (1, [.ref q0, .ref q1, .ref q2, .ref q3, .ref q4, .ref q5, .null, .int 0, .int 0])), (q0, .inl (d0, 12, .inl (fun _ => 0))), (q1, .inl (d1, 12, .inl (fun _ => 0))), (q2, .inl (d2, 12, .inl (fun _ => 0))), (q3, .inl (d3, 72, .inl (fun _ => 0))), (q4, .inl (d4, 72, .inl (fun _ => 0))), (q5, .inl (d5, 72, .inl (fun _ => 0))), (q6, .inl (d6, 16, .inl (fun _ => 0)))] H := hP
  have hD : va_D A [(h, .inr (1, [.ref q0, .ref q1, .ref q2, .ref q3, .ref q4, .ref q5, .null, .int 0, .int 0])), (q0, .inl (d0, 12, .inl (fun _ => 0))), (q1, .inl (d1, 12, .inl (fun _ => 0))), (q2, .inl (d2, 12, .inl (fun _ => 0))), (q3, .inl (d3, 72, .inl (fun _ => 0))), (q4, .inl (d4, 72, .inl (fun _ => 0))), (q5, .inl (d5, 72, .inl (fun _ => 0))), (q6, .inl (d6, 16, .inl (fun _ => 0)))] := hD
  have hK : va_K D clX [(d0, .boolean), (d1, .int), (d2, .int), (d3, .int), (d4, .int), (d5, .int), (d6, .int)] s := hK
  refine W.widen (k := 7) (n := 268) (Nat.le_of_ble_eq_true rfl) (Nat.le_of_ble_eq_true rfl) ?_
  refine va_putF (D := D) (ci := 1) (v := .ref q6) (ty := .array .int) (C := RX1) (T := TX1) (N := 9) hx hb hts in_X1 tyX1 tyX1_ok nmX1 hown hK hP hD hS 0 rfl rfl 6 (by decide) (hts _ q205) (fun _ h9 => h9) rfl hin rfl (by decide +kernel) rfl rfl (Nat.le_of_ble_eq_true rfl) dX1_init_57 (fun H locs hP hD hS => ?_)
  have hP : va_P D clX [(h, .inr (1, [.ref q0, .ref q1, .ref q2, .ref q3, .ref q4, .ref q5, .ref q6, .int 0, .int 0])), (q0, .inl (d0, 12, .inl (fun _ => 0))), (q1, .inl (d1, 12, .inl (fun _ => 0))), (q2, .inl (d2, 12, .inl (fun _ => 0))), (q3, .inl (d3, 72, .inl (fun _ => 0))), (q4, .inl (d4, 72, .inl (fun _ => 0))), (q5, .inl (d5, 72, .inl (fun _ => 0))), (q6, .inl (d6, 16, .inl (fun _ => 0)))] H := hP
  have hD : va_D A [(h, .inr (1, [.ref q0, .ref q1, .ref q2, .ref q3, .ref q4, .ref q5, .ref q6, .int 0, .int 0])), (q0, .inl (d0, 12, .inl (fun _ => 0))), (q1, .inl (d1, 12, .inl (fun _ => 0))), (q2, .inl (d2, 12, .inl (fun _ => 0))), (q3, .inl (d3, 72, .inl (fun _ => 0))), (q4, .inl (d4, 72, .inl (fun _ => 0))), (q5, .inl (d5, 72, .inl (fun _ => 0))), (q6, .inl (d6, 16, .inl (fun _ => 0)))] := hD
  obtain ⟨a, ea⟩ : ∃ z : Nat → Nat, z = (fun k => match k with | 0 => q0 | 1 => q1 | 2 => q2 | 3 => q3 | 4 => q4 | 5 => q5 | _ => q6) := ⟨_, rfl⟩
  obtain ⟨d, ed⟩ : ∃ z : Nat → ClassId, z = (fun k => match k with | 0 => d0 | 1 => d1 | 2 => d2 | 3 => d3 | 4 => d4 | 5 => d5 | _ => d6) := ⟨_, rfl⟩
  have hP9 : va_P D clX (WM h a d SM0) H := by rw [ea, ed]; exact hP
  have hD9 : va_D A (WM h a d SM0) := by rw [ea, ed]; exact hD
  have hK9 : va_K D clX (TYM d) s := by rw [ed]; exact hK
  exact W.vret hx hb hr (fun t ht hW => ⟨⟨(), rfl, trivial, a, d, by rw [ht]; exact hP9, va_K.moved hW.alike hK9, hD9⟩, hS.F ht⟩) hS.2.2 dX1_init_60
end
section
-- ===== end of PART A; then your names; then what follows =====
/-! THE CLAIM OUT OF ONE WALK OF THE LAW'S BODY. Your part is whole_start (and what it stands on); all else here is the same for every law, but numbers. -/
def R_law : String := "PercolatorLaw"
def lw_P (b : Addr) (xs : List Int32) (args : Array Value) (s : State) : Prop := args = #[.ref b] ∧ s.IntsAt b xs ∧ xs.length ≤ 256 ∧ (Jvm.Cond.and given_1 narrow_1).before args s = true
def lw_Q (_ : Array Value) (s : State) (o : Outcome) (t : State) : Prop := o = .returned (some (.int 1)) ∧ Framed s o t [] 600000 7290000
def lw_Z (below : List Frame) (a : Array Value) (s : State) : State → Prop := fun t => ∃ o, t.status = .running ∧ Ended t below o ∧ lw_Q a s o t
/-- the law's own end, with 1 on the stack, nothing written that was there before, its room as the claim has it -/
theorem lw_ret {p : Program} {l : Launch} {e : Env} {s : State} {m : MethodId} {below : List Frame} {meth : Method} {c : Code} {b : Nat} (hx : p.tables.exec = Jvm.exec) (hb : c.code = code) (hr : meth.sig.returnType = ret) (hlocks : meth.locks = false) {pc : Nat} {H : Heap} {ls : Array Slot} (hdg : decode code pc = .ok (.ireturn, 1)) : W p l e room_1 s m #[Value.ref b] below meth c H [] 600000 7290000 (lw_Z below #[Value.ref b] s) (F0 m pc ls [.int 1]) := by
  intro T hT X
  obtain ⟨fs, hret, hrun, hended, hW, hframe⟩ := X.leave (v := some (.int 1)) (hlocks := hlocks) (fun h => by rw [hr] at h; cases h)
  have hmeth' : T.vm.method? m = some meth := X.method'
  refine ⟨T.setFrames fs, ?_, .returned (some (.int 1)), hrun, hended, rfl, ⟨_, rfl⟩, hW, hframe⟩
  jvm_step X.here [X.here.top, hx, hb, hdg, hmeth', hr, ret, narrow_b1]
  (try refine ⟨rfl, ?_⟩); (try refine ⟨rfl, ?_⟩)
  first | (intro acts; rw [hret _ acts rfl rfl rfl]) | rw [hret _ _ rfl rfl rfl]
  exact Steps.refl _
/-- what holds at the law's entry: the machine, the code, the tables' words (any of lw_tbl by 'hts w (by decide +kernel)'), the script of L ints xs at the cell b, what the Statement gives of the start (any of its parts by flat_of_before) -/
def lw_At (p : Program) (s : State) (m : MethodId) (meth : Method) (c : Code) (b L : Nat) (xs : Nat → Int32) : Prop :=
  p.tables.exec = Jvm.exec ∧ c.code = code ∧ meth.sig.returnType = ret ∧ c.maxLocals = 4 ∧ s.vm.findClass R_law = some m.cls ∧ (∀ w ∈ lw_tbl, w.before #[Value.ref b] s = true) ∧ va_X b L xs s s.heap ∧ b < s.heap.size ∧ meth.locks = false ∧ (Jvm.Cond.and given_1 narrow_1).before #[Value.ref b] s = true
end
section
theorem lw_sld {p : Program} {l : Launch} {e : Env} {R : Room} {s : State} {m : MethodId} {args : Array Value} {below : List Frame} {meth : Method} {c : Code} {H : Heap} {locs : List Loc} {cells slots : Nat} {Q : State → Prop} {cc : ByteArray} {pc : Nat} {ls : Array Slot} {rest : List Value} {A : Nat → Prop} (hexec : p.tables.exec = Jvm.exec) (hb : c.code = cc) {b L : Nat} {xs : Nat → Int32} (hX : va_X b L xs s s.heap) (hbl : b < s.heap.size) (hbA : ¬ A b) (hS : va_S A s.heap H locs) (hL : L ≤ 256) {i : Int32} (j : Nat) (hi : i = nI j) (hj : j < L) (hdg : decode cc pc = .ok (.iaload, 1))
    (kk : W p l e R s m args below meth c H locs cells slots Q (F0 m (pc + 1) ls (.int (xs j) :: rest))) : W p l e R s m args below meth c H locs cells slots Q (F0 m pc ls (.int i :: .ref b :: rest)) := by
  have h1 : i.toNatClampNeg = j := by rw [hi]; exact nI_clamp (by omega)
  refine va_sld hexec hb hX hbl hbA hS (by rw [hi]; exact vp_in_nI hj (by omega)) hdg ?_
  rw [h1]
  exact kk
theorem lw_more {i L : Nat} (hL : L ≤ 256) (hi : i ≤ L) (h : ¬ (Int32.ofNat L - 4) < nI i) : i + 4 ≤ L := by
  have e1 : (Int32.ofNat L - 4).toInt = (L : Int) - 4 := pk_sub_toInt (a := L) (b := 4) (by omega) (by decide)
  have e2 : (nI i).toInt = (i : Int) := nI_toInt (by omega)
  rw [Int32.lt_iff_toInt_lt, e1, e2] at h
  omega
theorem rel_lw {S M : ST} {L : Nat} (H : Rel S M L) : S 11 0 = -1 ∨ ∃ u, u < 24 ∧ S 11 0 = nI u := by
  obtain ⟨oS, oM, hC, hD, hF⟩ := H
  obtain ⟨d1, d2, d3, d4, d5, d6, d7, d8, d9⟩ := hD
  rcases Nat.eq_zero_or_pos L with z | z
  · exact Or.inl (d6 z)
  · obtain ⟨u, hu, eu⟩ := d5 (L - 1) (by omega)
    exact Or.inr ⟨u, hu, (d7 z).trans eu⟩
set_option maxHeartbeats 4000000 in
set_option maxRecDepth 100000 in
/-- THE LAW'S LOOP at its head: i ints read; the two objects are tied -/
theorem law_loop {p : Program} {l : Launch} {e : Env} {s : State} {m : MethodId} {below : List Frame} {meth : Method} {c : Code} {D : va_G} {b Ls qx qm : Nat} {a a2 : Nat → Nat} {d d2 : Nat → ClassId} {xs : Nat → Int32} (hL : Ls ≤ 256) (Z0 : lw_At p s m meth c b Ls xs) (hdis : ∀ (S M : ST) (i j : Nat) (x y : Nat × va_E), (WX qx a d S)[i]? = some x → (WM qm a2 d2 M)[j]? = some y → x.1 ≠ y.1) :
    ∀ (n i L : Nat) (S M : ST), i ≤ Ls → Ls < i + n → Rel S M L → ∀ (H : Heap) (locs : List Loc) (ls : Array Slot), ig_ D clX (WX qx a d) (TYX d) (fun q : Nat => s.heap.size ≤ q) s S H locs → ig_ D clX (WM qm a2 d2) (TYM d2) (fun q : Nat => s.heap.size ≤ q) s M H locs → lv_has ls 4 [(3, .int (nI i)), (0, .ref b), (1, .ref qx), (2, .ref qm)] → W p l e room_1 s m #[Value.ref b] below meth c H locs 21 666 (lw_Z below #[Value.ref b] s) (F0 m 18 ls []) := by
  obtain ⟨hx, hb, hr, hml, hown, hts0, hX, hbl, hlocks, hgv⟩ := Z0
  have hts : ∀ w ∈ lw_all, w.before #[Value.ref b] s = true := fun w h => hts0 w (lw_all_tbl h)
  have C0 : CallFix p m c code 4 s #[Value.ref b] lw_all R_law := ⟨hx, hb, hml, hown, hts⟩
  have hA : ∀ q : Nat, s.heap.size ≤ q → (fun q : Nat => s.heap.size ≤ q) q := fun _ h => h
  have hbA : ¬ (fun q : Nat => s.heap.size ≤ q) b := Nat.not_le.mpr hbl
  intro n
  induction n with
  | zero =>
    intro i L S M h1 h2
    exact absurd h2 (by omega)
  | succ n ih =>
    intro i L S M h1 h2 HR H locs ls IX IM hl
    have oS := HR.1
    have oM := HR.2.1
    have dL := HR.2.2.2.1.1
    have dM := HR.2.2.2.1.2.1
    have dS := HR.2.2.2.1.2.2.1
    refine lv_iload_n hx hb dL_law_18 rfl (lv_at hl 0 rfl) ?_
    refine lv_aload_n hx hb dL_law_19 rfl (lv_at hl 1 rfl) ?_
    refine va_slen hx hb hX hbl hbA IX.2.2.2 dL_law_20 ?_
    refine lv_iconst (v := 4) hx hb dL_law_21 (by decide) ?_
    refine lv_isub hx hb dL_law_22 ?_
    refine lv_icmp_gt (tgt := 463) hx hb dL_law_23 (by decide) (fun c23 => ?_) (fun c23 => ?_)
    · skip
      refine lv_iconst (v := 1) hx hb dL_law_463 (by decide) ?_
      refine va_forget (fun q hq => IX.2.2.2.2.2 q hq) ?_
      refine W.widen (k := 600000) (n := 7290000) (by decide) (by decide) ?_
      exact lw_ret hx hb hr hlocks dL_law_464
    · skip
      have h4 := lw_more hL h1 c23
      refine lv_aload_n hx hb dL_law_26 rfl (lv_at hl 1 rfl) ?_
      refine lv_iload_n hx hb dL_law_27 rfl (lv_at hl 0 rfl) ?_
      refine lw_sld hx hb hX hbl hbA IX.2.2.2 hL i rfl (by omega) dL_law_28 ?_
      refine lv_bipush (v := 15) hx hb dL_law_29 (by decide) ?_
      refine lv_iand hx hb dL_law_31 ?_
      obtain ⟨k, hk, ek⟩ := pk_andE (xs i) (m := 15) 4 (by decide)
      rw [ek]
      rcases (show k = 0 ∨ k = 1 ∨ k = 2 ∨ k = 3 ∨ k = 4 ∨ k = 5 ∨ k = 6 ∨ k = 7 ∨ k = 8 ∨ k = 9 ∨ k = 10 ∨ k = 11 ∨ k = 12 ∨ k = 13 ∨ k = 14 ∨ k = 15 by omega) with rfl | rfl | rfl | rfl | rfl | rfl | rfl | rfl | rfl | rfl | rfl | rfl | rfl | rfl | rfl | rfl
      · skip
        refine lv_tableIn (off := 68) (tgt := 100) hx hb dL_law_32 (by decide) (by decide) rfl (by decide) ?_
        refine lv_aload_n hx hb dL_law_100 rfl (lv_at hl 2 rfl) ?_
        refine lv_aload_n hx hb dL_law_101 rfl (lv_at hl 1 rfl) ?_
        refine lv_iload_n hx hb dL_law_102 rfl (lv_at hl 0 rfl) ?_
        refine lv_iconst (v := 1) hx hb dL_law_103 (by decide) ?_
        refine lv_iadd hx hb dL_law_104 ?_
        refine lw_sld hx hb hX hbl hbA IX.2.2.2 hL (i + 1) (nI_add i 1) (by omega) dL_law_105 ?_
        refine ig_calli (h := qx) (As := [.int (xs (i + 1))]) (rest := []) (C := RX0) (T := TX0) (N := 17) (ci := 0) (fs := FX a S) C0 hA IX (metX0_create l D qx a d S oS (xs (i + 1))) rfl rfl (lw_V q86 q87 q88 q22 q89) 1 (by decide +kernel) rfl rfl ⟨by decide, by decide⟩ ⟨by decide, by decide⟩ rfl hl.1 (Nat.le_of_ble_eq_true rfl) dL_law_106 rfl (fun r1 S1 H locs hp1 IX hk1 => ?_)
        have IM := ig_keep IM IX.2.2.2 hk1 (hdis S M)
        refine lv_aload_n hx hb dL_law_109 rfl (lv_at hl 3 rfl) ?_
        refine lv_aload_n hx hb dL_law_110 rfl (lv_at hl 1 rfl) ?_
        refine lv_iload_n hx hb dL_law_111 rfl (lv_at hl 0 rfl) ?_
        refine lv_iconst (v := 1) hx hb dL_law_112 (by decide) ?_
        refine lv_iadd hx hb dL_law_113 ?_
        refine lw_sld hx hb hX hbl hbA IX.2.2.2 hL (i + 1) (nI_add i 1) (by omega) dL_law_114 ?_
        refine ig_calli (h := qm) (As := [.int (xs (i + 1))]) (rest := [.int r1]) (C := RX1) (T := TX1) (N := 9) (ci := 1) (fs := FM a2 M) C0 hA IM (metX1_create l D qm a2 d2 M (xs (i + 1))) rfl rfl (lw_V q227 q228 q229 q23 q230) 1 (by decide +kernel) rfl rfl ⟨by decide, by decide⟩ ⟨by decide, by decide⟩ rfl hl.1 (Nat.le_of_ble_eq_true rfl) dL_law_115 rfl (fun r2 M1 H locs hp2 IM hk2 => ?_)
        have IX := ig_keep IX IM.2.2.2 hk2 (fun i j x y h1 h2 => (hdis S1 M j i y x h2 h1).symm)
        refine lv_icmp_eq (tgt := 457) hx hb dL_law_118 (by decide) (fun c9 => ?_) (fun c9 => ?_)
        · skip
          have HR1 := (op_create HR hp1 hp2).2
          refine lv_iinc (v := nI (i + 4)) (lv' := [(3, .int (nI (i + 4))), (0, .ref b), (1, .ref qx), (2, .ref qm)]) hx hb dL_law_457 hl (k := 0) rfl (nI_add i 4) (by decide) rfl (fun ls hl => ?_)
          refine lv_goto (tgt := 18) hx hb dL_law_460 (by decide) ?_
          exact ih (i + 4) L S1 M1 (by omega) (by omega) HR1 _ _ _ IX IM (lv_sub hl [0, 1, 2, 3] rfl)
        · skip
          exact absurd (op_create HR hp1 hp2).1 c9
      · skip
        refine lv_tableIn (off := 91) (tgt := 123) hx hb dL_law_32 (by decide) (by decide) rfl (by decide) ?_
        refine lv_aload_n hx hb dL_law_123 rfl (lv_at hl 2 rfl) ?_
        refine lv_aload_n hx hb dL_law_124 rfl (lv_at hl 1 rfl) ?_
        refine lv_iload_n hx hb dL_law_125 rfl (lv_at hl 0 rfl) ?_
        refine lv_iconst (v := 1) hx hb dL_law_126 (by decide) ?_
        refine lv_iadd hx hb dL_law_127 ?_
        refine lw_sld hx hb hX hbl hbA IX.2.2.2 hL (i + 1) (nI_add i 1) (by omega) dL_law_128 ?_
        refine lv_aload_n hx hb dL_law_129 rfl (lv_at hl 1 rfl) ?_
        refine lv_iload_n hx hb dL_law_130 rfl (lv_at hl 0 rfl) ?_
        refine lv_iconst (v := 2) hx hb dL_law_131 (by decide) ?_
        refine lv_iadd hx hb dL_law_132 ?_
        refine lw_sld hx hb hX hbl hbA IX.2.2.2 hL (i + 2) (nI_add i 2) (by omega) dL_law_133 ?_
        refine ig_calli (h := qx) (As := [.int (xs (i + 1)), .int (xs (i + 2))]) (rest := []) (C := RX0) (T := TX0) (N := 17) (ci := 0) (fs := FX a S) C0 hA IX (metX0_must l D qx a d S oS (xs (i + 1)) (xs (i + 2))) rfl rfl (lw_V q106 q107 q108 q22 q109) 2 (by decide +kernel) rfl rfl ⟨by decide, by decide⟩ ⟨by decide, by decide⟩ rfl hl.1 (Nat.le_of_ble_eq_true rfl) dL_law_134 rfl (fun r1 S1 H locs hp1 IX hk1 => ?_)
        have IM := ig_keep IM IX.2.2.2 hk1 (hdis S M)
        refine lv_aload_n hx hb dL_law_137 rfl (lv_at hl 3 rfl) ?_
        refine lv_aload_n hx hb dL_law_138 rfl (lv_at hl 1 rfl) ?_
        refine lv_iload_n hx hb dL_law_139 rfl (lv_at hl 0 rfl) ?_
        refine lv_iconst (v := 1) hx hb dL_law_140 (by decide) ?_
        refine lv_iadd hx hb dL_law_141 ?_
        refine lw_sld hx hb hX hbl hbA IX.2.2.2 hL (i + 1) (nI_add i 1) (by omega) dL_law_142 ?_
        refine lv_aload_n hx hb dL_law_143 rfl (lv_at hl 1 rfl) ?_
        refine lv_iload_n hx hb dL_law_144 rfl (lv_at hl 0 rfl) ?_
        refine lv_iconst (v := 2) hx hb dL_law_145 (by decide) ?_
        refine lv_iadd hx hb dL_law_146 ?_
        refine lw_sld hx hb hX hbl hbA IX.2.2.2 hL (i + 2) (nI_add i 2) (by omega) dL_law_147 ?_
        refine ig_calli (h := qm) (As := [.int (xs (i + 1)), .int (xs (i + 2))]) (rest := [.int r1]) (C := RX1) (T := TX1) (N := 9) (ci := 1) (fs := FM a2 M) C0 hA IM (metX1_must l D qm a2 d2 M oM (xs (i + 1)) (xs (i + 2))) rfl rfl (lw_V q231 q232 q233 q23 q234) 2 (by decide +kernel) rfl rfl ⟨by decide, by decide⟩ ⟨by decide, by decide⟩ rfl hl.1 (Nat.le_of_ble_eq_true rfl) dL_law_148 rfl (fun r2 M1 H locs hp2 IM hk2 => ?_)
        have IX := ig_keep IX IM.2.2.2 hk2 (fun i j x y h1 h2 => (hdis S1 M j i y x h2 h1).symm)
        refine lv_icmp_eq (tgt := 457) hx hb dL_law_151 (by decide) (fun c9 => ?_) (fun c9 => ?_)
        · skip
          have HR1 := (op_term HR ⟨0, by omega, rfl⟩ hp1 hp2).2
          refine lv_iinc (v := nI (i + 4)) (lv' := [(3, .int (nI (i + 4))), (0, .ref b), (1, .ref qx), (2, .ref qm)]) hx hb dL_law_457 hl (k := 0) rfl (nI_add i 4) (by decide) rfl (fun ls hl => ?_)
          refine lv_goto (tgt := 18) hx hb dL_law_460 (by decide) ?_
          exact ih (i + 4) L S1 M1 (by omega) (by omega) HR1 _ _ _ IX IM (lv_sub hl [0, 1, 2, 3] rfl)
        · skip
          exact absurd (op_term HR ⟨0, by omega, rfl⟩ hp1 hp2).1 c9
      · skip
        refine lv_tableIn (off := 124) (tgt := 156) hx hb dL_law_32 (by decide) (by decide) rfl (by decide) ?_
        refine lv_aload_n hx hb dL_law_156 rfl (lv_at hl 2 rfl) ?_
        refine lv_aload_n hx hb dL_law_157 rfl (lv_at hl 1 rfl) ?_
        refine lv_iload_n hx hb dL_law_158 rfl (lv_at hl 0 rfl) ?_
        refine lv_iconst (v := 1) hx hb dL_law_159 (by decide) ?_
        refine lv_iadd hx hb dL_law_160 ?_
        refine lw_sld hx hb hX hbl hbA IX.2.2.2 hL (i + 1) (nI_add i 1) (by omega) dL_law_161 ?_
        refine lv_aload_n hx hb dL_law_162 rfl (lv_at hl 1 rfl) ?_
        refine lv_iload_n hx hb dL_law_163 rfl (lv_at hl 0 rfl) ?_
        refine lv_iconst (v := 2) hx hb dL_law_164 (by decide) ?_
        refine lv_iadd hx hb dL_law_165 ?_
        refine lw_sld hx hb hX hbl hbA IX.2.2.2 hL (i + 2) (nI_add i 2) (by omega) dL_law_166 ?_
        refine ig_calli (h := qx) (As := [.int (xs (i + 1)), .int (xs (i + 2))]) (rest := []) (C := RX0) (T := TX0) (N := 17) (ci := 0) (fs := FX a S) C0 hA IX (metX0_not l D qx a d S oS (xs (i + 1)) (xs (i + 2))) rfl rfl (lw_V q129 q130 q131 q22 q132) 2 (by decide +kernel) rfl rfl ⟨by decide, by decide⟩ ⟨by decide, by decide⟩ rfl hl.1 (Nat.le_of_ble_eq_true rfl) dL_law_167 rfl (fun r1 S1 H locs hp1 IX hk1 => ?_)
        have IM := ig_keep IM IX.2.2.2 hk1 (hdis S M)
        refine lv_aload_n hx hb dL_law_170 rfl (lv_at hl 3 rfl) ?_
        refine lv_aload_n hx hb dL_law_171 rfl (lv_at hl 1 rfl) ?_
        refine lv_iload_n hx hb dL_law_172 rfl (lv_at hl 0 rfl) ?_
        refine lv_iconst (v := 1) hx hb dL_law_173 (by decide) ?_
        refine lv_iadd hx hb dL_law_174 ?_
        refine lw_sld hx hb hX hbl hbA IX.2.2.2 hL (i + 1) (nI_add i 1) (by omega) dL_law_175 ?_
        refine lv_aload_n hx hb dL_law_176 rfl (lv_at hl 1 rfl) ?_
        refine lv_iload_n hx hb dL_law_177 rfl (lv_at hl 0 rfl) ?_
        refine lv_iconst (v := 2) hx hb dL_law_178 (by decide) ?_
        refine lv_iadd hx hb dL_law_179 ?_
        refine lw_sld hx hb hX hbl hbA IX.2.2.2 hL (i + 2) (nI_add i 2) (by omega) dL_law_180 ?_
        refine ig_calli (h := qm) (As := [.int (xs (i + 1)), .int (xs (i + 2))]) (rest := [.int r1]) (C := RX1) (T := TX1) (N := 9) (ci := 1) (fs := FM a2 M) C0 hA IM (metX1_not l D qm a2 d2 M oM (xs (i + 1)) (xs (i + 2))) rfl rfl (lw_V q247 q248 q249 q23 q250) 2 (by decide +kernel) rfl rfl ⟨by decide, by decide⟩ ⟨by decide, by decide⟩ rfl hl.1 (Nat.le_of_ble_eq_true rfl) dL_law_181 rfl (fun r2 M1 H locs hp2 IM hk2 => ?_)
        have IX := ig_keep IX IM.2.2.2 hk2 (fun i j x y h1 h2 => (hdis S1 M j i y x h2 h1).symm)
        refine lv_icmp_eq (tgt := 457) hx hb dL_law_184 (by decide) (fun c9 => ?_) (fun c9 => ?_)
        · skip
          have HR1 := (op_term HR ⟨1, by omega, rfl⟩ hp1 hp2).2
          refine lv_iinc (v := nI (i + 4)) (lv' := [(3, .int (nI (i + 4))), (0, .ref b), (1, .ref qx), (2, .ref qm)]) hx hb dL_law_457 hl (k := 0) rfl (nI_add i 4) (by decide) rfl (fun ls hl => ?_)
          refine lv_goto (tgt := 18) hx hb dL_law_460 (by decide) ?_
          exact ih (i + 4) L S1 M1 (by omega) (by omega) HR1 _ _ _ IX IM (lv_sub hl [0, 1, 2, 3] rfl)
        · skip
          exact absurd (op_term HR ⟨1, by omega, rfl⟩ hp1 hp2).1 c9
      · skip
        refine lv_tableIn (off := 157) (tgt := 189) hx hb dL_law_32 (by decide) (by decide) rfl (by decide) ?_
        refine lv_aload_n hx hb dL_law_189 rfl (lv_at hl 2 rfl) ?_
        refine lv_aload_n hx hb dL_law_190 rfl (lv_at hl 1 rfl) ?_
        refine lv_iload_n hx hb dL_law_191 rfl (lv_at hl 0 rfl) ?_
        refine lv_iconst (v := 1) hx hb dL_law_192 (by decide) ?_
        refine lv_iadd hx hb dL_law_193 ?_
        refine lw_sld hx hb hX hbl hbA IX.2.2.2 hL (i + 1) (nI_add i 1) (by omega) dL_law_194 ?_
        refine lv_aload_n hx hb dL_law_195 rfl (lv_at hl 1 rfl) ?_
        refine lv_iload_n hx hb dL_law_196 rfl (lv_at hl 0 rfl) ?_
        refine lv_iconst (v := 2) hx hb dL_law_197 (by decide) ?_
        refine lv_iadd hx hb dL_law_198 ?_
        refine lw_sld hx hb hX hbl hbA IX.2.2.2 hL (i + 2) (nI_add i 2) (by omega) dL_law_199 ?_
        refine ig_calli (h := qx) (As := [.int (xs (i + 1)), .int (xs (i + 2))]) (rest := []) (C := RX0) (T := TX0) (N := 17) (ci := 0) (fs := FX a S) C0 hA IX (metX0_should l D qx a d S oS (xs (i + 1)) (xs (i + 2))) rfl rfl (lw_V q133 q134 q135 q22 q136) 2 (by decide +kernel) rfl rfl ⟨by decide, by decide⟩ ⟨by decide, by decide⟩ rfl hl.1 (Nat.le_of_ble_eq_true rfl) dL_law_200 rfl (fun r1 S1 H locs hp1 IX hk1 => ?_)
        have IM := ig_keep IM IX.2.2.2 hk1 (hdis S M)
        refine lv_aload_n hx hb dL_law_203 rfl (lv_at hl 3 rfl) ?_
        refine lv_aload_n hx hb dL_law_204 rfl (lv_at hl 1 rfl) ?_
        refine lv_iload_n hx hb dL_law_205 rfl (lv_at hl 0 rfl) ?_
        refine lv_iconst (v := 1) hx hb dL_law_206 (by decide) ?_
        refine lv_iadd hx hb dL_law_207 ?_
        refine lw_sld hx hb hX hbl hbA IX.2.2.2 hL (i + 1) (nI_add i 1) (by omega) dL_law_208 ?_
        refine lv_aload_n hx hb dL_law_209 rfl (lv_at hl 1 rfl) ?_
        refine lv_iload_n hx hb dL_law_210 rfl (lv_at hl 0 rfl) ?_
        refine lv_iconst (v := 2) hx hb dL_law_211 (by decide) ?_
        refine lv_iadd hx hb dL_law_212 ?_
        refine lw_sld hx hb hX hbl hbA IX.2.2.2 hL (i + 2) (nI_add i 2) (by omega) dL_law_213 ?_
        refine ig_calli (h := qm) (As := [.int (xs (i + 1)), .int (xs (i + 2))]) (rest := [.int r1]) (C := RX1) (T := TX1) (N := 9) (ci := 1) (fs := FM a2 M) C0 hA IM (metX1_should l D qm a2 d2 M oM (xs (i + 1)) (xs (i + 2))) rfl rfl (lw_V q251 q252 q253 q23 q254) 2 (by decide +kernel) rfl rfl ⟨by decide, by decide⟩ ⟨by decide, by decide⟩ rfl hl.1 (Nat.le_of_ble_eq_true rfl) dL_law_214 rfl (fun r2 M1 H locs hp2 IM hk2 => ?_)
        have IX := ig_keep IX IM.2.2.2 hk2 (fun i j x y h1 h2 => (hdis S1 M j i y x h2 h1).symm)
        refine lv_icmp_eq (tgt := 457) hx hb dL_law_217 (by decide) (fun c9 => ?_) (fun c9 => ?_)
        · skip
          have HR1 := (op_term HR ⟨2, by omega, rfl⟩ hp1 hp2).2
          refine lv_iinc (v := nI (i + 4)) (lv' := [(3, .int (nI (i + 4))), (0, .ref b), (1, .ref qx), (2, .ref qm)]) hx hb dL_law_457 hl (k := 0) rfl (nI_add i 4) (by decide) rfl (fun ls hl => ?_)
          refine lv_goto (tgt := 18) hx hb dL_law_460 (by decide) ?_
          exact ih (i + 4) L S1 M1 (by omega) (by omega) HR1 _ _ _ IX IM (lv_sub hl [0, 1, 2, 3] rfl)
        · skip
          exact absurd (op_term HR ⟨2, by omega, rfl⟩ hp1 hp2).1 c9
      · skip
        refine lv_tableIn (off := 190) (tgt := 222) hx hb dL_law_32 (by decide) (by decide) rfl (by decide) ?_
        refine lv_aload_n hx hb dL_law_222 rfl (lv_at hl 2 rfl) ?_
        refine lv_aload_n hx hb dL_law_223 rfl (lv_at hl 1 rfl) ?_
        refine lv_iload_n hx hb dL_law_224 rfl (lv_at hl 0 rfl) ?_
        refine lv_iconst (v := 1) hx hb dL_law_225 (by decide) ?_
        refine lv_iadd hx hb dL_law_226 ?_
        refine lw_sld hx hb hX hbl hbA IX.2.2.2 hL (i + 1) (nI_add i 1) (by omega) dL_law_227 ?_
        refine lv_aload_n hx hb dL_law_228 rfl (lv_at hl 1 rfl) ?_
        refine lv_iload_n hx hb dL_law_229 rfl (lv_at hl 0 rfl) ?_
        refine lv_iconst (v := 2) hx hb dL_law_230 (by decide) ?_
        refine lv_iadd hx hb dL_law_231 ?_
        refine lw_sld hx hb hX hbl hbA IX.2.2.2 hL (i + 2) (nI_add i 2) (by omega) dL_law_232 ?_
        refine lv_aload_n hx hb dL_law_233 rfl (lv_at hl 1 rfl) ?_
        refine lv_iload_n hx hb dL_law_234 rfl (lv_at hl 0 rfl) ?_
        refine lv_iconst (v := 3) hx hb dL_law_235 (by decide) ?_
        refine lv_iadd hx hb dL_law_236 ?_
        refine lw_sld hx hb hX hbl hbA IX.2.2.2 hL (i + 3) (nI_add i 3) (by omega) dL_law_237 ?_
        refine ig_calli (h := qx) (As := [.int (xs (i + 1)), .int (xs (i + 2)), .int (xs (i + 3))]) (rest := []) (C := RX0) (T := TX0) (N := 17) (ci := 0) (fs := FX a S) C0 hA IX (metX0_phrase l D qx a d S oS (xs (i + 1)) (xs (i + 2)) (xs (i + 3))) rfl rfl (lw_V q137 q138 q139 q22 q140) 3 (by decide +kernel) rfl rfl ⟨by decide, by decide⟩ ⟨by decide, by decide⟩ rfl hl.1 (Nat.le_of_ble_eq_true rfl) dL_law_238 rfl (fun r1 S1 H locs hp1 IX hk1 => ?_)
        have IM := ig_keep IM IX.2.2.2 hk1 (hdis S M)
        refine lv_aload_n hx hb dL_law_241 rfl (lv_at hl 3 rfl) ?_
        refine lv_aload_n hx hb dL_law_242 rfl (lv_at hl 1 rfl) ?_
        refine lv_iload_n hx hb dL_law_243 rfl (lv_at hl 0 rfl) ?_
        refine lv_iconst (v := 1) hx hb dL_law_244 (by decide) ?_
        refine lv_iadd hx hb dL_law_245 ?_
        refine lw_sld hx hb hX hbl hbA IX.2.2.2 hL (i + 1) (nI_add i 1) (by omega) dL_law_246 ?_
        refine lv_aload_n hx hb dL_law_247 rfl (lv_at hl 1 rfl) ?_
        refine lv_iload_n hx hb dL_law_248 rfl (lv_at hl 0 rfl) ?_
        refine lv_iconst (v := 2) hx hb dL_law_249 (by decide) ?_
        refine lv_iadd hx hb dL_law_250 ?_
        refine lw_sld hx hb hX hbl hbA IX.2.2.2 hL (i + 2) (nI_add i 2) (by omega) dL_law_251 ?_
        refine lv_aload_n hx hb dL_law_252 rfl (lv_at hl 1 rfl) ?_
        refine lv_iload_n hx hb dL_law_253 rfl (lv_at hl 0 rfl) ?_
        refine lv_iconst (v := 3) hx hb dL_law_254 (by decide) ?_
        refine lv_iadd hx hb dL_law_255 ?_
        refine lw_sld hx hb hX hbl hbA IX.2.2.2 hL (i + 3) (nI_add i 3) (by omega) dL_law_256 ?_
        refine ig_calli (h := qm) (As := [.int (xs (i + 1)), .int (xs (i + 2)), .int (xs (i + 3))]) (rest := [.int r1]) (C := RX1) (T := TX1) (N := 9) (ci := 1) (fs := FM a2 M) C0 hA IM (metX1_phrase l D qm a2 d2 M oM (xs (i + 1)) (xs (i + 2)) (xs (i + 3))) rfl rfl (lw_V q255 q256 q257 q23 q258) 3 (by decide +kernel) rfl rfl ⟨by decide, by decide⟩ ⟨by decide, by decide⟩ rfl hl.1 (Nat.le_of_ble_eq_true rfl) dL_law_257 rfl (fun r2 M1 H locs hp2 IM hk2 => ?_)
        have IX := ig_keep IX IM.2.2.2 hk2 (fun i j x y h1 h2 => (hdis S1 M j i y x h2 h1).symm)
        refine lv_icmp_eq (tgt := 457) hx hb dL_law_260 (by decide) (fun c9 => ?_) (fun c9 => ?_)
        · skip
          have HR1 := (op_phrase HR hp1 hp2).2
          refine lv_iinc (v := nI (i + 4)) (lv' := [(3, .int (nI (i + 4))), (0, .ref b), (1, .ref qx), (2, .ref qm)]) hx hb dL_law_457 hl (k := 0) rfl (nI_add i 4) (by decide) rfl (fun ls hl => ?_)
          refine lv_goto (tgt := 18) hx hb dL_law_460 (by decide) ?_
          exact ih (i + 4) L S1 M1 (by omega) (by omega) HR1 _ _ _ IX IM (lv_sub hl [0, 1, 2, 3] rfl)
        · skip
          exact absurd (op_phrase HR hp1 hp2).1 c9
      · skip
        refine lv_tableIn (off := 233) (tgt := 265) hx hb dL_law_32 (by decide) (by decide) rfl (by decide) ?_
        refine lv_aload_n hx hb dL_law_265 rfl (lv_at hl 2 rfl) ?_
        refine lv_aload_n hx hb dL_law_266 rfl (lv_at hl 1 rfl) ?_
        refine lv_iload_n hx hb dL_law_267 rfl (lv_at hl 0 rfl) ?_
        refine lv_iconst (v := 1) hx hb dL_law_268 (by decide) ?_
        refine lv_iadd hx hb dL_law_269 ?_
        refine lw_sld hx hb hX hbl hbA IX.2.2.2 hL (i + 1) (nI_add i 1) (by omega) dL_law_270 ?_
        refine lv_aload_n hx hb dL_law_271 rfl (lv_at hl 1 rfl) ?_
        refine lv_iload_n hx hb dL_law_272 rfl (lv_at hl 0 rfl) ?_
        refine lv_iconst (v := 2) hx hb dL_law_273 (by decide) ?_
        refine lv_iadd hx hb dL_law_274 ?_
        refine lw_sld hx hb hX hbl hbA IX.2.2.2 hL (i + 2) (nI_add i 2) (by omega) dL_law_275 ?_
        refine lv_aload_n hx hb dL_law_276 rfl (lv_at hl 1 rfl) ?_
        refine lv_iload_n hx hb dL_law_277 rfl (lv_at hl 0 rfl) ?_
        refine lv_iconst (v := 3) hx hb dL_law_278 (by decide) ?_
        refine lv_iadd hx hb dL_law_279 ?_
        refine lw_sld hx hb hX hbl hbA IX.2.2.2 hL (i + 3) (nI_add i 3) (by omega) dL_law_280 ?_
        refine ig_calli (h := qx) (As := [.int (xs (i + 1)), .int (xs (i + 2)), .int (xs (i + 3))]) (rest := []) (C := RX0) (T := TX0) (N := 17) (ci := 0) (fs := FX a S) C0 hA IX (metX0_range l D qx a d S oS (xs (i + 1)) (xs (i + 2)) (xs (i + 3))) rfl rfl (lw_V q141 q142 q143 q22 q144) 3 (by decide +kernel) rfl rfl ⟨by decide, by decide⟩ ⟨by decide, by decide⟩ rfl hl.1 (Nat.le_of_ble_eq_true rfl) dL_law_281 rfl (fun r1 S1 H locs hp1 IX hk1 => ?_)
        have IM := ig_keep IM IX.2.2.2 hk1 (hdis S M)
        refine lv_aload_n hx hb dL_law_284 rfl (lv_at hl 3 rfl) ?_
        refine lv_aload_n hx hb dL_law_285 rfl (lv_at hl 1 rfl) ?_
        refine lv_iload_n hx hb dL_law_286 rfl (lv_at hl 0 rfl) ?_
        refine lv_iconst (v := 1) hx hb dL_law_287 (by decide) ?_
        refine lv_iadd hx hb dL_law_288 ?_
        refine lw_sld hx hb hX hbl hbA IX.2.2.2 hL (i + 1) (nI_add i 1) (by omega) dL_law_289 ?_
        refine lv_aload_n hx hb dL_law_290 rfl (lv_at hl 1 rfl) ?_
        refine lv_iload_n hx hb dL_law_291 rfl (lv_at hl 0 rfl) ?_
        refine lv_iconst (v := 2) hx hb dL_law_292 (by decide) ?_
        refine lv_iadd hx hb dL_law_293 ?_
        refine lw_sld hx hb hX hbl hbA IX.2.2.2 hL (i + 2) (nI_add i 2) (by omega) dL_law_294 ?_
        refine lv_aload_n hx hb dL_law_295 rfl (lv_at hl 1 rfl) ?_
        refine lv_iload_n hx hb dL_law_296 rfl (lv_at hl 0 rfl) ?_
        refine lv_iconst (v := 3) hx hb dL_law_297 (by decide) ?_
        refine lv_iadd hx hb dL_law_298 ?_
        refine lw_sld hx hb hX hbl hbA IX.2.2.2 hL (i + 3) (nI_add i 3) (by omega) dL_law_299 ?_
        refine ig_calli (h := qm) (As := [.int (xs (i + 1)), .int (xs (i + 2)), .int (xs (i + 3))]) (rest := [.int r1]) (C := RX1) (T := TX1) (N := 9) (ci := 1) (fs := FM a2 M) C0 hA IM (metX1_range l D qm a2 d2 M oM (xs (i + 1)) (xs (i + 2)) (xs (i + 3))) rfl rfl (lw_V q259 q260 q261 q23 q262) 3 (by decide +kernel) rfl rfl ⟨by decide, by decide⟩ ⟨by decide, by decide⟩ rfl hl.1 (Nat.le_of_ble_eq_true rfl) dL_law_300 rfl (fun r2 M1 H locs hp2 IM hk2 => ?_)
        have IX := ig_keep IX IM.2.2.2 hk2 (fun i j x y h1 h2 => (hdis S1 M j i y x h2 h1).symm)
        refine lv_icmp_eq (tgt := 457) hx hb dL_law_303 (by decide) (fun c9 => ?_) (fun c9 => ?_)
        · skip
          have HR1 := (op_range HR hp1 hp2).2
          refine lv_iinc (v := nI (i + 4)) (lv' := [(3, .int (nI (i + 4))), (0, .ref b), (1, .ref qx), (2, .ref qm)]) hx hb dL_law_457 hl (k := 0) rfl (nI_add i 4) (by decide) rfl (fun ls hl => ?_)
          refine lv_goto (tgt := 18) hx hb dL_law_460 (by decide) ?_
          exact ih (i + 4) L S1 M1 (by omega) (by omega) HR1 _ _ _ IX IM (lv_sub hl [0, 1, 2, 3] rfl)
        · skip
          exact absurd (op_range HR hp1 hp2).1 c9
      · skip
        refine lv_tableIn (off := 276) (tgt := 308) hx hb dL_law_32 (by decide) (by decide) rfl (by decide) ?_
        refine lv_aload_n hx hb dL_law_308 rfl (lv_at hl 2 rfl) ?_
        refine lv_aload_n hx hb dL_law_309 rfl (lv_at hl 1 rfl) ?_
        refine lv_iload_n hx hb dL_law_310 rfl (lv_at hl 0 rfl) ?_
        refine lv_iconst (v := 1) hx hb dL_law_311 (by decide) ?_
        refine lv_iadd hx hb dL_law_312 ?_
        refine lw_sld hx hb hX hbl hbA IX.2.2.2 hL (i + 1) (nI_add i 1) (by omega) dL_law_313 ?_
        refine ig_calli (h := qx) (As := [.int (xs (i + 1))]) (rest := []) (C := RX0) (T := TX0) (N := 17) (ci := 0) (fs := FX a S) C0 hA IX (metX0_remove l D qx a d S oS (xs (i + 1))) rfl rfl (lw_V q145 q146 q147 q22 q148) 1 (by decide +kernel) rfl rfl ⟨by decide, by decide⟩ ⟨by decide, by decide⟩ rfl hl.1 (Nat.le_of_ble_eq_true rfl) dL_law_314 rfl (fun r1 S1 H locs hp1 IX hk1 => ?_)
        have IM := ig_keep IM IX.2.2.2 hk1 (hdis S M)
        refine lv_aload_n hx hb dL_law_317 rfl (lv_at hl 3 rfl) ?_
        refine lv_aload_n hx hb dL_law_318 rfl (lv_at hl 1 rfl) ?_
        refine lv_iload_n hx hb dL_law_319 rfl (lv_at hl 0 rfl) ?_
        refine lv_iconst (v := 1) hx hb dL_law_320 (by decide) ?_
        refine lv_iadd hx hb dL_law_321 ?_
        refine lw_sld hx hb hX hbl hbA IX.2.2.2 hL (i + 1) (nI_add i 1) (by omega) dL_law_322 ?_
        refine ig_calli (h := qm) (As := [.int (xs (i + 1))]) (rest := [.int r1]) (C := RX1) (T := TX1) (N := 9) (ci := 1) (fs := FM a2 M) C0 hA IM (metX1_remove l D qm a2 d2 M (xs (i + 1))) rfl rfl (lw_V q263 q264 q265 q23 q266) 1 (by decide +kernel) rfl rfl ⟨by decide, by decide⟩ ⟨by decide, by decide⟩ rfl hl.1 (Nat.le_of_ble_eq_true rfl) dL_law_323 rfl (fun r2 M1 H locs hp2 IM hk2 => ?_)
        have IX := ig_keep IX IM.2.2.2 hk2 (fun i j x y h1 h2 => (hdis S1 M j i y x h2 h1).symm)
        refine lv_icmp_eq (tgt := 457) hx hb dL_law_326 (by decide) (fun c9 => ?_) (fun c9 => ?_)
        · skip
          have HR1 := (op_remove HR hp1 hp2).2
          refine lv_iinc (v := nI (i + 4)) (lv' := [(3, .int (nI (i + 4))), (0, .ref b), (1, .ref qx), (2, .ref qm)]) hx hb dL_law_457 hl (k := 0) rfl (nI_add i 4) (by decide) rfl (fun ls hl => ?_)
          refine lv_goto (tgt := 18) hx hb dL_law_460 (by decide) ?_
          exact ih (i + 4) L S1 M1 (by omega) (by omega) HR1 _ _ _ IX IM (lv_sub hl [0, 1, 2, 3] rfl)
        · skip
          exact absurd (op_remove HR hp1 hp2).1 c9
      · skip
        refine lv_tableIn (off := 299) (tgt := 331) hx hb dL_law_32 (by decide) (by decide) rfl (by decide) ?_
        refine lv_aload_n hx hb dL_law_331 rfl (lv_at hl 2 rfl) ?_
        refine lv_aload_n hx hb dL_law_332 rfl (lv_at hl 1 rfl) ?_
        refine lv_iload_n hx hb dL_law_333 rfl (lv_at hl 0 rfl) ?_
        refine lv_iconst (v := 1) hx hb dL_law_334 (by decide) ?_
        refine lv_iadd hx hb dL_law_335 ?_
        refine lw_sld hx hb hX hbl hbA IX.2.2.2 hL (i + 1) (nI_add i 1) (by omega) dL_law_336 ?_
        refine ig_calli (h := qx) (As := [.int (xs (i + 1))]) (rest := []) (C := RX0) (T := TX0) (N := 17) (ci := 0) (fs := FX a S) C0 hA IX (metX0_word l D qx a d S L dL dS (rel_lw HR) (xs (i + 1))) rfl rfl (lw_V q149 q150 q151 q22 q152) 1 (by decide +kernel) rfl rfl ⟨by decide, by decide⟩ ⟨by decide, by decide⟩ rfl hl.1 (Nat.le_of_ble_eq_true rfl) dL_law_337 rfl (fun r1 S1 H locs hp1 IX hk1 => ?_)
        have IM := ig_keep IM IX.2.2.2 hk1 (hdis S M)
        refine lv_aload_n hx hb dL_law_340 rfl (lv_at hl 3 rfl) ?_
        refine lv_aload_n hx hb dL_law_341 rfl (lv_at hl 1 rfl) ?_
        refine lv_iload_n hx hb dL_law_342 rfl (lv_at hl 0 rfl) ?_
        refine lv_iconst (v := 1) hx hb dL_law_343 (by decide) ?_
        refine lv_iadd hx hb dL_law_344 ?_
        refine lw_sld hx hb hX hbl hbA IX.2.2.2 hL (i + 1) (nI_add i 1) (by omega) dL_law_345 ?_
        refine ig_calli (h := qm) (As := [.int (xs (i + 1))]) (rest := [.int r1]) (C := RX1) (T := TX1) (N := 9) (ci := 1) (fs := FM a2 M) C0 hA IM (metX1_word l D qm a2 d2 M L dL dM (xs (i + 1))) rfl rfl (lw_V q267 q268 q269 q23 q270) 1 (by decide +kernel) rfl rfl ⟨by decide, by decide⟩ ⟨by decide, by decide⟩ rfl hl.1 (Nat.le_of_ble_eq_true rfl) dL_law_346 rfl (fun r2 M1 H locs hp2 IM hk2 => ?_)
        have IX := ig_keep IX IM.2.2.2 hk2 (fun i j x y h1 h2 => (hdis S1 M j i y x h2 h1).symm)
        refine lv_icmp_eq (tgt := 457) hx hb dL_law_349 (by decide) (fun c9 => ?_) (fun c9 => ?_)
        · skip
          obtain ⟨-, L1, HR1⟩ := op_word HR hp1 hp2
          refine lv_iinc (v := nI (i + 4)) (lv' := [(3, .int (nI (i + 4))), (0, .ref b), (1, .ref qx), (2, .ref qm)]) hx hb dL_law_457 hl (k := 0) rfl (nI_add i 4) (by decide) rfl (fun ls hl => ?_)
          refine lv_goto (tgt := 18) hx hb dL_law_460 (by decide) ?_
          exact ih (i + 4) L1 S1 M1 (by omega) (by omega) HR1 _ _ _ IX IM (lv_sub hl [0, 1, 2, 3] rfl)
        · skip
          exact absurd (op_word HR hp1 hp2).1 c9
      · skip
        refine lv_tableIn (off := 322) (tgt := 354) hx hb dL_law_32 (by decide) (by decide) rfl (by decide) ?_
        refine lv_aload_n hx hb dL_law_354 rfl (lv_at hl 2 rfl) ?_
        refine lv_aload_n hx hb dL_law_355 rfl (lv_at hl 1 rfl) ?_
        refine lv_iload_n hx hb dL_law_356 rfl (lv_at hl 0 rfl) ?_
        refine lv_iconst (v := 1) hx hb dL_law_357 (by decide) ?_
        refine lv_iadd hx hb dL_law_358 ?_
        refine lw_sld hx hb hX hbl hbA IX.2.2.2 hL (i + 1) (nI_add i 1) (by omega) dL_law_359 ?_
        refine ig_callv (h := qx) (As := [.int (xs (i + 1))]) (rest := []) (C := RX0) (T := TX0) (N := 17) (ci := 0) (fs := FX a S) C0 hA IX (metX0_document l D qx a d S (xs (i + 1))) rfl rfl (lw_V q153 q154 q155 q22 q156) 1 (by decide +kernel) rfl rfl ⟨by decide, by decide⟩ ⟨by decide, by decide⟩ rfl hl.1 (Nat.le_of_ble_eq_true rfl) dL_law_360 rfl (fun S1 H locs hp1 IX hk1 => ?_)
        have IM := ig_keep IM IX.2.2.2 hk1 (hdis S M)
        refine lv_aload_n hx hb dL_law_363 rfl (lv_at hl 3 rfl) ?_
        refine lv_aload_n hx hb dL_law_364 rfl (lv_at hl 1 rfl) ?_
        refine lv_iload_n hx hb dL_law_365 rfl (lv_at hl 0 rfl) ?_
        refine lv_iconst (v := 1) hx hb dL_law_366 (by decide) ?_
        refine lv_iadd hx hb dL_law_367 ?_
        refine lw_sld hx hb hX hbl hbA IX.2.2.2 hL (i + 1) (nI_add i 1) (by omega) dL_law_368 ?_
        refine ig_callv (h := qm) (As := [.int (xs (i + 1))]) (rest := []) (C := RX1) (T := TX1) (N := 9) (ci := 1) (fs := FM a2 M) C0 hA IM (metX1_document l D qm a2 d2 M (xs (i + 1))) rfl rfl (lw_V q271 q272 q273 q23 q274) 1 (by decide +kernel) rfl rfl ⟨by decide, by decide⟩ ⟨by decide, by decide⟩ rfl hl.1 (Nat.le_of_ble_eq_true rfl) dL_law_369 rfl (fun M1 H locs hp2 IM hk2 => ?_)
        have IX := ig_keep IX IM.2.2.2 hk2 (fun i j x y h1 h2 => (hdis S1 M j i y x h2 h1).symm)
        refine lv_goto (tgt := 457) hx hb dL_law_372 (by decide) ?_
        have HR1 := op_doc HR hp1 hp2
        refine lv_iinc (v := nI (i + 4)) (lv' := [(3, .int (nI (i + 4))), (0, .ref b), (1, .ref qx), (2, .ref qm)]) hx hb dL_law_457 hl (k := 0) rfl (nI_add i 4) (by decide) rfl (fun ls hl => ?_)
        refine lv_goto (tgt := 18) hx hb dL_law_460 (by decide) ?_
        exact ih (i + 4) 0 S1 M1 (by omega) (by omega) HR1 _ _ _ IX IM (lv_sub hl [0, 1, 2, 3] rfl)
      · skip
        refine lv_tableIn (off := 343) (tgt := 375) hx hb dL_law_32 (by decide) (by decide) rfl (by decide) ?_
        refine lv_aload_n hx hb dL_law_375 rfl (lv_at hl 2 rfl) ?_
        refine ig_calli (h := qx) (As := []) (rest := []) (C := RX0) (T := TX0) (N := 17) (ci := 0) (fs := FX a S) C0 hA IX (metX0_matches l D qx a d S oS) rfl rfl (lw_V q157 q158 q159 q22 q160) 0 (by decide +kernel) rfl rfl ⟨by decide, by decide⟩ ⟨by decide, by decide⟩ rfl hl.1 (Nat.le_of_ble_eq_true rfl) dL_law_376 rfl (fun r1 S1 H locs hp1 IX hk1 => ?_)
        have IM := ig_keep IM IX.2.2.2 hk1 (hdis S M)
        refine lv_aload_n hx hb dL_law_379 rfl (lv_at hl 3 rfl) ?_
        refine ig_calli (h := qm) (As := []) (rest := [.int r1]) (C := RX1) (T := TX1) (N := 9) (ci := 1) (fs := FM a2 M) C0 hA IM (metX1_matches l D qm a2 d2 M L dL dM oM) rfl rfl (lw_V q275 q276 q277 q23 q278) 0 (by decide +kernel) rfl rfl ⟨by decide, by decide⟩ ⟨by decide, by decide⟩ rfl hl.1 (Nat.le_of_ble_eq_true rfl) dL_law_380 rfl (fun r2 M1 H locs hp2 IM hk2 => ?_)
        have IX := ig_keep IX IM.2.2.2 hk2 (fun i j x y h1 h2 => (hdis S1 M j i y x h2 h1).symm)
        refine lv_icmp_eq (tgt := 457) hx hb dL_law_383 (by decide) (fun c9 => ?_) (fun c9 => ?_)
        · skip
          have HR1 : Rel S1 M1 L := by rw [hp2.1]; exact (op_matches HR hp1 hp2.2).2
          refine lv_iinc (v := nI (i + 4)) (lv' := [(3, .int (nI (i + 4))), (0, .ref b), (1, .ref qx), (2, .ref qm)]) hx hb dL_law_457 hl (k := 0) rfl (nI_add i 4) (by decide) rfl (fun ls hl => ?_)
          refine lv_goto (tgt := 18) hx hb dL_law_460 (by decide) ?_
          exact ih (i + 4) L S1 M1 (by omega) (by omega) HR1 _ _ _ IX IM (lv_sub hl [0, 1, 2, 3] rfl)
        · skip
          exact absurd (op_matches HR hp1 hp2.2).1 c9
      · skip
        refine lv_tableIn (off := 356) (tgt := 388) hx hb dL_law_32 (by decide) (by decide) rfl (by decide) ?_
        refine lv_aload_n hx hb dL_law_388 rfl (lv_at hl 2 rfl) ?_
        refine lv_aload_n hx hb dL_law_389 rfl (lv_at hl 1 rfl) ?_
        refine lv_iload_n hx hb dL_law_390 rfl (lv_at hl 0 rfl) ?_
        refine lv_iconst (v := 1) hx hb dL_law_391 (by decide) ?_
        refine lv_iadd hx hb dL_law_392 ?_
        refine lw_sld hx hb hX hbl hbA IX.2.2.2 hL (i + 1) (nI_add i 1) (by omega) dL_law_393 ?_
        refine ig_calli (h := qx) (As := [.int (xs (i + 1))]) (rest := []) (C := RX0) (T := TX0) (N := 17) (ci := 0) (fs := FX a S) C0 hA IX (metX0_match l D qx a d S oS (xs (i + 1))) rfl rfl (lw_V q181 q182 q183 q22 q184) 1 (by decide +kernel) rfl rfl ⟨by decide, by decide⟩ ⟨by decide, by decide⟩ rfl hl.1 (Nat.le_of_ble_eq_true rfl) dL_law_394 rfl (fun r1 S1 H locs hp1 IX hk1 => ?_)
        have IM := ig_keep IM IX.2.2.2 hk1 (hdis S M)
        refine lv_aload_n hx hb dL_law_397 rfl (lv_at hl 3 rfl) ?_
        refine lv_aload_n hx hb dL_law_398 rfl (lv_at hl 1 rfl) ?_
        refine lv_iload_n hx hb dL_law_399 rfl (lv_at hl 0 rfl) ?_
        refine lv_iconst (v := 1) hx hb dL_law_400 (by decide) ?_
        refine lv_iadd hx hb dL_law_401 ?_
        refine lw_sld hx hb hX hbl hbA IX.2.2.2 hL (i + 1) (nI_add i 1) (by omega) dL_law_402 ?_
        refine ig_calli (h := qm) (As := [.int (xs (i + 1))]) (rest := [.int r1]) (C := RX1) (T := TX1) (N := 9) (ci := 1) (fs := FM a2 M) C0 hA IM (metX1_match l D qm a2 d2 M L dL dM oM (xs (i + 1))) rfl rfl (lw_V q295 q296 q297 q23 q298) 1 (by decide +kernel) rfl rfl ⟨by decide, by decide⟩ ⟨by decide, by decide⟩ rfl hl.1 (Nat.le_of_ble_eq_true rfl) dL_law_403 rfl (fun r2 M1 H locs hp2 IM hk2 => ?_)
        have IX := ig_keep IX IM.2.2.2 hk2 (fun i j x y h1 h2 => (hdis S1 M j i y x h2 h1).symm)
        refine lv_icmp_eq (tgt := 457) hx hb dL_law_406 (by decide) (fun c9 => ?_) (fun c9 => ?_)
        · skip
          have HR1 : Rel S1 M1 L := by rw [hp2.1]; exact (op_match HR hp1 hp2.2).2
          refine lv_iinc (v := nI (i + 4)) (lv' := [(3, .int (nI (i + 4))), (0, .ref b), (1, .ref qx), (2, .ref qm)]) hx hb dL_law_457 hl (k := 0) rfl (nI_add i 4) (by decide) rfl (fun ls hl => ?_)
          refine lv_goto (tgt := 18) hx hb dL_law_460 (by decide) ?_
          exact ih (i + 4) L S1 M1 (by omega) (by omega) HR1 _ _ _ IX IM (lv_sub hl [0, 1, 2, 3] rfl)
        · skip
          exact absurd (op_match HR hp1 hp2.2).1 c9
      · skip
        refine lv_tableIn (off := 379) (tgt := 411) hx hb dL_law_32 (by decide) (by decide) rfl (by decide) ?_
        refine lv_aload_n hx hb dL_law_411 rfl (lv_at hl 2 rfl) ?_
        refine lv_aload_n hx hb dL_law_412 rfl (lv_at hl 1 rfl) ?_
        refine lv_iload_n hx hb dL_law_413 rfl (lv_at hl 0 rfl) ?_
        refine lv_iconst (v := 1) hx hb dL_law_414 (by decide) ?_
        refine lv_iadd hx hb dL_law_415 ?_
        refine lw_sld hx hb hX hbl hbA IX.2.2.2 hL (i + 1) (nI_add i 1) (by omega) dL_law_416 ?_
        refine ig_calli (h := qx) (As := [.int (xs (i + 1))]) (rest := []) (C := RX0) (T := TX0) (N := 17) (ci := 0) (fs := FX a S) C0 hA IX (metX0_score l D qx a d S oS (xs (i + 1))) rfl rfl (lw_V q185 q186 q187 q22 q188) 1 (by decide +kernel) rfl rfl ⟨by decide, by decide⟩ ⟨by decide, by decide⟩ rfl hl.1 (Nat.le_of_ble_eq_true rfl) dL_law_417 rfl (fun r1 S1 H locs hp1 IX hk1 => ?_)
        have IM := ig_keep IM IX.2.2.2 hk1 (hdis S M)
        refine lv_aload_n hx hb dL_law_420 rfl (lv_at hl 3 rfl) ?_
        refine lv_aload_n hx hb dL_law_421 rfl (lv_at hl 1 rfl) ?_
        refine lv_iload_n hx hb dL_law_422 rfl (lv_at hl 0 rfl) ?_
        refine lv_iconst (v := 1) hx hb dL_law_423 (by decide) ?_
        refine lv_iadd hx hb dL_law_424 ?_
        refine lw_sld hx hb hX hbl hbA IX.2.2.2 hL (i + 1) (nI_add i 1) (by omega) dL_law_425 ?_
        refine ig_calli (h := qm) (As := [.int (xs (i + 1))]) (rest := [.int r1]) (C := RX1) (T := TX1) (N := 9) (ci := 1) (fs := FM a2 M) C0 hA IM (metX1_score l D qm a2 d2 M L dL dM oM (xs (i + 1))) rfl rfl (lw_V q307 q308 q309 q23 q310) 1 (by decide +kernel) rfl rfl ⟨by decide, by decide⟩ ⟨by decide, by decide⟩ rfl hl.1 (Nat.le_of_ble_eq_true rfl) dL_law_426 rfl (fun r2 M1 H locs hp2 IM hk2 => ?_)
        have IX := ig_keep IX IM.2.2.2 hk2 (fun i j x y h1 h2 => (hdis S1 M j i y x h2 h1).symm)
        refine lv_icmp_eq (tgt := 457) hx hb dL_law_429 (by decide) (fun c9 => ?_) (fun c9 => ?_)
        · skip
          have HR1 : Rel S1 M1 L := by rw [hp2.1]; exact (op_score HR hp1 hp2.2).2
          refine lv_iinc (v := nI (i + 4)) (lv' := [(3, .int (nI (i + 4))), (0, .ref b), (1, .ref qx), (2, .ref qm)]) hx hb dL_law_457 hl (k := 0) rfl (nI_add i 4) (by decide) rfl (fun ls hl => ?_)
          refine lv_goto (tgt := 18) hx hb dL_law_460 (by decide) ?_
          exact ih (i + 4) L S1 M1 (by omega) (by omega) HR1 _ _ _ IX IM (lv_sub hl [0, 1, 2, 3] rfl)
        · skip
          exact absurd (op_score HR hp1 hp2.2).1 c9
      · skip
        refine lv_tableIn (off := 402) (tgt := 434) hx hb dL_law_32 (by decide) (by decide) rfl (by decide) ?_
        refine lv_aload_n hx hb dL_law_434 rfl (lv_at hl 2 rfl) ?_
        refine lv_aload_n hx hb dL_law_435 rfl (lv_at hl 1 rfl) ?_
        refine lv_iload_n hx hb dL_law_436 rfl (lv_at hl 0 rfl) ?_
        refine lv_iconst (v := 1) hx hb dL_law_437 (by decide) ?_
        refine lv_iadd hx hb dL_law_438 ?_
        refine lw_sld hx hb hX hbl hbA IX.2.2.2 hL (i + 1) (nI_add i 1) (by omega) dL_law_439 ?_
        refine ig_calli (h := qx) (As := [.int (xs (i + 1))]) (rest := []) (C := RX0) (T := TX0) (N := 17) (ci := 0) (fs := FX a S) C0 hA IX (metX0_matchesQuery l D qx a d S oS (xs (i + 1))) rfl rfl (lw_V q189 q190 q191 q22 q192) 1 (by decide +kernel) rfl rfl ⟨by decide, by decide⟩ ⟨by decide, by decide⟩ rfl hl.1 (Nat.le_of_ble_eq_true rfl) dL_law_440 rfl (fun r1 S1 H locs hp1 IX hk1 => ?_)
        have IM := ig_keep IM IX.2.2.2 hk1 (hdis S M)
        refine lv_aload_n hx hb dL_law_443 rfl (lv_at hl 3 rfl) ?_
        refine lv_aload_n hx hb dL_law_444 rfl (lv_at hl 1 rfl) ?_
        refine lv_iload_n hx hb dL_law_445 rfl (lv_at hl 0 rfl) ?_
        refine lv_iconst (v := 1) hx hb dL_law_446 (by decide) ?_
        refine lv_iadd hx hb dL_law_447 ?_
        refine lw_sld hx hb hX hbl hbA IX.2.2.2 hL (i + 1) (nI_add i 1) (by omega) dL_law_448 ?_
        refine ig_calli (h := qm) (As := [.int (xs (i + 1))]) (rest := [.int r1]) (C := RX1) (T := TX1) (N := 9) (ci := 1) (fs := FM a2 M) C0 hA IM (metX1_matchesQuery l D qm a2 d2 M L dL dM oM (xs (i + 1))) rfl rfl (lw_V q312 q280 q281 q23 q282) 1 (by decide +kernel) rfl rfl ⟨by decide, by decide⟩ ⟨by decide, by decide⟩ rfl hl.1 (Nat.le_of_ble_eq_true rfl) dL_law_449 rfl (fun r2 M1 H locs hp2 IM hk2 => ?_)
        have IX := ig_keep IX IM.2.2.2 hk2 (fun i j x y h1 h2 => (hdis S1 M j i y x h2 h1).symm)
        refine lv_icmp_eq (tgt := 457) hx hb dL_law_452 (by decide) (fun c9 => ?_) (fun c9 => ?_)
        · skip
          have HR1 : Rel S1 M1 L := by rw [hp1.1, hp2.1]; exact HR
          refine lv_iinc (v := nI (i + 4)) (lv' := [(3, .int (nI (i + 4))), (0, .ref b), (1, .ref qx), (2, .ref qm)]) hx hb dL_law_457 hl (k := 0) rfl (nI_add i 4) (by decide) rfl (fun ls hl => ?_)
          refine lv_goto (tgt := 18) hx hb dL_law_460 (by decide) ?_
          exact ih (i + 4) L S1 M1 (by omega) (by omega) HR1 _ _ _ IX IM (lv_sub hl [0, 1, 2, 3] rfl)
        · skip
          exact absurd (op_mq HR hp1.2 hp2.2) c9
      · skip
        refine lv_tableOut (tgt := 457) hx hb dL_law_32 (by decide) (by decide) ?_
        refine lv_iinc (v := nI (i + 4)) (lv' := [(3, .int (nI (i + 4))), (0, .ref b), (1, .ref qx), (2, .ref qm)]) hx hb dL_law_457 hl (k := 0) rfl (nI_add i 4) (by decide) rfl (fun ls hl => ?_)
        refine lv_goto (tgt := 18) hx hb dL_law_460 (by decide) ?_
        exact ih (i + 4) L S M (by omega) (by omega) HR _ _ _ IX IM (lv_sub hl [0, 1, 2, 3] rfl)
      · skip
        refine lv_tableOut (tgt := 457) hx hb dL_law_32 (by decide) (by decide) ?_
        refine lv_iinc (v := nI (i + 4)) (lv' := [(3, .int (nI (i + 4))), (0, .ref b), (1, .ref qx), (2, .ref qm)]) hx hb dL_law_457 hl (k := 0) rfl (nI_add i 4) (by decide) rfl (fun ls hl => ?_)
        refine lv_goto (tgt := 18) hx hb dL_law_460 (by decide) ?_
        exact ih (i + 4) L S M (by omega) (by omega) HR _ _ _ IX IM (lv_sub hl [0, 1, 2, 3] rfl)
      · skip
        refine lv_tableOut (tgt := 457) hx hb dL_law_32 (by decide) (by decide) ?_
        refine lv_iinc (v := nI (i + 4)) (lv' := [(3, .int (nI (i + 4))), (0, .ref b), (1, .ref qx), (2, .ref qm)]) hx hb dL_law_457 hl (k := 0) rfl (nI_add i 4) (by decide) rfl (fun ls hl => ?_)
        refine lv_goto (tgt := 18) hx hb dL_law_460 (by decide) ?_
        exact ih (i + 4) L S M (by omega) (by omega) HR _ _ _ IX IM (lv_sub hl [0, 1, 2, 3] rfl)
end
section
/-- addresses don't depend on the state -/
theorem adr_X {h : Nat} {a : Nat → Nat} {d : Nat → ClassId} (S S2 : ST) {i : Nat} {x : Nat × va_E} (hx : (WX h a d S)[i]? = some x) : ∃ y, (WX h a d S2)[i]? = some y ∧ y.1 = x.1 := by
  have e : (WX h a d S).map Prod.fst = (WX h a d S2).map Prod.fst := rfl
  have e2 : ((WX h a d S2).map Prod.fst)[i]? = some x.1 := by rw [← e, List.getElem?_map, hx]; rfl
  rw [List.getElem?_map] at e2
  cases hy : (WX h a d S2)[i]? with
  | none => rw [hy] at e2; cases e2
  | some y => rw [hy] at e2; exact ⟨y, rfl, Option.some.inj e2⟩
theorem adr_M {h : Nat} {a : Nat → Nat} {d : Nat → ClassId} (S S2 : ST) {i : Nat} {x : Nat × va_E} (hx : (WM h a d S)[i]? = some x) : ∃ y, (WM h a d S2)[i]? = some y ∧ y.1 = x.1 := by
  have e : (WM h a d S).map Prod.fst = (WM h a d S2).map Prod.fst := rfl
  have e2 : ((WM h a d S2).map Prod.fst)[i]? = some x.1 := by rw [← e, List.getElem?_map, hx]; rfl
  rw [List.getElem?_map] at e2
  cases hy : (WM h a d S2)[i]? with
  | none => rw [hy] at e2; cases e2
  | some y => rw [hy] at e2; exact ⟨y, rfl, Option.some.inj e2⟩
set_option maxHeartbeats 4000000 in
set_option maxRecDepth 100000 in
/-- from the entry, for every script of at most 256 ints, the law comes to its end with true -/
theorem whole_start {p : Program} {e : Env} {s : State} {m : MethodId} {below : List Frame} {meth : Method} {c : Code} (l : Launch) {b L : Nat} {xs : Nat → Int32} (hL : L ≤ 256) (C0 : lw_At p s m meth c b L xs) : W p l e room_1 s m #[Value.ref b] below meth c s.heap [] 0 0 (lw_Z below #[Value.ref b] s) (entryFrame m ([Value.ref b] : List Value).toArray 4) := by
  obtain ⟨hx, hb, hr, hml, hown, hts0, hX, hbl, hlocks, hgv⟩ := id C0
  have hts : ∀ w ∈ lw_all, w.before #[Value.ref b] s = true := fun w h => hts0 w (lw_all_tbl h)
  have hA : ∀ q : Nat, s.heap.size ≤ q → (fun q : Nat => s.heap.size ≤ q) q := fun _ h => h
  obtain ⟨c0_, iS0, hKn0⟩ := u_known (C := RX0) (T := TX0) (N := 17) (n := 17) hts0 (fun w h => lw_all_tbl (in_X0 w h)) (hts _ q25)
  obtain ⟨c1_, iS1, hKn1⟩ := u_known (C := RX1) (T := TX1) (N := 9) (n := 9) hts0 (fun w h => lw_all_tbl (in_X1 w h)) (hts _ q194)
  obtain ⟨D, hKc⟩ : ∃ D : va_G, ∀ (k : Nat) (q : vw_C), clX[k]? = some q → u_Kn s q.1 q.2.1 q.2.2 (D.1 k) (D.2 k) := by
    refine ⟨(fun k => if k = 0 then c0_ else c1_, fun k => if k = 0 then iS0 else iS1), ?_⟩
    intro k q hq
    match k, hq with
    | 0, hq => cases hq; exact hKn0
    | 1, hq => cases hq; exact hKn1
    | k + 2, hq => simp [clX] at hq
  have hS : va_S (fun q : Nat => s.heap.size ≤ q) s.heap s.heap [] := va_S.rf
  have hK : va_K D clX [] s := ⟨hKc, fun k q h => by simp at h⟩
  have hP : va_P D clX [] s.heap := fun k q h => by simp at h
  have hD : va_D (fun q : Nat => s.heap.size ≤ q) [] := ⟨fun i j p q h => by simp at h, fun k q h => by simp at h⟩
  have hl := lv_entry ([.ref b]) (n := 4) (Nat.le_of_ble_eq_true rfl)
  rw [lg_entry_eq]
  generalize (lg_sl ([.ref b]) ++ List.replicate (4 - (lg_sl ([.ref b])).length) Slot.unset).toArray = ls at hl ⊢
  have hl : lv_has ls 4 [(0, .ref b)] := hl
  refine va_new (D := D) (cl := clX) (ci := 0) (fs := [.null, .null, .null, .null, .null, .null, .null, .int 0, .null, .int 0, .int 0, .int 0, .null, .null, .int 0, .null, .null]) (C := RX0) (T := TX0) (N := 17) hx hb hts in_X0 tyX0 tyX0_ok hown (hts _ q24) (hts _ q25) (hts _ q22) hK hP hD hS hA rfl (fun j hj => by rcases (show j = 0 ∨ j = 1 ∨ j = 2 ∨ j = 3 ∨ j = 4 ∨ j = 5 ∨ j = 6 ∨ j = 7 ∨ j = 8 ∨ j = 9 ∨ j = 10 ∨ j = 11 ∨ j = 12 ∨ j = 13 ∨ j = 14 ∨ j = 15 ∨ j = 16 by omega) with rfl | rfl | rfl | rfl | rfl | rfl | rfl | rfl | rfl | rfl | rfl | rfl | rfl | rfl | rfl | rfl | rfl <;> rfl) (by decide) (by decide) dL_law_0 (fun qx H hP hD hS => ?_)
  have hP : va_P D clX [(qx, .inr (0, [.null, .null, .null, .null, .null, .null, .null, .int 0, .null, .int 0, .int 0, .int 0, .null, .null, .int 0, .null, .null]))] H := hP
  have hD : va_D (fun q : Nat => s.heap.size ≤ q) [(qx, .inr (0, [.null, .null, .null, .null, .null, .null, .null, .int 0, .null, .int 0, .int 0, .int 0, .null, .null, .int 0, .null, .null]))] := hD
  refine W.widen (k := 1) (n := 17) (by decide) (by decide) ?_
  refine lv_dup hx hb dL_law_3 rfl ?_
  have hPc := hP
  have hDc := hD
  have hKc1 := hK
  have hFc := va_free (wc := [(qx, .inr (0, [.null, .null, .null, .null, .null, .null, .null, .int 0, .null, .int 0, .int 0, .int 0, .null, .null, .int 0, .null, .null]))]) hD hS hA [0] rfl
  refine va_callv (va_runI (As := []) (rest := [.ref qx]) ⟨hx, hb, hml, hown, hts⟩ (metX0_init l D qx H.size) (cwI 0 hts (lw_meth q28) rfl rfl rfl (hts _ q22) (hts _ q26) (hts _ q27) rfl (by decide +kernel) ⟨by decide, by decide⟩) ⟨fun a U g mk q => by obtain ⟨q0, q1, qP, qK, qD⟩ := q; exact ⟨q0, q1, qP, va_K.moved (u := U) (U := U.calling g mk a) (Vm.Alike.refl U.vm) qK, qD⟩, fun U hU hW => ⟨rfl, by rw [hU], by rw [hU]; exact hPc, va_K.moved hW.alike hKc1, hDc.weaken (fun _ _ _ _ => trivial)⟩⟩ rfl rfl hl.1 rfl (lv_room (Nat.le_of_ble_eq_true rfl)) dL_law_4 ⟨by decide, by decide⟩) hS (fun q _ h => hFc q h) hFc (fun u t H1 locs ht hvm hw1 hB hz1 hk1 hS => ?_)
  obtain ⟨a, d, hP1, hK1, hD1⟩ := hB
  rw [ht] at hP1
  have hK1 := va_K.moved hvm.symm hK1
  have IX : ig_ D clX (WX qx a d) (TYX d) (fun q : Nat => s.heap.size ≤ q) s SX0 H1 locs := ⟨hK1, hP1, hD1.weaken (fun k q _ h => hFc q.1 h), hS⟩
  refine W.widen (k := 13) (n := 389) (by decide) (by decide) ?_
  refine lv_astore_n (lv' := [(1, .ref qx), (0, .ref b)]) hx hb dL_law_7 rfl hl (by decide) rfl (fun ls hl => ?_)
  refine va_new (D := D) (cl := clX) (ci := 1) (fs := [.null, .null, .null, .null, .null, .null, .null, .int 0, .int 0]) (C := RX1) (T := TX1) (N := 9) hx hb hts in_X1 tyX1 tyX1_ok hown (hts _ q193) (hts _ q194) (hts _ q23) hK1 IX.2.1 IX.2.2.1 IX.2.2.2 hA rfl (fun j hj => by rcases (show j = 0 ∨ j = 1 ∨ j = 2 ∨ j = 3 ∨ j = 4 ∨ j = 5 ∨ j = 6 ∨ j = 7 ∨ j = 8 by omega) with rfl | rfl | rfl | rfl | rfl | rfl | rfl | rfl | rfl <;> rfl) (by decide) (by decide) dL_law_8 (fun qm H2 hP hD hS => ?_)
  refine W.widen (k := 14) (n := 398) (by decide) (by decide) ?_
  refine lv_dup hx hb dL_law_11 rfl ?_
  have hPx : va_P D clX (WX qx a d SX0) H2 := hP.sub (ws' := WX qx a d SX0) [0, 1, 2, 3, 4, 5, 6, 7, 8, 9, 10, 11, 12] rfl
  have hPc := hP.sub (ws' := [(qm, .inr (1, [.null, .null, .null, .null, .null, .null, .null, .int 0, .int 0]))]) [13] rfl
  have hDc := hD.sub (ws' := [(qm, .inr (1, [.null, .null, .null, .null, .null, .null, .null, .int 0, .int 0]))]) [13] (by decide) rfl
  have hKc1 := hK
  have hFc := va_free (wc := [(qm, .inr (1, [.null, .null, .null, .null, .null, .null, .null, .int 0, .int 0]))]) hD hS hA [13] rfl
  have IX : ig_ D clX (WX qx a d) (TYX d) (fun q : Nat => s.heap.size ≤ q) s SX0 H2 locs := ⟨hK1, hPx, IX.2.2.1, hS⟩
  have hap : ∀ (j : Nat) (y : Nat × va_E), (WX qx a d SX0)[j]? = some y → qm ≠ y.1 := by
    intro j y hy z
    have hj : j < 13 := (List.getElem?_eq_some_iff.mp hy).1
    have := hD.1 j 13 y (qm, .inr (1, [.null, .null, .null, .null, .null, .null, .null, .int 0, .int 0])) (by rw [List.getElem?_append_left hj]; exact hy) rfl z.symm
    omega
  refine va_callv (va_runI (As := []) (rest := [.ref qm]) ⟨hx, hb, hml, hown, hts⟩ (metX1_init l D qm H2.size) (cwI 0 hts (lw_meth q197) rfl rfl rfl (hts _ q23) (hts _ q195) (hts _ q196) rfl (by decide +kernel) ⟨by decide, by decide⟩) ⟨fun a U g mk q => by obtain ⟨q0, q1, qP, qK, qD⟩ := q; exact ⟨q0, q1, qP, va_K.moved (u := U) (U := U.calling g mk a) (Vm.Alike.refl U.vm) qK, qD⟩, fun U hU hW => ⟨rfl, by rw [hU], by rw [hU]; exact hPc, va_K.moved hW.alike hKc1, hDc.weaken (fun _ _ _ _ => trivial)⟩⟩ rfl rfl hl.1 rfl (lv_room (Nat.le_of_ble_eq_true rfl)) dL_law_12 ⟨by decide, by decide⟩) hS (fun q _ h => hFc q h) hFc (fun u t H3 locs ht hvm hw2 hB hz2 hk2 hS => ?_)
  obtain ⟨a2, d2, hP2, hK2, hD2⟩ := hB
  rw [ht] at hP2
  have hK2 := va_K.moved hvm.symm hK2
  have IM : ig_ D clX (WM qm a2 d2) (TYM d2) (fun q : Nat => s.heap.size ≤ q) s SM0 H3 locs := ⟨hK2, hP2, hD2.weaken (fun k q _ h => hFc q.1 h), hS⟩
  have hdis : ∀ (S M : ST) (i j : Nat) (x y : Nat × va_E), (WX qx a d S)[i]? = some x → (WM qm a2 d2 M)[j]? = some y → x.1 ≠ y.1 := by
    intro S M i j x y h1 h2 z
    obtain ⟨x0, hx0, ex⟩ := adr_X S SX0 h1
    obtain ⟨y0, hy0, ey⟩ := adr_M M SM0 h2
    have hlt := (IX.2.1 i x0 hx0).lt
    rcases hD2.2 j y0 hy0 with ⟨k, e1, hk⟩ | hge
    · have hk0 : k < 1 := (List.getElem?_eq_some_iff.mp hk).1
      rw [show k = 0 by omega] at hk
      have e2 : y0.1 = qm := by
        have e3 := Option.some.inj hk
        exact (congrArg Prod.fst e3).symm
      exact hap i x0 hx0 (by rw [ex, z, ← ey, e2])
    · rw [ey, ← z, ← ex] at hge
      omega
  have IX := ig_keep IX hS hk2 (fun i j x y h1 h2 z => by
      have hk0 : i < 1 := (List.getElem?_eq_some_iff.mp h1).1
      rw [show i = 0 by omega] at h1
      have e3 := Option.some.inj h1
      exact hap j y h2 ((congrArg Prod.fst e3).trans z))
  refine W.widen (k := 21) (n := 666) (by decide) (by decide) ?_
  refine lv_astore_n (lv' := [(2, .ref qm), (1, .ref qx), (0, .ref b)]) hx hb dL_law_15 rfl hl (by decide) rfl (fun ls hl => ?_)
  refine lv_iconst (v := 0) hx hb dL_law_16 (by decide) ?_
  refine lv_istore_n (lv' := [(3, .int (nI 0)), (2, .ref qm), (1, .ref qx), (0, .ref b)]) hx hb dL_law_17 rfl hl (by decide) rfl (fun ls hl => ?_)
  exact law_loop hL C0 hdis (L + 1) 0 0 SX0 SM0 (by omega) (by omega) rel_0 _ _ _ IX IM (lv_sub hl [0, 3, 2, 1] rfl)
end
section
-- ===== YOUR PART ENDS =====
set_option maxHeartbeats 4000000 in
theorem lw_walk (l : Launch) (b : Addr) (xs : List Int32) : MetFree l x (headSpec (Jvm.Cond.code x code maxLocals ret :: tables_1) room_1) (lw_P b xs) (fun _ _ _ _ _ => True) lw_Q := by
  refine MetFree.of_bodyS (code := code) (maxLocals := maxLocals) (ret := ret) (by decide) ?_ ?_
  · intro args s m h hn
    obtain ⟨meth, c, h1, h2, h3, h4, h5, h6, -, -⟩ := Cond.code_spec hn (atoms_spec (ws := Jvm.Cond.code x code maxLocals ret :: tables_1) h _ List.mem_cons_self)
    exact ⟨meth, c, h1, h2, h3, h4, h5, h6⟩
  · intro p e s m args below meth c s₁ B hml0 hP _
    obtain ⟨rfl, hx, hbd, hgv⟩ := hP
    obtain ⟨scr, harrAt, hlist, hof, hsmall⟩ := hx
    obtain ⟨hcb, hkn, -, -⟩ := State.arrayAt?_spec harrAt
    have hown : s.vm.findClass R_law = some m.cls := findClass_of_methodNamed B.named
    have hts0 : ∀ c ∈ (Jvm.Cond.code x code maxLocals ret :: tables_1), c.before #[Value.ref b] s = true := atoms_spec (ws := Jvm.Cond.code x code maxLocals ret :: tables_1) B.pre
    have hts : ∀ w ∈ lw_tbl, w.before #[Value.ref b] s = true := k2_hts_sels lw_privs (fun w hw => hts0 w (List.mem_cons_of_mem _ hw)) lw_privs_ok
    have hml : c.maxLocals = 4 := B.maxLocals_eq (hts0 _ List.mem_cons_self)
    have X₀ : Stand p l e room_1 s m #[Value.ref b] below meth c s₁ [] 0 0 := Stand.of_body B
    have hh0 : s₁.heap = s.heap := by rw [B.state]; rfl
    have hsz : scr.slots.size = xs.length := by rw [← Array.length_toList, hlist, List.length_map]
    have hval : ∀ j : Nat, j < xs.length → scr.slots[j]? = some (.int (xs.getD j 0)) := fun j hj => by
      rw [← Array.getElem?_toList, hlist]
      simp [hj]
    have hbl : b < s.heap.size := (Array.getElem?_eq_some_iff.mp hcb).1
    have hX : va_X b xs.length (fun j => xs.getD j 0) s s.heap := ⟨scr, hcb, hof, hkn, hsz, hval⟩
    have K : W p l e room_1 s m #[Value.ref b] below meth c s₁.heap [] 0 0 (lw_Z below #[Value.ref b] s) (entryFrame m ([Value.ref b] : List Value).toArray 4) := by
      rw [hh0]
      exact whole_start l hbd ⟨B.exec, B.bytes, B.returns, hml, hown, hts, hX, hbl, B.notSynchronized, hgv⟩
    obtain ⟨t, a1, o, b1, b2, b3⟩ := K s₁ rfl X₀
    exact ⟨t, o, a1, b1, b2, b3⟩
theorem lw_pre_spec {args : Array Value} {s : State} (h : (Jvm.Cond.and given_1 narrow_1).before args s = true) (hr : rest_1_c.before args s = true) : ∃ (b : Addr) (xs : List Int32), lw_P b xs args s := by
  have hs := flat_of_before _ h
  have hq := flat_of_before _ hr
  have hc : (Cond.count 1).before args s = true := hs _ (by decide +kernel)
  have harr : (Cond.arrayOf (.arg 0) .int).before args s = true := hs _ (by decide +kernel)
  have hle : (Cond.le (.length (.arg 0)) (.int 256)).before args s = true := hs _ (by decide +kernel)
  have hlen : (Cond.isInt (.length (.arg 0))).before args s = true := hq _ (by decide +kernel)
  have hall : (Cond.all (.arg 0) (.isInt (.elem (.arg 0) (.index 0)))).before args s = true := hq _ (by decide +kernel)
  obtain ⟨b, xs, hb, hx⟩ := State.ints_of_pre rfl harr hlen hall
  have hsm : xs.length < 2 ^ 31 := hx.choose_spec.2.2.2
  have hev : (Term.length (.arg 0)).eval args s none [] s = some (.int xs.length.toInt32) := hx.length_eval hb
  have hv := Cond.le_ints hev (show (Term.int 256).eval args s none [] s = some (.int 256) from rfl)
  have hd : xs.length.toInt32 ≤ 256 := by
    simpa [Cond.before, Cond.holds, hv] using hle
  have hN : xs.length ≤ 256 := (Int32.ofNat_le_ofNat hsm (by decide)).mp (show Int32.ofNat xs.length ≤ Int32.ofNat 256 from hd)
  exact ⟨b, xs, Cond.one_arg hc (show args[0]? = some (.ref b) from hb), hx, hN, h⟩
theorem lw_comes (l : Launch) : Comes l x (Jvm.Cond.code x code maxLocals ret :: tables_1) room_1 (fun tb e args s => Calls_1 tb e args s ∧ rest_1 tb e args s ∧ Pre_1 tb e args s)
    (fun _ _ args s o t => lw_Q args s o t) := by
  intro p e ha hc hk s m args below hf hfit hheap happ hpre
  obtain ⟨b, xs, hP⟩ := lw_pre_spec hpre.2.2 hpre.2.1
  obtain ⟨k, o, h1, h2, h3, hQ⟩ := lw_walk l b xs p e ha hc hk s m args below hf ((Spec.applies_iff_loose hf).mp happ).1 hP trivial
  exact ⟨k, o, h1, h2, h3, hQ⟩
theorem lw_frame {s t : State} {o : Outcome} {args : Array Value} (h : Framed s o t [] 600000 7290000) :
    Framed s o t (fieldLocs frame_1_writes args s ++ arrayLocs frame_1_arrays args s ++ staticLocs frame_1_statics s) 600000 7290000 := h
theorem lw_limb (L : Cond) (hL : ∀ (args : Array Value) (s t : State), L.after args s (.returned (some (.int 1))) t = true) :
    ArmFor flags0 classFile x code maxLocals ret World_1 tables_1 room_1 Calls_1 rest_1 Pre_1
      (fun tb e a s o t => postC L tb e a s o t ∧ Framed s o t (fieldLocs frame_1_writes a s ++ arrayLocs frame_1_arrays a s ++ staticLocs frame_1_statics s) 600000 7290000) := by
  intro l _ _ _ p e ha hc hk s m args below hf hfit hheap happ hpre
  obtain ⟨k, o, h1, h2, h3, rfl, hF⟩ := lw_comes l p e ha hc hk s m args below hf hfit hheap happ hpre
  exact ⟨k, _, h1, h2, h3, hL args s _, lw_frame hF⟩
theorem i_vc : Claimed_1_1 ∧ Claimed_1_2 := ⟨lw_limb limb_1_1 (fun args s t => by simp [limb_1_1, Cond.after, Cond.holds, Cond.value]), lw_limb limb_1_2 (fun args s t => Cond.after_iff.mpr (by
  first | (rw [show limb_1_2 = Cond.eq .result (.int 1) from rfl, Cond.eq_ints (x := 1) (y := 1) rfl rfl]; simp; done) | (simp [limb_1_2, Cond.value, Term.eval]; done)))⟩
end
