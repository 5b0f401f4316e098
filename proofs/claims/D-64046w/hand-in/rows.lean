section
-- ===== PART A: goes FIRST, ahead of the names: the tables' words, and 'selects' of the private methods out of them =====
/-- a private method of a class that the tables say can be made, by its rows of tables_1 -/
def lw_okq (q : MethodName × Nat) : Prop := (q.1.cls ≠ "java/lang/invoke/MethodHandle" ∧ q.1.cls ≠ "java/lang/invoke/VarHandle") ∧ Cond.instantiable q.1.cls q.2 ∈ tables_1 ∧ Cond.privateMethod q.1 ∈ tables_1 ∧ Cond.instanceMethod q.1 ∈ tables_1
set_option maxRecDepth 100000
theorem lw_t1 {w : Cond} (h : w ∈ tables_1_1) : w ∈ tables_1 := List.mem_append_left _ h
theorem lw_t2 {w : Cond} (h : w ∈ tables_1_2) : w ∈ tables_1 := List.mem_append_right _ h
theorem lw_p0 : lw_okq (⟨"TourSolver", "isCouple", "(II)Z"⟩, 11) := ⟨⟨by decide +kernel, by decide +kernel⟩, lw_t1 (List.mem_of_getElem? (i := 4) rfl), lw_t1 (List.mem_of_getElem? (i := 52) rfl), lw_t1 (List.mem_of_getElem? (i := 53) rfl)⟩
theorem lw_p1 : lw_okq (⟨"TourSolver", "isTown", "(I)Z"⟩, 11) := ⟨⟨by decide +kernel, by decide +kernel⟩, lw_t1 (List.mem_of_getElem? (i := 4) rfl), lw_t1 (List.mem_of_getElem? (i := 56) rfl), lw_t1 (List.mem_of_getElem? (i := 57) rfl)⟩
theorem lw_p2 : lw_okq (⟨"TourSolver", "loadPrices", "()V"⟩, 11) := ⟨⟨by decide +kernel, by decide +kernel⟩, lw_t1 (List.mem_of_getElem? (i := 4) rfl), lw_t1 (List.mem_of_getElem? (i := 64) rfl), lw_t1 (List.mem_of_getElem? (i := 65) rfl)⟩
theorem lw_p3 : lw_okq (⟨"TourSolver", "solve", "(II)V"⟩, 11) := ⟨⟨by decide +kernel, by decide +kernel⟩, lw_t1 (List.mem_of_getElem? (i := 4) rfl), lw_t1 (List.mem_of_getElem? (i := 68) rfl), lw_t1 (List.mem_of_getElem? (i := 69) rfl)⟩
theorem lw_p4 : lw_okq (⟨"TourSolver", "offer", "(II)V"⟩, 11) := ⟨⟨by decide +kernel, by decide +kernel⟩, lw_t1 (List.mem_of_getElem? (i := 4) rfl), lw_t1 (List.mem_of_getElem? (i := 73) rfl), lw_t1 (List.mem_of_getElem? (i := 74) rfl)⟩
theorem lw_p5 : lw_okq (⟨"TourSolver", "freed", "(I)I"⟩, 11) := ⟨⟨by decide +kernel, by decide +kernel⟩, lw_t1 (List.mem_of_getElem? (i := 4) rfl), lw_t1 (List.mem_of_getElem? (i := 77) rfl), lw_t1 (List.mem_of_getElem? (i := 78) rfl)⟩
theorem lw_p6 : lw_okq (⟨"TourSolver", "nextTown", "(II)I"⟩, 11) := ⟨⟨by decide +kernel, by decide +kernel⟩, lw_t1 (List.mem_of_getElem? (i := 4) rfl), lw_t1 (List.mem_of_getElem? (i := 81) rfl), lw_t1 (List.mem_of_getElem? (i := 82) rfl)⟩
theorem lw_p7 : lw_okq (⟨"TourSolver", "atLeast", "(II)I"⟩, 11) := ⟨⟨by decide +kernel, by decide +kernel⟩, lw_t1 (List.mem_of_getElem? (i := 4) rfl), lw_t1 (List.mem_of_getElem? (i := 85) rfl), lw_t1 (List.mem_of_getElem? (i := 86) rfl)⟩
theorem lw_p8 : lw_okq (⟨"TourSolver", "growNet", "(IIZ)I"⟩, 11) := ⟨⟨by decide +kernel, by decide +kernel⟩, lw_t1 (List.mem_of_getElem? (i := 4) rfl), lw_t1 (List.mem_of_getElem? (i := 89) rfl), lw_t1 (List.mem_of_getElem? (i := 90) rfl)⟩
theorem lw_p9 : lw_okq (⟨"TourSolver", "nearestOf", "(I)I"⟩, 11) := ⟨⟨by decide +kernel, by decide +kernel⟩, lw_t1 (List.mem_of_getElem? (i := 4) rfl), lw_t1 (List.mem_of_getElem? (i := 93) rfl), lw_t1 (List.mem_of_getElem? (i := 94) rfl)⟩
theorem lw_p10 : lw_okq (⟨"TourSolver", "price", "(III)V"⟩, 11) := ⟨⟨by decide +kernel, by decide +kernel⟩, lw_t1 (List.mem_of_getElem? (i := 4) rfl), lw_t1 (List.mem_of_getElem? (i := 114) rfl), lw_t1 (List.mem_of_getElem? (i := 115) rfl)⟩
theorem lw_p11 : lw_okq (⟨"TourSolverModel", "lengthen", "(I)V"⟩, 6) := ⟨⟨by decide +kernel, by decide +kernel⟩, lw_t1 (List.mem_of_getElem? (i := 138) rfl), lw_t1 (List.mem_of_getElem? (i := 144) rfl), lw_t1 (List.mem_of_getElem? (i := 145) rfl)⟩
theorem lw_p12 : lw_okq (⟨"TourSolverModel", "isCouple", "(II)Z"⟩, 6) := ⟨⟨by decide +kernel, by decide +kernel⟩, lw_t1 (List.mem_of_getElem? (i := 138) rfl), lw_t1 (List.mem_of_getElem? (i := 171) rfl), lw_t1 (List.mem_of_getElem? (i := 172) rfl)⟩
theorem lw_p13 : lw_okq (⟨"TourSolverModel", "isTown", "(I)Z"⟩, 6) := ⟨⟨by decide +kernel, by decide +kernel⟩, lw_t1 (List.mem_of_getElem? (i := 138) rfl), lw_t1 (List.mem_of_getElem? (i := 175) rfl), lw_t1 (List.mem_of_getElem? (i := 176) rfl)⟩
theorem lw_p14 : lw_okq (⟨"TourSolverModel", "put", "(III)V"⟩, 6) := ⟨⟨by decide +kernel, by decide +kernel⟩, lw_t1 (List.mem_of_getElem? (i := 138) rfl), lw_t1 (List.mem_of_getElem? (i := 179) rfl), lw_t1 (List.mem_of_getElem? (i := 180) rfl)⟩
theorem lw_p15 : lw_okq (⟨"TourSolverModel", "best", "()I"⟩, 6) := ⟨⟨by decide +kernel, by decide +kernel⟩, lw_t1 (List.mem_of_getElem? (i := 138) rfl), lw_t1 (List.mem_of_getElem? (i := 187) rfl), lw_t1 (List.mem_of_getElem? (i := 188) rfl)⟩
def lw_privs_1 : List (MethodName × Nat) := [(⟨"TourSolver", "isCouple", "(II)Z"⟩, 11), (⟨"TourSolver", "isTown", "(I)Z"⟩, 11), (⟨"TourSolver", "loadPrices", "()V"⟩, 11), (⟨"TourSolver", "solve", "(II)V"⟩, 11), (⟨"TourSolver", "offer", "(II)V"⟩, 11), (⟨"TourSolver", "freed", "(I)I"⟩, 11), (⟨"TourSolver", "nextTown", "(II)I"⟩, 11), (⟨"TourSolver", "atLeast", "(II)I"⟩, 11), (⟨"TourSolver", "growNet", "(IIZ)I"⟩, 11), (⟨"TourSolver", "nearestOf", "(I)I"⟩, 11), (⟨"TourSolver", "price", "(III)V"⟩, 11), (⟨"TourSolverModel", "lengthen", "(I)V"⟩, 6), (⟨"TourSolverModel", "isCouple", "(II)Z"⟩, 6), (⟨"TourSolverModel", "isTown", "(I)Z"⟩, 6), (⟨"TourSolverModel", "put", "(III)V"⟩, 6), (⟨"TourSolverModel", "best", "()I"⟩, 6)]
theorem lw_r1 : ∀ q ∈ lw_privs_1, lw_okq q := List.forall_mem_cons.mpr ⟨lw_p0, List.forall_mem_cons.mpr ⟨lw_p1, List.forall_mem_cons.mpr ⟨lw_p2, List.forall_mem_cons.mpr ⟨lw_p3, List.forall_mem_cons.mpr ⟨lw_p4, List.forall_mem_cons.mpr ⟨lw_p5, List.forall_mem_cons.mpr ⟨lw_p6, List.forall_mem_cons.mpr ⟨lw_p7, List.forall_mem_cons.mpr ⟨lw_p8, List.forall_mem_cons.mpr ⟨lw_p9, List.forall_mem_cons.mpr ⟨lw_p10, List.forall_mem_cons.mpr ⟨lw_p11, List.forall_mem_cons.mpr ⟨lw_p12, List.forall_mem_cons.mpr ⟨lw_p13, List.forall_mem_cons.mpr ⟨lw_p14, List.forall_mem_cons.mpr ⟨lw_p15, fun _ h => absurd h List.not_mem_nil⟩⟩⟩⟩⟩⟩⟩⟩⟩⟩⟩⟩⟩⟩⟩⟩
theorem lw_p16 : lw_okq (⟨"TourSolverModel", "sum", "(I)I"⟩, 6) := ⟨⟨by decide +kernel, by decide +kernel⟩, lw_t1 (List.mem_of_getElem? (i := 138) rfl), lw_t1 (List.mem_of_getElem? (i := 191) rfl), lw_t1 (List.mem_of_getElem? (i := 192) rfl)⟩
theorem lw_p17 : lw_okq (⟨"TourSolverModel", "placeOf", "(II)I"⟩, 6) := ⟨⟨by decide +kernel, by decide +kernel⟩, lw_t1 (List.mem_of_getElem? (i := 138) rfl), lw_t1 (List.mem_of_getElem? (i := 195) rfl), lw_t1 (List.mem_of_getElem? (i := 196) rfl)⟩
theorem lw_p18 : lw_okq (⟨"TourSolverModel", "least", "(IIZ)I"⟩, 6) := ⟨⟨by decide +kernel, by decide +kernel⟩, lw_t1 (List.mem_of_getElem? (i := 138) rfl), lw_t1 (List.mem_of_getElem? (i := 212) rfl), lw_t1 (List.mem_of_getElem? (i := 213) rfl)⟩
theorem lw_p19 : lw_okq (⟨"TourSolverModel", "uses", "(III)Z"⟩, 6) := ⟨⟨by decide +kernel, by decide +kernel⟩, lw_t1 (List.mem_of_getElem? (i := 138) rfl), lw_t1 (List.mem_of_getElem? (i := 216) rfl), lw_t1 (List.mem_of_getElem? (i := 217) rfl)⟩
theorem lw_p20 : lw_okq (⟨"TourSolverModel", "parts", "(I)I"⟩, 6) := ⟨⟨by decide +kernel, by decide +kernel⟩, lw_t1 (List.mem_of_getElem? (i := 138) rfl), lw_t1 (List.mem_of_getElem? (i := 232) rfl), lw_t1 (List.mem_of_getElem? (i := 233) rfl)⟩
def lw_privs_2 : List (MethodName × Nat) := [(⟨"TourSolverModel", "sum", "(I)I"⟩, 6), (⟨"TourSolverModel", "placeOf", "(II)I"⟩, 6), (⟨"TourSolverModel", "least", "(IIZ)I"⟩, 6), (⟨"TourSolverModel", "uses", "(III)Z"⟩, 6), (⟨"TourSolverModel", "parts", "(I)I"⟩, 6)]
theorem lw_r2 : ∀ q ∈ lw_privs_2, lw_okq q := List.forall_mem_cons.mpr ⟨lw_p16, List.forall_mem_cons.mpr ⟨lw_p17, List.forall_mem_cons.mpr ⟨lw_p18, List.forall_mem_cons.mpr ⟨lw_p19, List.forall_mem_cons.mpr ⟨lw_p20, fun _ h => absurd h List.not_mem_nil⟩⟩⟩⟩⟩
def lw_privs : List (MethodName × Nat) := lw_privs_1 ++ (lw_privs_2)
def lw_tbl : List Cond := k2_sels lw_privs ++ tables_1
theorem lw_privs_ok : ∀ q ∈ lw_privs, lw_okq q := by
  show ∀ q ∈ lw_privs_1 ++ (lw_privs_2), lw_okq q
  exact List.forall_mem_append.mpr ⟨lw_r1, lw_r2⟩
-- ===== ONE list of words for every method: the tables' words that hold all through a run =====
def lw_all : List Cond := lw_tbl.filter goodWord
/-- a word of the tables by its place: claim/WORDS.tsv -/
theorem lw_w {w : Cond} (i : Nat) (h : lw_tbl[i]? = some w) (g : goodWord w = true) : w ∈ lw_all := List.mem_filter.mpr ⟨List.mem_of_getElem? h, g⟩
theorem lw_all_tbl {w : Cond} (h : w ∈ lw_all) : w ∈ lw_tbl := (List.mem_filter.mp h).1
theorem lw_self : GoodIn lw_all lw_all := fun w h => ⟨h, good_of_word (List.mem_filter.mp h).2⟩
/-- a class's field words, by their places -/
theorem lw_in (ws : List Cond) (ps : List Nat) (hp : ws = ps.filterMap (fun i => lw_tbl[i]?)) (hg : ws.all goodWord = true) : ∀ w ∈ ws, w ∈ lw_all := by
  intro w h
  have h1 := List.all_eq_true.mp hg w h
  rw [hp] at h
  obtain ⟨i, -, hi⟩ := List.mem_filterMap.mp h
  exact lw_w i hi h1
/-- the words of a contract for the method y with code b, L locals, answer r -/
abbrev ws_ (y : MethodName) (b : ByteArray) (L : Nat) (r : Option FieldType) : List Cond := Cond.code y b L r :: lw_all
theorem lw_meth {y : MethodName} {b : ByteArray} {L : Nat} {r : Option FieldType} (h : Cond.code y b L r ∈ lw_all) : GoodIn lw_all (ws_ y b L r) := by
  intro w hw
  rcases List.mem_cons.mp hw with e | e
  · rw [e]
    exact lw_self _ h
  · exact lw_self _ e
theorem lw_app {a c : List Cond} (ha : ∀ w ∈ a, w ∈ lw_all) (hc : GoodIn lw_all c) : GoodIn lw_all (a ++ c) := by
  intro w hw
  rcases List.mem_append.mp hw with e | e
  · exact lw_self w (ha w e)
  · exact hc w e
/-- what a call through an object asks: cwV n hts (lw_V ..) -/
theorem lw_V {own : String} {idx : Nat} {C : String} {y : MethodName} {b : ByteArray} {L : Nat} {r : Option FieldType} (h1 : Cond.methodLink own idx y ∈ lw_all) (h2 : Cond.instanceMethod y ∈ lw_all) (h3 : Cond.selects C y y ∈ lw_all) (h4 : Cond.initialized C ∈ lw_all) (h5 : Cond.code y b L r ∈ lw_all) : GoodIn lw_all (wsV own idx C y (ws_ y b L r)) := by
  refine lw_app ?_ (lw_meth h5)
  intro w hw
  simp only [List.mem_cons, List.not_mem_nil, or_false] at hw
  rcases hw with e | e | e | e
  · rw [e]; exact h1
  · rw [e]; exact h2
  · rw [e]; exact h3
  · rw [e]; exact h4
/-- what a static call asks: va_cwS n hts (lw_S ..) -/
theorem lw_S {own : String} {idx : Nat} {y : MethodName} {b : ByteArray} {L : Nat} {r : Option FieldType} (h1 : Cond.methodLink own idx y ∈ lw_all) (h2 : Cond.static y ∈ lw_all) (h3 : Cond.initialized y.cls ∈ lw_all) (h4 : Cond.code y b L r ∈ lw_all) : GoodIn lw_all (va_wsS own idx y (ws_ y b L r)) := by
  refine lw_app ?_ (lw_meth h4)
  intro w hw
  simp only [List.mem_cons, List.not_mem_nil, or_false] at hw
  rcases hw with e | e | e
  · rw [e]; exact h1
  · rw [e]; exact h2
  · rw [e]; exact h3
/-- the words of a contract for a method WITH HANDLERS (hh: its table) -/
abbrev wsW_ (y : MethodName) (b : ByteArray) (L : Nat) (r : Option FieldType) (hh : List (Nat × Nat × Nat × Nat)) : List Cond := Cond.codeWith y b L r hh :: lw_all
theorem lw_methW {y : MethodName} {b : ByteArray} {L : Nat} {r : Option FieldType} {hh : List (Nat × Nat × Nat × Nat)} (h : Cond.codeWith y b L r hh ∈ lw_all) : GoodIn lw_all (wsW_ y b L r hh) := by
  intro w hw
  rcases List.mem_cons.mp hw with e | e
  · rw [e]
    exact lw_self _ h
  · exact lw_self _ e
/-- any list of words by their places (lw_in), good -/
theorem lw_good {ws : List Cond} (h : ∀ w ∈ ws, w ∈ lw_all) : GoodIn lw_all ws := fun w hw => lw_self w (h w hw)
/-- what a call of a method with handlers asks: vx_cwVW n hts (lw_VW ..), vx_cwSW n hts (lw_SW ..) -/
theorem lw_VW {own : String} {idx : Nat} {C : String} {y : MethodName} {b : ByteArray} {L : Nat} {r : Option FieldType} {hh : List (Nat × Nat × Nat × Nat)} (h1 : Cond.methodLink own idx y ∈ lw_all) (h2 : Cond.instanceMethod y ∈ lw_all) (h3 : Cond.selects C y y ∈ lw_all) (h4 : Cond.initialized C ∈ lw_all) (h5 : Cond.codeWith y b L r hh ∈ lw_all) : GoodIn lw_all (wsV own idx C y (wsW_ y b L r hh)) := by
  refine lw_app ?_ (lw_methW h5)
  intro w hw
  simp only [List.mem_cons, List.not_mem_nil, or_false] at hw
  rcases hw with e | e | e | e
  · rw [e]; exact h1
  · rw [e]; exact h2
  · rw [e]; exact h3
  · rw [e]; exact h4
theorem lw_SW {own : String} {idx : Nat} {y : MethodName} {b : ByteArray} {L : Nat} {r : Option FieldType} {hh : List (Nat × Nat × Nat × Nat)} (h1 : Cond.methodLink own idx y ∈ lw_all) (h2 : Cond.static y ∈ lw_all) (h3 : Cond.initialized y.cls ∈ lw_all) (h4 : Cond.codeWith y b L r hh ∈ lw_all) : GoodIn lw_all (va_wsS own idx y (wsW_ y b L r hh)) := by
  refine lw_app ?_ (lw_methW h4)
  intro w hw
  simp only [List.mem_cons, List.not_mem_nil, or_false] at hw
  rcases hw with e | e | e
  · rw [e]; exact h1
  · rw [e]; exact h2
  · rw [e]; exact h3
/-- a word by its place in its run of the tables -/
theorem lw_at {r : List Cond} (hr : ∀ w ∈ r, w ∈ lw_tbl) {w : Cond} (i : Nat) (h : r[i]? = some w) : w ∈ lw_tbl := hr w (List.mem_of_getElem? h)
theorem lw_g {w : Cond} (h : w ∈ lw_tbl) (g : goodWord w = true) : w ∈ lw_all := List.mem_filter.mpr ⟨h, g⟩
theorem lw_ms : ∀ w ∈ k2_sels lw_privs, w ∈ lw_tbl := fun w h => show w ∈ k2_sels lw_privs ++ tables_1 from List.mem_append_left _ h
theorem lw_m1 : ∀ w ∈ tables_1_1, w ∈ lw_tbl := fun w h => show w ∈ k2_sels lw_privs ++ tables_1 from List.mem_append_right (k2_sels lw_privs) (show w ∈ tables_1 from List.mem_append_left _ h)
theorem lw_m2 : ∀ w ∈ tables_1_2, w ∈ lw_tbl := fun w h => show w ∈ k2_sels lw_privs ++ tables_1 from List.mem_append_right (k2_sels lw_privs) (show w ∈ tables_1 from List.mem_append_right _ h)
theorem qs0 : (Cond.selects "TourSolver" ⟨"TourSolver", "isCouple", "(II)Z"⟩ ⟨"TourSolver", "isCouple", "(II)Z"⟩) ∈ lw_all := lw_g (lw_at lw_ms 0 rfl) rfl
theorem qs1 : (Cond.selects "TourSolver" ⟨"TourSolver", "isTown", "(I)Z"⟩ ⟨"TourSolver", "isTown", "(I)Z"⟩) ∈ lw_all := lw_g (lw_at lw_ms 1 rfl) rfl
theorem qs2 : (Cond.selects "TourSolver" ⟨"TourSolver", "loadPrices", "()V"⟩ ⟨"TourSolver", "loadPrices", "()V"⟩) ∈ lw_all := lw_g (lw_at lw_ms 2 rfl) rfl
theorem qs3 : (Cond.selects "TourSolver" ⟨"TourSolver", "solve", "(II)V"⟩ ⟨"TourSolver", "solve", "(II)V"⟩) ∈ lw_all := lw_g (lw_at lw_ms 3 rfl) rfl
theorem qs4 : (Cond.selects "TourSolver" ⟨"TourSolver", "offer", "(II)V"⟩ ⟨"TourSolver", "offer", "(II)V"⟩) ∈ lw_all := lw_g (lw_at lw_ms 4 rfl) rfl
theorem qs5 : (Cond.selects "TourSolver" ⟨"TourSolver", "freed", "(I)I"⟩ ⟨"TourSolver", "freed", "(I)I"⟩) ∈ lw_all := lw_g (lw_at lw_ms 5 rfl) rfl
theorem qs6 : (Cond.selects "TourSolver" ⟨"TourSolver", "nextTown", "(II)I"⟩ ⟨"TourSolver", "nextTown", "(II)I"⟩) ∈ lw_all := lw_g (lw_at lw_ms 6 rfl) rfl
theorem qs7 : (Cond.selects "TourSolver" ⟨"TourSolver", "atLeast", "(II)I"⟩ ⟨"TourSolver", "atLeast", "(II)I"⟩) ∈ lw_all := lw_g (lw_at lw_ms 7 rfl) rfl
theorem qs8 : (Cond.selects "TourSolver" ⟨"TourSolver", "growNet", "(IIZ)I"⟩ ⟨"TourSolver", "growNet", "(IIZ)I"⟩) ∈ lw_all := lw_g (lw_at lw_ms 8 rfl) rfl
theorem qs9 : (Cond.selects "TourSolver" ⟨"TourSolver", "nearestOf", "(I)I"⟩ ⟨"TourSolver", "nearestOf", "(I)I"⟩) ∈ lw_all := lw_g (lw_at lw_ms 9 rfl) rfl
theorem qs10 : (Cond.selects "TourSolver" ⟨"TourSolver", "price", "(III)V"⟩ ⟨"TourSolver", "price", "(III)V"⟩) ∈ lw_all := lw_g (lw_at lw_ms 10 rfl) rfl
theorem qs11 : (Cond.selects "TourSolverModel" ⟨"TourSolverModel", "lengthen", "(I)V"⟩ ⟨"TourSolverModel", "lengthen", "(I)V"⟩) ∈ lw_all := lw_g (lw_at lw_ms 11 rfl) rfl
theorem qs12 : (Cond.selects "TourSolverModel" ⟨"TourSolverModel", "isCouple", "(II)Z"⟩ ⟨"TourSolverModel", "isCouple", "(II)Z"⟩) ∈ lw_all := lw_g (lw_at lw_ms 12 rfl) rfl
theorem qs13 : (Cond.selects "TourSolverModel" ⟨"TourSolverModel", "isTown", "(I)Z"⟩ ⟨"TourSolverModel", "isTown", "(I)Z"⟩) ∈ lw_all := lw_g (lw_at lw_ms 13 rfl) rfl
theorem qs14 : (Cond.selects "TourSolverModel" ⟨"TourSolverModel", "put", "(III)V"⟩ ⟨"TourSolverModel", "put", "(III)V"⟩) ∈ lw_all := lw_g (lw_at lw_ms 14 rfl) rfl
theorem qs15 : (Cond.selects "TourSolverModel" ⟨"TourSolverModel", "best", "()I"⟩ ⟨"TourSolverModel", "best", "()I"⟩) ∈ lw_all := lw_g (lw_at lw_ms 15 rfl) rfl
theorem qs16 : (Cond.selects "TourSolverModel" ⟨"TourSolverModel", "sum", "(I)I"⟩ ⟨"TourSolverModel", "sum", "(I)I"⟩) ∈ lw_all := lw_g (lw_at lw_ms 16 rfl) rfl
theorem qs17 : (Cond.selects "TourSolverModel" ⟨"TourSolverModel", "placeOf", "(II)I"⟩ ⟨"TourSolverModel", "placeOf", "(II)I"⟩) ∈ lw_all := lw_g (lw_at lw_ms 17 rfl) rfl
theorem qs18 : (Cond.selects "TourSolverModel" ⟨"TourSolverModel", "least", "(IIZ)I"⟩ ⟨"TourSolverModel", "least", "(IIZ)I"⟩) ∈ lw_all := lw_g (lw_at lw_ms 18 rfl) rfl
theorem qs19 : (Cond.selects "TourSolverModel" ⟨"TourSolverModel", "uses", "(III)Z"⟩ ⟨"TourSolverModel", "uses", "(III)Z"⟩) ∈ lw_all := lw_g (lw_at lw_ms 19 rfl) rfl
theorem qs20 : (Cond.selects "TourSolverModel" ⟨"TourSolverModel", "parts", "(I)I"⟩ ⟨"TourSolverModel", "parts", "(I)I"⟩) ∈ lw_all := lw_g (lw_at lw_ms 20 rfl) rfl
end
section
/-! TourSolver -/
set_option maxRecDepth 100000
def RX1 : String := "TourSolver"
def TX1 : u_T := fun k => match k with
  | 0 => ("TourSolver", "townCount", "I", false)
  | 1 => ("TourSolver", "lengths", "[I", true)
  | 2 => ("TourSolver", "goal", "I", false)
  | 3 => ("TourSolver", "priced", "[I", true)
  | 4 => ("TourSolver", "path", "[B", true)
  | 5 => ("TourSolver", "lengthAt", "[I", true)
  | 6 => ("TourSolver", "nextTry", "[B", true)
  | 7 => ("TourSolver", "best", "I", false)
  | 8 => ("TourSolver", "bestCount", "I", false)
  | 9 => ("TourSolver", "bestPath", "[B", true)
  | _ => ("TourSolver", "nearest", "[I", true)
def tyX1 : Nat → FieldType := fun k => match k with
  | 0 => .int
  | 1 => .array .int
  | 2 => .int
  | 3 => .array .int
  | 4 => .array .byte
  | 5 => .array .int
  | 6 => .array .byte
  | 7 => .int
  | 8 => .int
  | 9 => .array .byte
  | _ => .array .int
abbrev wsX10 : List Cond := u_ws RX1 TX1 11
theorem nmX1 : ∀ a, a < 11 → ∀ b, b < 11 → a ≠ b → (TX1 a).2.1 ≠ (TX1 b).2.1 := by decide +kernel
theorem tyX1_ok : ∀ k, k < 11 → parseFieldDescriptor (TX1 k).2.2.1 = some (tyX1 k) := by decide +kernel
abbrev cX1_init : ByteArray := prog_1_method_1_code
def yX1_init : MethodName := ⟨RX1, "<init>", "(I)V"⟩
theorem dX1_init_0 : decode cX1_init 0 = .ok (.aload_n 0, 1) := by decide +kernel
theorem dX1_init_1 : decode cX1_init 1 = .ok (.invokespecial 1, 3) := by decide +kernel
theorem dX1_init_4 : decode cX1_init 4 = .ok (.aload_n 0, 1) := by decide +kernel
theorem dX1_init_5 : decode cX1_init 5 = .ok (.bipush 49, 2) := by decide +kernel
theorem dX1_init_7 : decode cX1_init 7 = .ok (.newarray .int, 2) := by decide +kernel
theorem dX1_init_9 : decode cX1_init 9 = .ok (.putfield 7, 3) := by decide +kernel
theorem dX1_init_12 : decode cX1_init 12 = .ok (.aload_n 0, 1) := by decide +kernel
theorem dX1_init_13 : decode cX1_init 13 = .ok (.bipush 49, 2) := by decide +kernel
theorem dX1_init_15 : decode cX1_init 15 = .ok (.newarray .int, 2) := by decide +kernel
theorem dX1_init_17 : decode cX1_init 17 = .ok (.putfield 13, 3) := by decide +kernel
theorem dX1_init_20 : decode cX1_init 20 = .ok (.aload_n 0, 1) := by decide +kernel
theorem dX1_init_21 : decode cX1_init 21 = .ok (.bipush 8, 2) := by decide +kernel
theorem dX1_init_23 : decode cX1_init 23 = .ok (.newarray .byte, 2) := by decide +kernel
theorem dX1_init_25 : decode cX1_init 25 = .ok (.putfield 16, 3) := by decide +kernel
theorem dX1_init_28 : decode cX1_init 28 = .ok (.aload_n 0, 1) := by decide +kernel
theorem dX1_init_29 : decode cX1_init 29 = .ok (.bipush 8, 2) := by decide +kernel
theorem dX1_init_31 : decode cX1_init 31 = .ok (.newarray .int, 2) := by decide +kernel
theorem dX1_init_33 : decode cX1_init 33 = .ok (.putfield 20, 3) := by decide +kernel
theorem dX1_init_36 : decode cX1_init 36 = .ok (.aload_n 0, 1) := by decide +kernel
theorem dX1_init_37 : decode cX1_init 37 = .ok (.bipush 8, 2) := by decide +kernel
theorem dX1_init_39 : decode cX1_init 39 = .ok (.newarray .byte, 2) := by decide +kernel
theorem dX1_init_41 : decode cX1_init 41 = .ok (.putfield 23, 3) := by decide +kernel
theorem dX1_init_44 : decode cX1_init 44 = .ok (.aload_n 0, 1) := by decide +kernel
theorem dX1_init_45 : decode cX1_init 45 = .ok (.bipush 8, 2) := by decide +kernel
theorem dX1_init_47 : decode cX1_init 47 = .ok (.newarray .byte, 2) := by decide +kernel
theorem dX1_init_49 : decode cX1_init 49 = .ok (.putfield 26, 3) := by decide +kernel
theorem dX1_init_52 : decode cX1_init 52 = .ok (.aload_n 0, 1) := by decide +kernel
theorem dX1_init_53 : decode cX1_init 53 = .ok (.bipush 7, 2) := by decide +kernel
theorem dX1_init_55 : decode cX1_init 55 = .ok (.newarray .int, 2) := by decide +kernel
theorem dX1_init_57 : decode cX1_init 57 = .ok (.putfield 29, 3) := by decide +kernel
theorem dX1_init_60 : decode cX1_init 60 = .ok (.aload_n 0, 1) := by decide +kernel
theorem dX1_init_61 : decode cX1_init 61 = .ok (.iload_n 1, 1) := by decide +kernel
theorem dX1_init_62 : decode cX1_init 62 = .ok (.iconst 3, 1) := by decide +kernel
theorem dX1_init_63 : decode cX1_init 63 = .ok (.if_icmp .ge 7, 3) := by decide +kernel
theorem dX1_init_66 : decode cX1_init 66 = .ok (.iconst 3, 1) := by decide +kernel
theorem dX1_init_67 : decode cX1_init 67 = .ok (.goto 15, 3) := by decide +kernel
theorem dX1_init_70 : decode cX1_init 70 = .ok (.iload_n 1, 1) := by decide +kernel
theorem dX1_init_71 : decode cX1_init 71 = .ok (.bipush 7, 2) := by decide +kernel
theorem dX1_init_73 : decode cX1_init 73 = .ok (.if_icmp .le 8, 3) := by decide +kernel
theorem dX1_init_76 : decode cX1_init 76 = .ok (.bipush 7, 2) := by decide +kernel
theorem dX1_init_78 : decode cX1_init 78 = .ok (.goto 4, 3) := by decide +kernel
theorem dX1_init_81 : decode cX1_init 81 = .ok (.iload_n 1, 1) := by decide +kernel
theorem dX1_init_82 : decode cX1_init 82 = .ok (.putfield 32, 3) := by decide +kernel
theorem dX1_init_85 : decode cX1_init 85 = .ok (.iconst 0, 1) := by decide +kernel
theorem dX1_init_86 : decode cX1_init 86 = .ok (.istore_n 2, 1) := by decide +kernel
theorem dX1_init_87 : decode cX1_init 87 = .ok (.iload_n 2, 1) := by decide +kernel
theorem dX1_init_88 : decode cX1_init 88 = .ok (.bipush 49, 2) := by decide +kernel
theorem dX1_init_90 : decode cX1_init 90 = .ok (.if_icmp .ge 17, 3) := by decide +kernel
theorem dX1_init_93 : decode cX1_init 93 = .ok (.aload_n 0, 1) := by decide +kernel
theorem dX1_init_94 : decode cX1_init 94 = .ok (.getfield 7, 3) := by decide +kernel
theorem dX1_init_97 : decode cX1_init 97 = .ok (.iload_n 2, 1) := by decide +kernel
theorem dX1_init_98 : decode cX1_init 98 = .ok (.bipush 60, 2) := by decide +kernel
theorem dX1_init_100 : decode cX1_init 100 = .ok (.iastore, 1) := by decide +kernel
theorem dX1_init_101 : decode cX1_init 101 = .ok (.iinc 2 1, 3) := by decide +kernel
theorem dX1_init_104 : decode cX1_init 104 = .ok (.goto (-17), 3) := by decide +kernel
theorem dX1_init_107 : decode cX1_init 107 = .ok (.return_, 1) := by decide +kernel
abbrev cX1_road : ByteArray := prog_1_method_2_code
def yX1_road : MethodName := ⟨RX1, "road", "(III)Z"⟩
theorem dX1_road_0 : decode cX1_road 0 = .ok (.aload_n 0, 1) := by decide +kernel
theorem dX1_road_1 : decode cX1_road 1 = .ok (.iload_n 1, 1) := by decide +kernel
theorem dX1_road_2 : decode cX1_road 2 = .ok (.iload_n 2, 1) := by decide +kernel
theorem dX1_road_3 : decode cX1_road 3 = .ok (.invokevirtual 36, 3) := by decide +kernel
theorem dX1_road_6 : decode cX1_road 6 = .ok (.ifCond .eq 13, 3) := by decide +kernel
theorem dX1_road_9 : decode cX1_road 9 = .ok (.iload_n 3, 1) := by decide +kernel
theorem dX1_road_10 : decode cX1_road 10 = .ok (.ifCond .lt 9, 3) := by decide +kernel
theorem dX1_road_13 : decode cX1_road 13 = .ok (.iload_n 3, 1) := by decide +kernel
theorem dX1_road_14 : decode cX1_road 14 = .ok (.bipush 60, 2) := by decide +kernel
theorem dX1_road_16 : decode cX1_road 16 = .ok (.if_icmp .le 5, 3) := by decide +kernel
theorem dX1_road_19 : decode cX1_road 19 = .ok (.iconst 0, 1) := by decide +kernel
theorem dX1_road_20 : decode cX1_road 20 = .ok (.ireturn, 1) := by decide +kernel
theorem dX1_road_21 : decode cX1_road 21 = .ok (.aload_n 0, 1) := by decide +kernel
theorem dX1_road_22 : decode cX1_road 22 = .ok (.getfield 7, 3) := by decide +kernel
theorem dX1_road_25 : decode cX1_road 25 = .ok (.bipush 7, 2) := by decide +kernel
theorem dX1_road_27 : decode cX1_road 27 = .ok (.iload_n 1, 1) := by decide +kernel
theorem dX1_road_28 : decode cX1_road 28 = .ok (.imul, 1) := by decide +kernel
theorem dX1_road_29 : decode cX1_road 29 = .ok (.iload_n 2, 1) := by decide +kernel
theorem dX1_road_30 : decode cX1_road 30 = .ok (.iadd, 1) := by decide +kernel
theorem dX1_road_31 : decode cX1_road 31 = .ok (.iload_n 3, 1) := by decide +kernel
theorem dX1_road_32 : decode cX1_road 32 = .ok (.iastore, 1) := by decide +kernel
theorem dX1_road_33 : decode cX1_road 33 = .ok (.aload_n 0, 1) := by decide +kernel
theorem dX1_road_34 : decode cX1_road 34 = .ok (.getfield 7, 3) := by decide +kernel
theorem dX1_road_37 : decode cX1_road 37 = .ok (.bipush 7, 2) := by decide +kernel
theorem dX1_road_39 : decode cX1_road 39 = .ok (.iload_n 2, 1) := by decide +kernel
theorem dX1_road_40 : decode cX1_road 40 = .ok (.imul, 1) := by decide +kernel
theorem dX1_road_41 : decode cX1_road 41 = .ok (.iload_n 1, 1) := by decide +kernel
theorem dX1_road_42 : decode cX1_road 42 = .ok (.iadd, 1) := by decide +kernel
theorem dX1_road_43 : decode cX1_road 43 = .ok (.iload_n 3, 1) := by decide +kernel
theorem dX1_road_44 : decode cX1_road 44 = .ok (.iastore, 1) := by decide +kernel
theorem dX1_road_45 : decode cX1_road 45 = .ok (.iconst 1, 1) := by decide +kernel
theorem dX1_road_46 : decode cX1_road 46 = .ok (.ireturn, 1) := by decide +kernel
abbrev cX1_isCouple : ByteArray := prog_1_method_4_code
def yX1_isCouple : MethodName := ⟨RX1, "isCouple", "(II)Z"⟩
theorem dX1_isCouple_0 : decode cX1_isCouple 0 = .ok (.aload_n 0, 1) := by decide +kernel
theorem dX1_isCouple_1 : decode cX1_isCouple 1 = .ok (.iload_n 1, 1) := by decide +kernel
theorem dX1_isCouple_2 : decode cX1_isCouple 2 = .ok (.invokevirtual 40, 3) := by decide +kernel
theorem dX1_isCouple_5 : decode cX1_isCouple 5 = .ok (.ifCond .eq 20, 3) := by decide +kernel
theorem dX1_isCouple_8 : decode cX1_isCouple 8 = .ok (.aload_n 0, 1) := by decide +kernel
theorem dX1_isCouple_9 : decode cX1_isCouple 9 = .ok (.iload_n 2, 1) := by decide +kernel
theorem dX1_isCouple_10 : decode cX1_isCouple 10 = .ok (.invokevirtual 40, 3) := by decide +kernel
theorem dX1_isCouple_13 : decode cX1_isCouple 13 = .ok (.ifCond .eq 12, 3) := by decide +kernel
theorem dX1_isCouple_16 : decode cX1_isCouple 16 = .ok (.iload_n 1, 1) := by decide +kernel
theorem dX1_isCouple_17 : decode cX1_isCouple 17 = .ok (.iload_n 2, 1) := by decide +kernel
theorem dX1_isCouple_18 : decode cX1_isCouple 18 = .ok (.if_icmp .eq 7, 3) := by decide +kernel
theorem dX1_isCouple_21 : decode cX1_isCouple 21 = .ok (.iconst 1, 1) := by decide +kernel
theorem dX1_isCouple_22 : decode cX1_isCouple 22 = .ok (.goto 4, 3) := by decide +kernel
theorem dX1_isCouple_25 : decode cX1_isCouple 25 = .ok (.iconst 0, 1) := by decide +kernel
theorem dX1_isCouple_26 : decode cX1_isCouple 26 = .ok (.ireturn, 1) := by decide +kernel
abbrev cX1_isTown : ByteArray := prog_1_method_3_code
def yX1_isTown : MethodName := ⟨RX1, "isTown", "(I)Z"⟩
theorem dX1_isTown_0 : decode cX1_isTown 0 = .ok (.iload_n 1, 1) := by decide +kernel
theorem dX1_isTown_1 : decode cX1_isTown 1 = .ok (.ifCond .lt 15, 3) := by decide +kernel
theorem dX1_isTown_4 : decode cX1_isTown 4 = .ok (.iload_n 1, 1) := by decide +kernel
theorem dX1_isTown_5 : decode cX1_isTown 5 = .ok (.aload_n 0, 1) := by decide +kernel
theorem dX1_isTown_6 : decode cX1_isTown 6 = .ok (.getfield 32, 3) := by decide +kernel
theorem dX1_isTown_9 : decode cX1_isTown 9 = .ok (.if_icmp .ge 7, 3) := by decide +kernel
theorem dX1_isTown_12 : decode cX1_isTown 12 = .ok (.iconst 1, 1) := by decide +kernel
theorem dX1_isTown_13 : decode cX1_isTown 13 = .ok (.goto 4, 3) := by decide +kernel
theorem dX1_isTown_16 : decode cX1_isTown 16 = .ok (.iconst 0, 1) := by decide +kernel
theorem dX1_isTown_17 : decode cX1_isTown 17 = .ok (.ireturn, 1) := by decide +kernel
abbrev cX1_shortest : ByteArray := prog_1_method_7_code
def yX1_shortest : MethodName := ⟨RX1, "shortest", "()I"⟩
theorem dX1_shortest_0 : decode cX1_shortest 0 = .ok (.aload_n 0, 1) := by decide +kernel
theorem dX1_shortest_1 : decode cX1_shortest 1 = .ok (.invokevirtual 44, 3) := by decide +kernel
theorem dX1_shortest_4 : decode cX1_shortest 4 = .ok (.aload_n 0, 1) := by decide +kernel
theorem dX1_shortest_5 : decode cX1_shortest 5 = .ok (.iconst 0, 1) := by decide +kernel
theorem dX1_shortest_6 : decode cX1_shortest 6 = .ok (.iconst 0, 1) := by decide +kernel
theorem dX1_shortest_7 : decode cX1_shortest 7 = .ok (.invokevirtual 47, 3) := by decide +kernel
theorem dX1_shortest_10 : decode cX1_shortest 10 = .ok (.aload_n 0, 1) := by decide +kernel
theorem dX1_shortest_11 : decode cX1_shortest 11 = .ok (.getfield 51, 3) := by decide +kernel
theorem dX1_shortest_14 : decode cX1_shortest 14 = .ok (.ireturn, 1) := by decide +kernel
abbrev cX1_loadPrices : ByteArray := prog_1_method_5_code
def yX1_loadPrices : MethodName := ⟨RX1, "loadPrices", "()V"⟩
theorem dX1_loadPrices_0 : decode cX1_loadPrices 0 = .ok (.iconst 0, 1) := by decide +kernel
theorem dX1_loadPrices_1 : decode cX1_loadPrices 1 = .ok (.istore_n 1, 1) := by decide +kernel
theorem dX1_loadPrices_2 : decode cX1_loadPrices 2 = .ok (.iload_n 1, 1) := by decide +kernel
theorem dX1_loadPrices_3 : decode cX1_loadPrices 3 = .ok (.bipush 49, 2) := by decide +kernel
theorem dX1_loadPrices_5 : decode cX1_loadPrices 5 = .ok (.if_icmp .ge 21, 3) := by decide +kernel
theorem dX1_loadPrices_8 : decode cX1_loadPrices 8 = .ok (.aload_n 0, 1) := by decide +kernel
theorem dX1_loadPrices_9 : decode cX1_loadPrices 9 = .ok (.getfield 13, 3) := by decide +kernel
theorem dX1_loadPrices_12 : decode cX1_loadPrices 12 = .ok (.iload_n 1, 1) := by decide +kernel
theorem dX1_loadPrices_13 : decode cX1_loadPrices 13 = .ok (.aload_n 0, 1) := by decide +kernel
theorem dX1_loadPrices_14 : decode cX1_loadPrices 14 = .ok (.getfield 7, 3) := by decide +kernel
theorem dX1_loadPrices_17 : decode cX1_loadPrices 17 = .ok (.iload_n 1, 1) := by decide +kernel
theorem dX1_loadPrices_18 : decode cX1_loadPrices 18 = .ok (.iaload, 1) := by decide +kernel
theorem dX1_loadPrices_19 : decode cX1_loadPrices 19 = .ok (.iastore, 1) := by decide +kernel
theorem dX1_loadPrices_20 : decode cX1_loadPrices 20 = .ok (.iinc 1 1, 3) := by decide +kernel
theorem dX1_loadPrices_23 : decode cX1_loadPrices 23 = .ok (.goto (-21), 3) := by decide +kernel
theorem dX1_loadPrices_26 : decode cX1_loadPrices 26 = .ok (.return_, 1) := by decide +kernel
abbrev cX1_solve : ByteArray := prog_1_method_19_code
def yX1_solve : MethodName := ⟨RX1, "solve", "(II)V"⟩
theorem dX1_solve_0 : decode cX1_solve 0 = .ok (.aload_n 0, 1) := by decide +kernel
theorem dX1_solve_1 : decode cX1_solve 1 = .ok (.iload_n 2, 1) := by decide +kernel
theorem dX1_solve_2 : decode cX1_solve 2 = .ok (.putfield 77, 3) := by decide +kernel
theorem dX1_solve_5 : decode cX1_solve 5 = .ok (.aload_n 0, 1) := by decide +kernel
theorem dX1_solve_6 : decode cX1_solve 6 = .ok (.ldc 80, 2) := by decide +kernel
theorem dX1_solve_8 : decode cX1_solve 8 = .ok (.putfield 51, 3) := by decide +kernel
theorem dX1_solve_11 : decode cX1_solve 11 = .ok (.aload_n 0, 1) := by decide +kernel
theorem dX1_solve_12 : decode cX1_solve 12 = .ok (.iconst 0, 1) := by decide +kernel
theorem dX1_solve_13 : decode cX1_solve 13 = .ok (.putfield 58, 3) := by decide +kernel
theorem dX1_solve_16 : decode cX1_solve 16 = .ok (.iload_n 1, 1) := by decide +kernel
theorem dX1_solve_17 : decode cX1_solve 17 = .ok (.iload_n 2, 1) := by decide +kernel
theorem dX1_solve_18 : decode cX1_solve 18 = .ok (.if_icmp .ne 10, 3) := by decide +kernel
theorem dX1_solve_21 : decode cX1_solve 21 = .ok (.aload_n 0, 1) := by decide +kernel
theorem dX1_solve_22 : decode cX1_solve 22 = .ok (.getfield 32, 3) := by decide +kernel
theorem dX1_solve_25 : decode cX1_solve 25 = .ok (.goto 9, 3) := by decide +kernel
theorem dX1_solve_28 : decode cX1_solve 28 = .ok (.aload_n 0, 1) := by decide +kernel
theorem dX1_solve_29 : decode cX1_solve 29 = .ok (.getfield 32, 3) := by decide +kernel
theorem dX1_solve_32 : decode cX1_solve 32 = .ok (.iconst 1, 1) := by decide +kernel
theorem dX1_solve_33 : decode cX1_solve 33 = .ok (.isub, 1) := by decide +kernel
theorem dX1_solve_34 : decode cX1_solve 34 = .ok (.istore_n 3, 1) := by decide +kernel
theorem dX1_solve_35 : decode cX1_solve 35 = .ok (.aload_n 0, 1) := by decide +kernel
theorem dX1_solve_36 : decode cX1_solve 36 = .ok (.getfield 16, 3) := by decide +kernel
theorem dX1_solve_39 : decode cX1_solve 39 = .ok (.iconst 0, 1) := by decide +kernel
theorem dX1_solve_40 : decode cX1_solve 40 = .ok (.iload_n 1, 1) := by decide +kernel
theorem dX1_solve_41 : decode cX1_solve 41 = .ok (.i2b, 1) := by decide +kernel
theorem dX1_solve_42 : decode cX1_solve 42 = .ok (.bastore, 1) := by decide +kernel
theorem dX1_solve_43 : decode cX1_solve 43 = .ok (.aload_n 0, 1) := by decide +kernel
theorem dX1_solve_44 : decode cX1_solve 44 = .ok (.getfield 20, 3) := by decide +kernel
theorem dX1_solve_47 : decode cX1_solve 47 = .ok (.iconst 0, 1) := by decide +kernel
theorem dX1_solve_48 : decode cX1_solve 48 = .ok (.iconst 0, 1) := by decide +kernel
theorem dX1_solve_49 : decode cX1_solve 49 = .ok (.iastore, 1) := by decide +kernel
theorem dX1_solve_50 : decode cX1_solve 50 = .ok (.aload_n 0, 1) := by decide +kernel
theorem dX1_solve_51 : decode cX1_solve 51 = .ok (.getfield 23, 3) := by decide +kernel
theorem dX1_solve_54 : decode cX1_solve 54 = .ok (.iconst 0, 1) := by decide +kernel
theorem dX1_solve_55 : decode cX1_solve 55 = .ok (.iconst 0, 1) := by decide +kernel
theorem dX1_solve_56 : decode cX1_solve 56 = .ok (.bastore, 1) := by decide +kernel
theorem dX1_solve_57 : decode cX1_solve 57 = .ok (.iconst 0, 1) := by decide +kernel
theorem dX1_solve_58 : decode cX1_solve 58 = .ok (.istore 4, 2) := by decide +kernel
theorem dX1_solve_60 : decode cX1_solve 60 = .ok (.iconst 1, 1) := by decide +kernel
theorem dX1_solve_61 : decode cX1_solve 61 = .ok (.aload_n 0, 1) := by decide +kernel
theorem dX1_solve_62 : decode cX1_solve 62 = .ok (.getfield 32, 3) := by decide +kernel
theorem dX1_solve_65 : decode cX1_solve 65 = .ok (.ishl, 1) := by decide +kernel
theorem dX1_solve_66 : decode cX1_solve 66 = .ok (.iconst 1, 1) := by decide +kernel
theorem dX1_solve_67 : decode cX1_solve 67 = .ok (.isub, 1) := by decide +kernel
theorem dX1_solve_68 : decode cX1_solve 68 = .ok (.iconst 1, 1) := by decide +kernel
theorem dX1_solve_69 : decode cX1_solve 69 = .ok (.iload_n 1, 1) := by decide +kernel
theorem dX1_solve_70 : decode cX1_solve 70 = .ok (.ishl, 1) := by decide +kernel
theorem dX1_solve_71 : decode cX1_solve 71 = .ok (.iconst (-1), 1) := by decide +kernel
theorem dX1_solve_72 : decode cX1_solve 72 = .ok (.ixor, 1) := by decide +kernel
theorem dX1_solve_73 : decode cX1_solve 73 = .ok (.iand, 1) := by decide +kernel
theorem dX1_solve_74 : decode cX1_solve 74 = .ok (.iconst 1, 1) := by decide +kernel
theorem dX1_solve_75 : decode cX1_solve 75 = .ok (.iload_n 2, 1) := by decide +kernel
theorem dX1_solve_76 : decode cX1_solve 76 = .ok (.ishl, 1) := by decide +kernel
theorem dX1_solve_77 : decode cX1_solve 77 = .ok (.iconst (-1), 1) := by decide +kernel
theorem dX1_solve_78 : decode cX1_solve 78 = .ok (.ixor, 1) := by decide +kernel
theorem dX1_solve_79 : decode cX1_solve 79 = .ok (.iand, 1) := by decide +kernel
theorem dX1_solve_80 : decode cX1_solve 80 = .ok (.istore 5, 2) := by decide +kernel
theorem dX1_solve_82 : decode cX1_solve 82 = .ok (.iload 4, 2) := by decide +kernel
theorem dX1_solve_84 : decode cX1_solve 84 = .ok (.ifCond .lt 210, 3) := by decide +kernel
theorem dX1_solve_87 : decode cX1_solve 87 = .ok (.iload 4, 2) := by decide +kernel
theorem dX1_solve_89 : decode cX1_solve 89 = .ok (.iload_n 3, 1) := by decide +kernel
theorem dX1_solve_90 : decode cX1_solve 90 = .ok (.iconst 1, 1) := by decide +kernel
theorem dX1_solve_91 : decode cX1_solve 91 = .ok (.isub, 1) := by decide +kernel
theorem dX1_solve_92 : decode cX1_solve 92 = .ok (.if_icmp .ne 57, 3) := by decide +kernel
theorem dX1_solve_95 : decode cX1_solve 95 = .ok (.aload_n 0, 1) := by decide +kernel
theorem dX1_solve_96 : decode cX1_solve 96 = .ok (.getfield 20, 3) := by decide +kernel
theorem dX1_solve_99 : decode cX1_solve 99 = .ok (.iload 4, 2) := by decide +kernel
theorem dX1_solve_101 : decode cX1_solve 101 = .ok (.iaload, 1) := by decide +kernel
theorem dX1_solve_102 : decode cX1_solve 102 = .ok (.aload_n 0, 1) := by decide +kernel
theorem dX1_solve_103 : decode cX1_solve 103 = .ok (.getfield 13, 3) := by decide +kernel
theorem dX1_solve_106 : decode cX1_solve 106 = .ok (.bipush 7, 2) := by decide +kernel
theorem dX1_solve_108 : decode cX1_solve 108 = .ok (.aload_n 0, 1) := by decide +kernel
theorem dX1_solve_109 : decode cX1_solve 109 = .ok (.getfield 16, 3) := by decide +kernel
theorem dX1_solve_112 : decode cX1_solve 112 = .ok (.iload 4, 2) := by decide +kernel
theorem dX1_solve_114 : decode cX1_solve 114 = .ok (.baload, 1) := by decide +kernel
theorem dX1_solve_115 : decode cX1_solve 115 = .ok (.imul, 1) := by decide +kernel
theorem dX1_solve_116 : decode cX1_solve 116 = .ok (.aload_n 0, 1) := by decide +kernel
theorem dX1_solve_117 : decode cX1_solve 117 = .ok (.getfield 77, 3) := by decide +kernel
theorem dX1_solve_120 : decode cX1_solve 120 = .ok (.iadd, 1) := by decide +kernel
theorem dX1_solve_121 : decode cX1_solve 121 = .ok (.iaload, 1) := by decide +kernel
theorem dX1_solve_122 : decode cX1_solve 122 = .ok (.iadd, 1) := by decide +kernel
theorem dX1_solve_123 : decode cX1_solve 123 = .ok (.istore 6, 2) := by decide +kernel
theorem dX1_solve_125 : decode cX1_solve 125 = .ok (.aload_n 0, 1) := by decide +kernel
theorem dX1_solve_126 : decode cX1_solve 126 = .ok (.iload 6, 2) := by decide +kernel
theorem dX1_solve_128 : decode cX1_solve 128 = .ok (.iload_n 3, 1) := by decide +kernel
theorem dX1_solve_129 : decode cX1_solve 129 = .ok (.invokevirtual 81, 3) := by decide +kernel
theorem dX1_solve_132 : decode cX1_solve 132 = .ok (.iload 5, 2) := by decide +kernel
theorem dX1_solve_134 : decode cX1_solve 134 = .ok (.aload_n 0, 1) := by decide +kernel
theorem dX1_solve_135 : decode cX1_solve 135 = .ok (.iload 4, 2) := by decide +kernel
theorem dX1_solve_137 : decode cX1_solve 137 = .ok (.invokevirtual 84, 3) := by decide +kernel
theorem dX1_solve_140 : decode cX1_solve 140 = .ok (.ior, 1) := by decide +kernel
theorem dX1_solve_141 : decode cX1_solve 141 = .ok (.istore 5, 2) := by decide +kernel
theorem dX1_solve_143 : decode cX1_solve 143 = .ok (.iinc 4 (-1), 3) := by decide +kernel
theorem dX1_solve_146 : decode cX1_solve 146 = .ok (.goto (-64), 3) := by decide +kernel
theorem dX1_solve_149 : decode cX1_solve 149 = .ok (.aload_n 0, 1) := by decide +kernel
theorem dX1_solve_150 : decode cX1_solve 150 = .ok (.iload 4, 2) := by decide +kernel
theorem dX1_solve_152 : decode cX1_solve 152 = .ok (.iload 5, 2) := by decide +kernel
theorem dX1_solve_154 : decode cX1_solve 154 = .ok (.invokevirtual 87, 3) := by decide +kernel
theorem dX1_solve_157 : decode cX1_solve 157 = .ok (.istore 6, 2) := by decide +kernel
theorem dX1_solve_159 : decode cX1_solve 159 = .ok (.iload 6, 2) := by decide +kernel
theorem dX1_solve_161 : decode cX1_solve 161 = .ok (.ifCond .ge 20, 3) := by decide +kernel
theorem dX1_solve_164 : decode cX1_solve 164 = .ok (.iload 5, 2) := by decide +kernel
theorem dX1_solve_166 : decode cX1_solve 166 = .ok (.aload_n 0, 1) := by decide +kernel
theorem dX1_solve_167 : decode cX1_solve 167 = .ok (.iload 4, 2) := by decide +kernel
theorem dX1_solve_169 : decode cX1_solve 169 = .ok (.invokevirtual 84, 3) := by decide +kernel
theorem dX1_solve_172 : decode cX1_solve 172 = .ok (.ior, 1) := by decide +kernel
theorem dX1_solve_173 : decode cX1_solve 173 = .ok (.istore 5, 2) := by decide +kernel
theorem dX1_solve_175 : decode cX1_solve 175 = .ok (.iinc 4 (-1), 3) := by decide +kernel
theorem dX1_solve_178 : decode cX1_solve 178 = .ok (.goto (-96), 3) := by decide +kernel
theorem dX1_solve_181 : decode cX1_solve 181 = .ok (.aload_n 0, 1) := by decide +kernel
theorem dX1_solve_182 : decode cX1_solve 182 = .ok (.getfield 23, 3) := by decide +kernel
theorem dX1_solve_185 : decode cX1_solve 185 = .ok (.iload 4, 2) := by decide +kernel
theorem dX1_solve_187 : decode cX1_solve 187 = .ok (.iload 6, 2) := by decide +kernel
theorem dX1_solve_189 : decode cX1_solve 189 = .ok (.iconst 1, 1) := by decide +kernel
theorem dX1_solve_190 : decode cX1_solve 190 = .ok (.iadd, 1) := by decide +kernel
theorem dX1_solve_191 : decode cX1_solve 191 = .ok (.i2b, 1) := by decide +kernel
theorem dX1_solve_192 : decode cX1_solve 192 = .ok (.bastore, 1) := by decide +kernel
theorem dX1_solve_193 : decode cX1_solve 193 = .ok (.aload_n 0, 1) := by decide +kernel
theorem dX1_solve_194 : decode cX1_solve 194 = .ok (.getfield 20, 3) := by decide +kernel
theorem dX1_solve_197 : decode cX1_solve 197 = .ok (.iload 4, 2) := by decide +kernel
theorem dX1_solve_199 : decode cX1_solve 199 = .ok (.iaload, 1) := by decide +kernel
theorem dX1_solve_200 : decode cX1_solve 200 = .ok (.aload_n 0, 1) := by decide +kernel
theorem dX1_solve_201 : decode cX1_solve 201 = .ok (.getfield 13, 3) := by decide +kernel
theorem dX1_solve_204 : decode cX1_solve 204 = .ok (.bipush 7, 2) := by decide +kernel
theorem dX1_solve_206 : decode cX1_solve 206 = .ok (.aload_n 0, 1) := by decide +kernel
theorem dX1_solve_207 : decode cX1_solve 207 = .ok (.getfield 16, 3) := by decide +kernel
theorem dX1_solve_210 : decode cX1_solve 210 = .ok (.iload 4, 2) := by decide +kernel
theorem dX1_solve_212 : decode cX1_solve 212 = .ok (.baload, 1) := by decide +kernel
theorem dX1_solve_213 : decode cX1_solve 213 = .ok (.imul, 1) := by decide +kernel
end
section
set_option maxRecDepth 100000
theorem dX1_solve_214 : decode cX1_solve 214 = .ok (.iload 6, 2) := by decide +kernel
theorem dX1_solve_216 : decode cX1_solve 216 = .ok (.iadd, 1) := by decide +kernel
theorem dX1_solve_217 : decode cX1_solve 217 = .ok (.iaload, 1) := by decide +kernel
theorem dX1_solve_218 : decode cX1_solve 218 = .ok (.iadd, 1) := by decide +kernel
theorem dX1_solve_219 : decode cX1_solve 219 = .ok (.istore 7, 2) := by decide +kernel
theorem dX1_solve_221 : decode cX1_solve 221 = .ok (.iload 5, 2) := by decide +kernel
theorem dX1_solve_223 : decode cX1_solve 223 = .ok (.iconst 1, 1) := by decide +kernel
theorem dX1_solve_224 : decode cX1_solve 224 = .ok (.iload 6, 2) := by decide +kernel
theorem dX1_solve_226 : decode cX1_solve 226 = .ok (.ishl, 1) := by decide +kernel
theorem dX1_solve_227 : decode cX1_solve 227 = .ok (.iconst (-1), 1) := by decide +kernel
theorem dX1_solve_228 : decode cX1_solve 228 = .ok (.ixor, 1) := by decide +kernel
theorem dX1_solve_229 : decode cX1_solve 229 = .ok (.iand, 1) := by decide +kernel
theorem dX1_solve_230 : decode cX1_solve 230 = .ok (.istore 8, 2) := by decide +kernel
theorem dX1_solve_232 : decode cX1_solve 232 = .ok (.aload_n 0, 1) := by decide +kernel
theorem dX1_solve_233 : decode cX1_solve 233 = .ok (.iload 6, 2) := by decide +kernel
theorem dX1_solve_235 : decode cX1_solve 235 = .ok (.iload 8, 2) := by decide +kernel
theorem dX1_solve_237 : decode cX1_solve 237 = .ok (.invokevirtual 91, 3) := by decide +kernel
theorem dX1_solve_240 : decode cX1_solve 240 = .ok (.istore 9, 2) := by decide +kernel
theorem dX1_solve_242 : decode cX1_solve 242 = .ok (.iload 7, 2) := by decide +kernel
theorem dX1_solve_244 : decode cX1_solve 244 = .ok (.iload 9, 2) := by decide +kernel
theorem dX1_solve_246 : decode cX1_solve 246 = .ok (.iadd, 1) := by decide +kernel
theorem dX1_solve_247 : decode cX1_solve 247 = .ok (.aload_n 0, 1) := by decide +kernel
theorem dX1_solve_248 : decode cX1_solve 248 = .ok (.getfield 51, 3) := by decide +kernel
theorem dX1_solve_251 : decode cX1_solve 251 = .ok (.if_icmp .le 6, 3) := by decide +kernel
theorem dX1_solve_254 : decode cX1_solve 254 = .ok (.goto (-172), 3) := by decide +kernel
theorem dX1_solve_257 : decode cX1_solve 257 = .ok (.iinc 4 1, 3) := by decide +kernel
theorem dX1_solve_260 : decode cX1_solve 260 = .ok (.aload_n 0, 1) := by decide +kernel
theorem dX1_solve_261 : decode cX1_solve 261 = .ok (.getfield 16, 3) := by decide +kernel
theorem dX1_solve_264 : decode cX1_solve 264 = .ok (.iload 4, 2) := by decide +kernel
theorem dX1_solve_266 : decode cX1_solve 266 = .ok (.iload 6, 2) := by decide +kernel
theorem dX1_solve_268 : decode cX1_solve 268 = .ok (.i2b, 1) := by decide +kernel
theorem dX1_solve_269 : decode cX1_solve 269 = .ok (.bastore, 1) := by decide +kernel
theorem dX1_solve_270 : decode cX1_solve 270 = .ok (.aload_n 0, 1) := by decide +kernel
theorem dX1_solve_271 : decode cX1_solve 271 = .ok (.getfield 20, 3) := by decide +kernel
theorem dX1_solve_274 : decode cX1_solve 274 = .ok (.iload 4, 2) := by decide +kernel
theorem dX1_solve_276 : decode cX1_solve 276 = .ok (.iload 7, 2) := by decide +kernel
theorem dX1_solve_278 : decode cX1_solve 278 = .ok (.iastore, 1) := by decide +kernel
theorem dX1_solve_279 : decode cX1_solve 279 = .ok (.aload_n 0, 1) := by decide +kernel
theorem dX1_solve_280 : decode cX1_solve 280 = .ok (.getfield 23, 3) := by decide +kernel
theorem dX1_solve_283 : decode cX1_solve 283 = .ok (.iload 4, 2) := by decide +kernel
theorem dX1_solve_285 : decode cX1_solve 285 = .ok (.iconst 0, 1) := by decide +kernel
theorem dX1_solve_286 : decode cX1_solve 286 = .ok (.bastore, 1) := by decide +kernel
theorem dX1_solve_287 : decode cX1_solve 287 = .ok (.iload 8, 2) := by decide +kernel
theorem dX1_solve_289 : decode cX1_solve 289 = .ok (.istore 5, 2) := by decide +kernel
theorem dX1_solve_291 : decode cX1_solve 291 = .ok (.goto (-209), 3) := by decide +kernel
theorem dX1_solve_294 : decode cX1_solve 294 = .ok (.return_, 1) := by decide +kernel
abbrev cX1_offer : ByteArray := prog_1_method_22_code
def yX1_offer : MethodName := ⟨RX1, "offer", "(II)V"⟩
theorem dX1_offer_0 : decode cX1_offer 0 = .ok (.iload_n 1, 1) := by decide +kernel
theorem dX1_offer_1 : decode cX1_offer 1 = .ok (.aload_n 0, 1) := by decide +kernel
theorem dX1_offer_2 : decode cX1_offer 2 = .ok (.getfield 51, 3) := by decide +kernel
theorem dX1_offer_5 : decode cX1_offer 5 = .ok (.if_icmp .le 4, 3) := by decide +kernel
theorem dX1_offer_8 : decode cX1_offer 8 = .ok (.return_, 1) := by decide +kernel
theorem dX1_offer_9 : decode cX1_offer 9 = .ok (.iload_n 1, 1) := by decide +kernel
theorem dX1_offer_10 : decode cX1_offer 10 = .ok (.aload_n 0, 1) := by decide +kernel
theorem dX1_offer_11 : decode cX1_offer 11 = .ok (.getfield 51, 3) := by decide +kernel
theorem dX1_offer_14 : decode cX1_offer 14 = .ok (.if_icmp .ge 38, 3) := by decide +kernel
theorem dX1_offer_17 : decode cX1_offer 17 = .ok (.aload_n 0, 1) := by decide +kernel
theorem dX1_offer_18 : decode cX1_offer 18 = .ok (.iload_n 1, 1) := by decide +kernel
theorem dX1_offer_19 : decode cX1_offer 19 = .ok (.putfield 51, 3) := by decide +kernel
theorem dX1_offer_22 : decode cX1_offer 22 = .ok (.aload_n 0, 1) := by decide +kernel
theorem dX1_offer_23 : decode cX1_offer 23 = .ok (.iconst 0, 1) := by decide +kernel
theorem dX1_offer_24 : decode cX1_offer 24 = .ok (.putfield 58, 3) := by decide +kernel
theorem dX1_offer_27 : decode cX1_offer 27 = .ok (.iconst 0, 1) := by decide +kernel
theorem dX1_offer_28 : decode cX1_offer 28 = .ok (.istore_n 3, 1) := by decide +kernel
theorem dX1_offer_29 : decode cX1_offer 29 = .ok (.iload_n 3, 1) := by decide +kernel
theorem dX1_offer_30 : decode cX1_offer 30 = .ok (.iload_n 2, 1) := by decide +kernel
theorem dX1_offer_31 : decode cX1_offer 31 = .ok (.if_icmp .ge 21, 3) := by decide +kernel
theorem dX1_offer_34 : decode cX1_offer 34 = .ok (.aload_n 0, 1) := by decide +kernel
theorem dX1_offer_35 : decode cX1_offer 35 = .ok (.getfield 26, 3) := by decide +kernel
theorem dX1_offer_38 : decode cX1_offer 38 = .ok (.iload_n 3, 1) := by decide +kernel
theorem dX1_offer_39 : decode cX1_offer 39 = .ok (.aload_n 0, 1) := by decide +kernel
theorem dX1_offer_40 : decode cX1_offer 40 = .ok (.getfield 16, 3) := by decide +kernel
theorem dX1_offer_43 : decode cX1_offer 43 = .ok (.iload_n 3, 1) := by decide +kernel
theorem dX1_offer_44 : decode cX1_offer 44 = .ok (.baload, 1) := by decide +kernel
theorem dX1_offer_45 : decode cX1_offer 45 = .ok (.bastore, 1) := by decide +kernel
theorem dX1_offer_46 : decode cX1_offer 46 = .ok (.iinc 3 1, 3) := by decide +kernel
theorem dX1_offer_49 : decode cX1_offer 49 = .ok (.goto (-20), 3) := by decide +kernel
theorem dX1_offer_52 : decode cX1_offer 52 = .ok (.aload_n 0, 1) := by decide +kernel
theorem dX1_offer_53 : decode cX1_offer 53 = .ok (.dup, 1) := by decide +kernel
theorem dX1_offer_54 : decode cX1_offer 54 = .ok (.getfield 58, 3) := by decide +kernel
theorem dX1_offer_57 : decode cX1_offer 57 = .ok (.iconst 1, 1) := by decide +kernel
theorem dX1_offer_58 : decode cX1_offer 58 = .ok (.iadd, 1) := by decide +kernel
theorem dX1_offer_59 : decode cX1_offer 59 = .ok (.putfield 58, 3) := by decide +kernel
theorem dX1_offer_62 : decode cX1_offer 62 = .ok (.return_, 1) := by decide +kernel
abbrev cX1_freed : ByteArray := prog_1_method_20_code
def yX1_freed : MethodName := ⟨RX1, "freed", "(I)I"⟩
theorem dX1_freed_0 : decode cX1_freed 0 = .ok (.iload_n 1, 1) := by decide +kernel
theorem dX1_freed_1 : decode cX1_freed 1 = .ok (.ifCond .ne 7, 3) := by decide +kernel
theorem dX1_freed_4 : decode cX1_freed 4 = .ok (.iconst 0, 1) := by decide +kernel
theorem dX1_freed_5 : decode cX1_freed 5 = .ok (.goto 11, 3) := by decide +kernel
theorem dX1_freed_8 : decode cX1_freed 8 = .ok (.iconst 1, 1) := by decide +kernel
theorem dX1_freed_9 : decode cX1_freed 9 = .ok (.aload_n 0, 1) := by decide +kernel
theorem dX1_freed_10 : decode cX1_freed 10 = .ok (.getfield 16, 3) := by decide +kernel
theorem dX1_freed_13 : decode cX1_freed 13 = .ok (.iload_n 1, 1) := by decide +kernel
theorem dX1_freed_14 : decode cX1_freed 14 = .ok (.baload, 1) := by decide +kernel
theorem dX1_freed_15 : decode cX1_freed 15 = .ok (.ishl, 1) := by decide +kernel
theorem dX1_freed_16 : decode cX1_freed 16 = .ok (.ireturn, 1) := by decide +kernel
abbrev cX1_nextTown : ByteArray := prog_1_method_21_code
def yX1_nextTown : MethodName := ⟨RX1, "nextTown", "(II)I"⟩
theorem dX1_nextTown_0 : decode cX1_nextTown 0 = .ok (.aload_n 0, 1) := by decide +kernel
theorem dX1_nextTown_1 : decode cX1_nextTown 1 = .ok (.getfield 23, 3) := by decide +kernel
theorem dX1_nextTown_4 : decode cX1_nextTown 4 = .ok (.iload_n 1, 1) := by decide +kernel
theorem dX1_nextTown_5 : decode cX1_nextTown 5 = .ok (.baload, 1) := by decide +kernel
theorem dX1_nextTown_6 : decode cX1_nextTown 6 = .ok (.istore_n 3, 1) := by decide +kernel
theorem dX1_nextTown_7 : decode cX1_nextTown 7 = .ok (.iload_n 3, 1) := by decide +kernel
theorem dX1_nextTown_8 : decode cX1_nextTown 8 = .ok (.aload_n 0, 1) := by decide +kernel
theorem dX1_nextTown_9 : decode cX1_nextTown 9 = .ok (.getfield 32, 3) := by decide +kernel
theorem dX1_nextTown_12 : decode cX1_nextTown 12 = .ok (.if_icmp .ge 19, 3) := by decide +kernel
theorem dX1_nextTown_15 : decode cX1_nextTown 15 = .ok (.iload_n 2, 1) := by decide +kernel
theorem dX1_nextTown_16 : decode cX1_nextTown 16 = .ok (.iload_n 3, 1) := by decide +kernel
theorem dX1_nextTown_17 : decode cX1_nextTown 17 = .ok (.ishr, 1) := by decide +kernel
theorem dX1_nextTown_18 : decode cX1_nextTown 18 = .ok (.iconst 1, 1) := by decide +kernel
theorem dX1_nextTown_19 : decode cX1_nextTown 19 = .ok (.iand, 1) := by decide +kernel
theorem dX1_nextTown_20 : decode cX1_nextTown 20 = .ok (.ifCond .eq 5, 3) := by decide +kernel
theorem dX1_nextTown_23 : decode cX1_nextTown 23 = .ok (.iload_n 3, 1) := by decide +kernel
theorem dX1_nextTown_24 : decode cX1_nextTown 24 = .ok (.ireturn, 1) := by decide +kernel
theorem dX1_nextTown_25 : decode cX1_nextTown 25 = .ok (.iinc 3 1, 3) := by decide +kernel
theorem dX1_nextTown_28 : decode cX1_nextTown 28 = .ok (.goto (-21), 3) := by decide +kernel
theorem dX1_nextTown_31 : decode cX1_nextTown 31 = .ok (.iconst (-1), 1) := by decide +kernel
theorem dX1_nextTown_32 : decode cX1_nextTown 32 = .ok (.ireturn, 1) := by decide +kernel
abbrev cX1_atLeast : ByteArray := prog_1_method_18_code
def yX1_atLeast : MethodName := ⟨RX1, "atLeast", "(II)I"⟩
theorem dX1_atLeast_0 : decode cX1_atLeast 0 = .ok (.iload_n 2, 1) := by decide +kernel
theorem dX1_atLeast_1 : decode cX1_atLeast 1 = .ok (.ifCond .ne 18, 3) := by decide +kernel
theorem dX1_atLeast_4 : decode cX1_atLeast 4 = .ok (.aload_n 0, 1) := by decide +kernel
theorem dX1_atLeast_5 : decode cX1_atLeast 5 = .ok (.getfield 13, 3) := by decide +kernel
theorem dX1_atLeast_8 : decode cX1_atLeast 8 = .ok (.bipush 7, 2) := by decide +kernel
theorem dX1_atLeast_10 : decode cX1_atLeast 10 = .ok (.iload_n 1, 1) := by decide +kernel
theorem dX1_atLeast_11 : decode cX1_atLeast 11 = .ok (.imul, 1) := by decide +kernel
theorem dX1_atLeast_12 : decode cX1_atLeast 12 = .ok (.aload_n 0, 1) := by decide +kernel
theorem dX1_atLeast_13 : decode cX1_atLeast 13 = .ok (.getfield 77, 3) := by decide +kernel
theorem dX1_atLeast_16 : decode cX1_atLeast 16 = .ok (.iadd, 1) := by decide +kernel
theorem dX1_atLeast_17 : decode cX1_atLeast 17 = .ok (.iaload, 1) := by decide +kernel
theorem dX1_atLeast_18 : decode cX1_atLeast 18 = .ok (.ireturn, 1) := by decide +kernel
theorem dX1_atLeast_19 : decode cX1_atLeast 19 = .ok (.sipush 10000, 3) := by decide +kernel
theorem dX1_atLeast_22 : decode cX1_atLeast 22 = .ok (.istore_n 3, 1) := by decide +kernel
theorem dX1_atLeast_23 : decode cX1_atLeast 23 = .ok (.sipush 10000, 3) := by decide +kernel
theorem dX1_atLeast_26 : decode cX1_atLeast 26 = .ok (.istore 4, 2) := by decide +kernel
theorem dX1_atLeast_28 : decode cX1_atLeast 28 = .ok (.iconst 0, 1) := by decide +kernel
theorem dX1_atLeast_29 : decode cX1_atLeast 29 = .ok (.istore 5, 2) := by decide +kernel
theorem dX1_atLeast_31 : decode cX1_atLeast 31 = .ok (.iconst 0, 1) := by decide +kernel
theorem dX1_atLeast_32 : decode cX1_atLeast 32 = .ok (.istore 6, 2) := by decide +kernel
theorem dX1_atLeast_34 : decode cX1_atLeast 34 = .ok (.iload 6, 2) := by decide +kernel
theorem dX1_atLeast_36 : decode cX1_atLeast 36 = .ok (.aload_n 0, 1) := by decide +kernel
theorem dX1_atLeast_37 : decode cX1_atLeast 37 = .ok (.getfield 32, 3) := by decide +kernel
theorem dX1_atLeast_40 : decode cX1_atLeast 40 = .ok (.if_icmp .ge 91, 3) := by decide +kernel
theorem dX1_atLeast_43 : decode cX1_atLeast 43 = .ok (.iload_n 2, 1) := by decide +kernel
theorem dX1_atLeast_44 : decode cX1_atLeast 44 = .ok (.iload 6, 2) := by decide +kernel
theorem dX1_atLeast_46 : decode cX1_atLeast 46 = .ok (.ishr, 1) := by decide +kernel
theorem dX1_atLeast_47 : decode cX1_atLeast 47 = .ok (.iconst 1, 1) := by decide +kernel
theorem dX1_atLeast_48 : decode cX1_atLeast 48 = .ok (.iand, 1) := by decide +kernel
theorem dX1_atLeast_49 : decode cX1_atLeast 49 = .ok (.ifCond .ne 6, 3) := by decide +kernel
theorem dX1_atLeast_52 : decode cX1_atLeast 52 = .ok (.goto 73, 3) := by decide +kernel
theorem dX1_atLeast_55 : decode cX1_atLeast 55 = .ok (.iload 6, 2) := by decide +kernel
theorem dX1_atLeast_57 : decode cX1_atLeast 57 = .ok (.istore 5, 2) := by decide +kernel
theorem dX1_atLeast_59 : decode cX1_atLeast 59 = .ok (.aload_n 0, 1) := by decide +kernel
theorem dX1_atLeast_60 : decode cX1_atLeast 60 = .ok (.getfield 13, 3) := by decide +kernel
theorem dX1_atLeast_63 : decode cX1_atLeast 63 = .ok (.bipush 7, 2) := by decide +kernel
theorem dX1_atLeast_65 : decode cX1_atLeast 65 = .ok (.iload_n 1, 1) := by decide +kernel
theorem dX1_atLeast_66 : decode cX1_atLeast 66 = .ok (.imul, 1) := by decide +kernel
theorem dX1_atLeast_67 : decode cX1_atLeast 67 = .ok (.iload 6, 2) := by decide +kernel
theorem dX1_atLeast_69 : decode cX1_atLeast 69 = .ok (.iadd, 1) := by decide +kernel
theorem dX1_atLeast_70 : decode cX1_atLeast 70 = .ok (.iaload, 1) := by decide +kernel
theorem dX1_atLeast_71 : decode cX1_atLeast 71 = .ok (.iload_n 3, 1) := by decide +kernel
theorem dX1_atLeast_72 : decode cX1_atLeast 72 = .ok (.if_icmp .ge 16, 3) := by decide +kernel
theorem dX1_atLeast_75 : decode cX1_atLeast 75 = .ok (.aload_n 0, 1) := by decide +kernel
theorem dX1_atLeast_76 : decode cX1_atLeast 76 = .ok (.getfield 13, 3) := by decide +kernel
theorem dX1_atLeast_79 : decode cX1_atLeast 79 = .ok (.bipush 7, 2) := by decide +kernel
theorem dX1_atLeast_81 : decode cX1_atLeast 81 = .ok (.iload_n 1, 1) := by decide +kernel
theorem dX1_atLeast_82 : decode cX1_atLeast 82 = .ok (.imul, 1) := by decide +kernel
theorem dX1_atLeast_83 : decode cX1_atLeast 83 = .ok (.iload 6, 2) := by decide +kernel
theorem dX1_atLeast_85 : decode cX1_atLeast 85 = .ok (.iadd, 1) := by decide +kernel
theorem dX1_atLeast_86 : decode cX1_atLeast 86 = .ok (.iaload, 1) := by decide +kernel
theorem dX1_atLeast_87 : decode cX1_atLeast 87 = .ok (.istore_n 3, 1) := by decide +kernel
theorem dX1_atLeast_88 : decode cX1_atLeast 88 = .ok (.aload_n 0, 1) := by decide +kernel
theorem dX1_atLeast_89 : decode cX1_atLeast 89 = .ok (.getfield 13, 3) := by decide +kernel
theorem dX1_atLeast_92 : decode cX1_atLeast 92 = .ok (.bipush 7, 2) := by decide +kernel
theorem dX1_atLeast_94 : decode cX1_atLeast 94 = .ok (.aload_n 0, 1) := by decide +kernel
theorem dX1_atLeast_95 : decode cX1_atLeast 95 = .ok (.getfield 77, 3) := by decide +kernel
theorem dX1_atLeast_98 : decode cX1_atLeast 98 = .ok (.imul, 1) := by decide +kernel
theorem dX1_atLeast_99 : decode cX1_atLeast 99 = .ok (.iload 6, 2) := by decide +kernel
theorem dX1_atLeast_101 : decode cX1_atLeast 101 = .ok (.iadd, 1) := by decide +kernel
theorem dX1_atLeast_102 : decode cX1_atLeast 102 = .ok (.iaload, 1) := by decide +kernel
theorem dX1_atLeast_103 : decode cX1_atLeast 103 = .ok (.iload 4, 2) := by decide +kernel
theorem dX1_atLeast_105 : decode cX1_atLeast 105 = .ok (.if_icmp .ge 20, 3) := by decide +kernel
theorem dX1_atLeast_108 : decode cX1_atLeast 108 = .ok (.aload_n 0, 1) := by decide +kernel
theorem dX1_atLeast_109 : decode cX1_atLeast 109 = .ok (.getfield 13, 3) := by decide +kernel
theorem dX1_atLeast_112 : decode cX1_atLeast 112 = .ok (.bipush 7, 2) := by decide +kernel
theorem dX1_atLeast_114 : decode cX1_atLeast 114 = .ok (.aload_n 0, 1) := by decide +kernel
theorem dX1_atLeast_115 : decode cX1_atLeast 115 = .ok (.getfield 77, 3) := by decide +kernel
theorem dX1_atLeast_118 : decode cX1_atLeast 118 = .ok (.imul, 1) := by decide +kernel
theorem dX1_atLeast_119 : decode cX1_atLeast 119 = .ok (.iload 6, 2) := by decide +kernel
theorem dX1_atLeast_121 : decode cX1_atLeast 121 = .ok (.iadd, 1) := by decide +kernel
theorem dX1_atLeast_122 : decode cX1_atLeast 122 = .ok (.iaload, 1) := by decide +kernel
theorem dX1_atLeast_123 : decode cX1_atLeast 123 = .ok (.istore 4, 2) := by decide +kernel
theorem dX1_atLeast_125 : decode cX1_atLeast 125 = .ok (.iinc 6 1, 3) := by decide +kernel
theorem dX1_atLeast_128 : decode cX1_atLeast 128 = .ok (.goto (-94), 3) := by decide +kernel
theorem dX1_atLeast_131 : decode cX1_atLeast 131 = .ok (.iload_n 3, 1) := by decide +kernel
theorem dX1_atLeast_132 : decode cX1_atLeast 132 = .ok (.iload 4, 2) := by decide +kernel
theorem dX1_atLeast_134 : decode cX1_atLeast 134 = .ok (.iadd, 1) := by decide +kernel
theorem dX1_atLeast_135 : decode cX1_atLeast 135 = .ok (.aload_n 0, 1) := by decide +kernel
theorem dX1_atLeast_136 : decode cX1_atLeast 136 = .ok (.iload_n 2, 1) := by decide +kernel
theorem dX1_atLeast_137 : decode cX1_atLeast 137 = .ok (.iload 5, 2) := by decide +kernel
theorem dX1_atLeast_139 : decode cX1_atLeast 139 = .ok (.iconst 0, 1) := by decide +kernel
theorem dX1_atLeast_140 : decode cX1_atLeast 140 = .ok (.invokevirtual 65, 3) := by decide +kernel
theorem dX1_atLeast_143 : decode cX1_atLeast 143 = .ok (.iadd, 1) := by decide +kernel
theorem dX1_atLeast_144 : decode cX1_atLeast 144 = .ok (.ireturn, 1) := by decide +kernel
abbrev cX1_growNet : ByteArray := prog_1_method_16_code
def yX1_growNet : MethodName := ⟨RX1, "growNet", "(IIZ)I"⟩
theorem dX1_growNet_0 : decode cX1_growNet 0 = .ok (.iload_n 1, 1) := by decide +kernel
theorem dX1_growNet_1 : decode cX1_growNet 1 = .ok (.iconst 1, 1) := by decide +kernel
theorem dX1_growNet_2 : decode cX1_growNet 2 = .ok (.iload_n 2, 1) := by decide +kernel
theorem dX1_growNet_3 : decode cX1_growNet 3 = .ok (.ishl, 1) := by decide +kernel
theorem dX1_growNet_4 : decode cX1_growNet 4 = .ok (.iconst (-1), 1) := by decide +kernel
theorem dX1_growNet_5 : decode cX1_growNet 5 = .ok (.ixor, 1) := by decide +kernel
theorem dX1_growNet_6 : decode cX1_growNet 6 = .ok (.iand, 1) := by decide +kernel
theorem dX1_growNet_7 : decode cX1_growNet 7 = .ok (.istore 4, 2) := by decide +kernel
theorem dX1_growNet_9 : decode cX1_growNet 9 = .ok (.iconst 0, 1) := by decide +kernel
theorem dX1_growNet_10 : decode cX1_growNet 10 = .ok (.istore 5, 2) := by decide +kernel
theorem dX1_growNet_12 : decode cX1_growNet 12 = .ok (.iconst 0, 1) := by decide +kernel
theorem dX1_growNet_13 : decode cX1_growNet 13 = .ok (.istore 6, 2) := by decide +kernel
theorem dX1_growNet_15 : decode cX1_growNet 15 = .ok (.iconst 0, 1) := by decide +kernel
theorem dX1_growNet_16 : decode cX1_growNet 16 = .ok (.istore 7, 2) := by decide +kernel
theorem dX1_growNet_18 : decode cX1_growNet 18 = .ok (.iload 7, 2) := by decide +kernel
theorem dX1_growNet_20 : decode cX1_growNet 20 = .ok (.aload_n 0, 1) := by decide +kernel
theorem dX1_growNet_21 : decode cX1_growNet 21 = .ok (.getfield 32, 3) := by decide +kernel
theorem dX1_growNet_24 : decode cX1_growNet 24 = .ok (.if_icmp .ge 28, 3) := by decide +kernel
theorem dX1_growNet_27 : decode cX1_growNet 27 = .ok (.aload_n 0, 1) := by decide +kernel
theorem dX1_growNet_28 : decode cX1_growNet 28 = .ok (.getfield 29, 3) := by decide +kernel
theorem dX1_growNet_31 : decode cX1_growNet 31 = .ok (.iload 7, 2) := by decide +kernel
theorem dX1_growNet_33 : decode cX1_growNet 33 = .ok (.aload_n 0, 1) := by decide +kernel
theorem dX1_growNet_34 : decode cX1_growNet 34 = .ok (.getfield 13, 3) := by decide +kernel
theorem dX1_growNet_37 : decode cX1_growNet 37 = .ok (.bipush 7, 2) := by decide +kernel
theorem dX1_growNet_39 : decode cX1_growNet 39 = .ok (.iload_n 2, 1) := by decide +kernel
theorem dX1_growNet_40 : decode cX1_growNet 40 = .ok (.imul, 1) := by decide +kernel
theorem dX1_growNet_41 : decode cX1_growNet 41 = .ok (.iload 7, 2) := by decide +kernel
theorem dX1_growNet_43 : decode cX1_growNet 43 = .ok (.iadd, 1) := by decide +kernel
theorem dX1_growNet_44 : decode cX1_growNet 44 = .ok (.iaload, 1) := by decide +kernel
theorem dX1_growNet_45 : decode cX1_growNet 45 = .ok (.iastore, 1) := by decide +kernel
theorem dX1_growNet_46 : decode cX1_growNet 46 = .ok (.iinc 7 1, 3) := by decide +kernel
theorem dX1_growNet_49 : decode cX1_growNet 49 = .ok (.goto (-31), 3) := by decide +kernel
theorem dX1_growNet_52 : decode cX1_growNet 52 = .ok (.iload 4, 2) := by decide +kernel
theorem dX1_growNet_54 : decode cX1_growNet 54 = .ok (.ifCond .eq 119, 3) := by decide +kernel
theorem dX1_growNet_57 : decode cX1_growNet 57 = .ok (.aload_n 0, 1) := by decide +kernel
theorem dX1_growNet_58 : decode cX1_growNet 58 = .ok (.iload 4, 2) := by decide +kernel
theorem dX1_growNet_60 : decode cX1_growNet 60 = .ok (.invokevirtual 73, 3) := by decide +kernel
theorem dX1_growNet_63 : decode cX1_growNet 63 = .ok (.istore 7, 2) := by decide +kernel
theorem dX1_growNet_65 : decode cX1_growNet 65 = .ok (.iload 5, 2) := by decide +kernel
theorem dX1_growNet_67 : decode cX1_growNet 67 = .ok (.aload_n 0, 1) := by decide +kernel
theorem dX1_growNet_68 : decode cX1_growNet 68 = .ok (.getfield 29, 3) := by decide +kernel
theorem dX1_growNet_71 : decode cX1_growNet 71 = .ok (.iload 7, 2) := by decide +kernel
theorem dX1_growNet_73 : decode cX1_growNet 73 = .ok (.iaload, 1) := by decide +kernel
theorem dX1_growNet_74 : decode cX1_growNet 74 = .ok (.iadd, 1) := by decide +kernel
theorem dX1_growNet_75 : decode cX1_growNet 75 = .ok (.istore 5, 2) := by decide +kernel
theorem dX1_growNet_77 : decode cX1_growNet 77 = .ok (.aload_n 0, 1) := by decide +kernel
theorem dX1_growNet_78 : decode cX1_growNet 78 = .ok (.getfield 29, 3) := by decide +kernel
theorem dX1_growNet_81 : decode cX1_growNet 81 = .ok (.iload 7, 2) := by decide +kernel
theorem dX1_growNet_83 : decode cX1_growNet 83 = .ok (.iaload, 1) := by decide +kernel
theorem dX1_growNet_84 : decode cX1_growNet 84 = .ok (.iload 6, 2) := by decide +kernel
theorem dX1_growNet_86 : decode cX1_growNet 86 = .ok (.if_icmp .le 12, 3) := by decide +kernel
theorem dX1_growNet_89 : decode cX1_growNet 89 = .ok (.aload_n 0, 1) := by decide +kernel
theorem dX1_growNet_90 : decode cX1_growNet 90 = .ok (.getfield 29, 3) := by decide +kernel
theorem dX1_growNet_93 : decode cX1_growNet 93 = .ok (.iload 7, 2) := by decide +kernel
theorem dX1_growNet_95 : decode cX1_growNet 95 = .ok (.iaload, 1) := by decide +kernel
theorem dX1_growNet_96 : decode cX1_growNet 96 = .ok (.istore 6, 2) := by decide +kernel
theorem dX1_growNet_98 : decode cX1_growNet 98 = .ok (.iload 4, 2) := by decide +kernel
theorem dX1_growNet_100 : decode cX1_growNet 100 = .ok (.iconst 1, 1) := by decide +kernel
theorem dX1_growNet_101 : decode cX1_growNet 101 = .ok (.iload 7, 2) := by decide +kernel
theorem dX1_growNet_103 : decode cX1_growNet 103 = .ok (.ishl, 1) := by decide +kernel
theorem dX1_growNet_104 : decode cX1_growNet 104 = .ok (.iconst (-1), 1) := by decide +kernel
theorem dX1_growNet_105 : decode cX1_growNet 105 = .ok (.ixor, 1) := by decide +kernel
theorem dX1_growNet_106 : decode cX1_growNet 106 = .ok (.iand, 1) := by decide +kernel
theorem dX1_growNet_107 : decode cX1_growNet 107 = .ok (.istore 4, 2) := by decide +kernel
theorem dX1_growNet_109 : decode cX1_growNet 109 = .ok (.iconst 0, 1) := by decide +kernel
theorem dX1_growNet_110 : decode cX1_growNet 110 = .ok (.istore 8, 2) := by decide +kernel
theorem dX1_growNet_112 : decode cX1_growNet 112 = .ok (.iload 8, 2) := by decide +kernel
end
section
set_option maxRecDepth 100000
theorem dX1_growNet_114 : decode cX1_growNet 114 = .ok (.aload_n 0, 1) := by decide +kernel
theorem dX1_growNet_115 : decode cX1_growNet 115 = .ok (.getfield 32, 3) := by decide +kernel
theorem dX1_growNet_118 : decode cX1_growNet 118 = .ok (.if_icmp .ge 52, 3) := by decide +kernel
theorem dX1_growNet_121 : decode cX1_growNet 121 = .ok (.aload_n 0, 1) := by decide +kernel
theorem dX1_growNet_122 : decode cX1_growNet 122 = .ok (.getfield 13, 3) := by decide +kernel
theorem dX1_growNet_125 : decode cX1_growNet 125 = .ok (.bipush 7, 2) := by decide +kernel
theorem dX1_growNet_127 : decode cX1_growNet 127 = .ok (.iload 7, 2) := by decide +kernel
theorem dX1_growNet_129 : decode cX1_growNet 129 = .ok (.imul, 1) := by decide +kernel
theorem dX1_growNet_130 : decode cX1_growNet 130 = .ok (.iload 8, 2) := by decide +kernel
theorem dX1_growNet_132 : decode cX1_growNet 132 = .ok (.iadd, 1) := by decide +kernel
theorem dX1_growNet_133 : decode cX1_growNet 133 = .ok (.iaload, 1) := by decide +kernel
theorem dX1_growNet_134 : decode cX1_growNet 134 = .ok (.aload_n 0, 1) := by decide +kernel
theorem dX1_growNet_135 : decode cX1_growNet 135 = .ok (.getfield 29, 3) := by decide +kernel
theorem dX1_growNet_138 : decode cX1_growNet 138 = .ok (.iload 8, 2) := by decide +kernel
theorem dX1_growNet_140 : decode cX1_growNet 140 = .ok (.iaload, 1) := by decide +kernel
theorem dX1_growNet_141 : decode cX1_growNet 141 = .ok (.if_icmp .ge 23, 3) := by decide +kernel
theorem dX1_growNet_144 : decode cX1_growNet 144 = .ok (.aload_n 0, 1) := by decide +kernel
theorem dX1_growNet_145 : decode cX1_growNet 145 = .ok (.getfield 29, 3) := by decide +kernel
theorem dX1_growNet_148 : decode cX1_growNet 148 = .ok (.iload 8, 2) := by decide +kernel
theorem dX1_growNet_150 : decode cX1_growNet 150 = .ok (.aload_n 0, 1) := by decide +kernel
theorem dX1_growNet_151 : decode cX1_growNet 151 = .ok (.getfield 13, 3) := by decide +kernel
theorem dX1_growNet_154 : decode cX1_growNet 154 = .ok (.bipush 7, 2) := by decide +kernel
theorem dX1_growNet_156 : decode cX1_growNet 156 = .ok (.iload 7, 2) := by decide +kernel
theorem dX1_growNet_158 : decode cX1_growNet 158 = .ok (.imul, 1) := by decide +kernel
theorem dX1_growNet_159 : decode cX1_growNet 159 = .ok (.iload 8, 2) := by decide +kernel
theorem dX1_growNet_161 : decode cX1_growNet 161 = .ok (.iadd, 1) := by decide +kernel
theorem dX1_growNet_162 : decode cX1_growNet 162 = .ok (.iaload, 1) := by decide +kernel
theorem dX1_growNet_163 : decode cX1_growNet 163 = .ok (.iastore, 1) := by decide +kernel
theorem dX1_growNet_164 : decode cX1_growNet 164 = .ok (.iinc 8 1, 3) := by decide +kernel
theorem dX1_growNet_167 : decode cX1_growNet 167 = .ok (.goto (-55), 3) := by decide +kernel
theorem dX1_growNet_170 : decode cX1_growNet 170 = .ok (.goto (-118), 3) := by decide +kernel
theorem dX1_growNet_173 : decode cX1_growNet 173 = .ok (.iload_n 3, 1) := by decide +kernel
theorem dX1_growNet_174 : decode cX1_growNet 174 = .ok (.ifCond .eq 8, 3) := by decide +kernel
theorem dX1_growNet_177 : decode cX1_growNet 177 = .ok (.iload 6, 2) := by decide +kernel
theorem dX1_growNet_179 : decode cX1_growNet 179 = .ok (.goto 5, 3) := by decide +kernel
theorem dX1_growNet_182 : decode cX1_growNet 182 = .ok (.iload 5, 2) := by decide +kernel
theorem dX1_growNet_184 : decode cX1_growNet 184 = .ok (.ireturn, 1) := by decide +kernel
abbrev cX1_nearestOf : ByteArray := prog_1_method_17_code
def yX1_nearestOf : MethodName := ⟨RX1, "nearestOf", "(I)I"⟩
theorem dX1_nearestOf_0 : decode cX1_nearestOf 0 = .ok (.iconst (-1), 1) := by decide +kernel
theorem dX1_nearestOf_1 : decode cX1_nearestOf 1 = .ok (.istore_n 2, 1) := by decide +kernel
theorem dX1_nearestOf_2 : decode cX1_nearestOf 2 = .ok (.iconst 0, 1) := by decide +kernel
theorem dX1_nearestOf_3 : decode cX1_nearestOf 3 = .ok (.istore_n 3, 1) := by decide +kernel
theorem dX1_nearestOf_4 : decode cX1_nearestOf 4 = .ok (.iload_n 3, 1) := by decide +kernel
theorem dX1_nearestOf_5 : decode cX1_nearestOf 5 = .ok (.aload_n 0, 1) := by decide +kernel
theorem dX1_nearestOf_6 : decode cX1_nearestOf 6 = .ok (.getfield 32, 3) := by decide +kernel
theorem dX1_nearestOf_9 : decode cX1_nearestOf 9 = .ok (.if_icmp .ge 38, 3) := by decide +kernel
theorem dX1_nearestOf_12 : decode cX1_nearestOf 12 = .ok (.iload_n 1, 1) := by decide +kernel
theorem dX1_nearestOf_13 : decode cX1_nearestOf 13 = .ok (.iload_n 3, 1) := by decide +kernel
theorem dX1_nearestOf_14 : decode cX1_nearestOf 14 = .ok (.ishr, 1) := by decide +kernel
theorem dX1_nearestOf_15 : decode cX1_nearestOf 15 = .ok (.iconst 1, 1) := by decide +kernel
theorem dX1_nearestOf_16 : decode cX1_nearestOf 16 = .ok (.iand, 1) := by decide +kernel
theorem dX1_nearestOf_17 : decode cX1_nearestOf 17 = .ok (.ifCond .eq 24, 3) := by decide +kernel
theorem dX1_nearestOf_20 : decode cX1_nearestOf 20 = .ok (.iload_n 2, 1) := by decide +kernel
theorem dX1_nearestOf_21 : decode cX1_nearestOf 21 = .ok (.ifCond .lt 18, 3) := by decide +kernel
theorem dX1_nearestOf_24 : decode cX1_nearestOf 24 = .ok (.aload_n 0, 1) := by decide +kernel
theorem dX1_nearestOf_25 : decode cX1_nearestOf 25 = .ok (.getfield 29, 3) := by decide +kernel
theorem dX1_nearestOf_28 : decode cX1_nearestOf 28 = .ok (.iload_n 3, 1) := by decide +kernel
theorem dX1_nearestOf_29 : decode cX1_nearestOf 29 = .ok (.iaload, 1) := by decide +kernel
theorem dX1_nearestOf_30 : decode cX1_nearestOf 30 = .ok (.aload_n 0, 1) := by decide +kernel
theorem dX1_nearestOf_31 : decode cX1_nearestOf 31 = .ok (.getfield 29, 3) := by decide +kernel
theorem dX1_nearestOf_34 : decode cX1_nearestOf 34 = .ok (.iload_n 2, 1) := by decide +kernel
theorem dX1_nearestOf_35 : decode cX1_nearestOf 35 = .ok (.iaload, 1) := by decide +kernel
theorem dX1_nearestOf_36 : decode cX1_nearestOf 36 = .ok (.if_icmp .ge 5, 3) := by decide +kernel
theorem dX1_nearestOf_39 : decode cX1_nearestOf 39 = .ok (.iload_n 3, 1) := by decide +kernel
theorem dX1_nearestOf_40 : decode cX1_nearestOf 40 = .ok (.istore_n 2, 1) := by decide +kernel
theorem dX1_nearestOf_41 : decode cX1_nearestOf 41 = .ok (.iinc 3 1, 3) := by decide +kernel
theorem dX1_nearestOf_44 : decode cX1_nearestOf 44 = .ok (.goto (-40), 3) := by decide +kernel
theorem dX1_nearestOf_47 : decode cX1_nearestOf 47 = .ok (.iload_n 2, 1) := by decide +kernel
theorem dX1_nearestOf_48 : decode cX1_nearestOf 48 = .ok (.ireturn, 1) := by decide +kernel
abbrev cX1_town : ByteArray := prog_1_method_8_code
def yX1_town : MethodName := ⟨RX1, "town", "(I)I"⟩
theorem dX1_town_0 : decode cX1_town 0 = .ok (.iload_n 1, 1) := by decide +kernel
theorem dX1_town_1 : decode cX1_town 1 = .ok (.ifCond .lt 11, 3) := by decide +kernel
theorem dX1_town_4 : decode cX1_town 4 = .ok (.iload_n 1, 1) := by decide +kernel
theorem dX1_town_5 : decode cX1_town 5 = .ok (.aload_n 0, 1) := by decide +kernel
theorem dX1_town_6 : decode cX1_town 6 = .ok (.getfield 32, 3) := by decide +kernel
theorem dX1_town_9 : decode cX1_town 9 = .ok (.if_icmp .lt 5, 3) := by decide +kernel
theorem dX1_town_12 : decode cX1_town 12 = .ok (.iconst (-1), 1) := by decide +kernel
theorem dX1_town_13 : decode cX1_town 13 = .ok (.ireturn, 1) := by decide +kernel
theorem dX1_town_14 : decode cX1_town 14 = .ok (.aload_n 0, 1) := by decide +kernel
theorem dX1_town_15 : decode cX1_town 15 = .ok (.invokevirtual 54, 3) := by decide +kernel
theorem dX1_town_18 : decode cX1_town 18 = .ok (.pop, 1) := by decide +kernel
theorem dX1_town_19 : decode cX1_town 19 = .ok (.aload_n 0, 1) := by decide +kernel
theorem dX1_town_20 : decode cX1_town 20 = .ok (.getfield 26, 3) := by decide +kernel
theorem dX1_town_23 : decode cX1_town 23 = .ok (.iload_n 1, 1) := by decide +kernel
theorem dX1_town_24 : decode cX1_town 24 = .ok (.baload, 1) := by decide +kernel
theorem dX1_town_25 : decode cX1_town 25 = .ok (.ireturn, 1) := by decide +kernel
abbrev cX1_trips : ByteArray := prog_1_method_9_code
def yX1_trips : MethodName := ⟨RX1, "trips", "()I"⟩
theorem dX1_trips_0 : decode cX1_trips 0 = .ok (.aload_n 0, 1) := by decide +kernel
theorem dX1_trips_1 : decode cX1_trips 1 = .ok (.invokevirtual 54, 3) := by decide +kernel
theorem dX1_trips_4 : decode cX1_trips 4 = .ok (.pop, 1) := by decide +kernel
theorem dX1_trips_5 : decode cX1_trips 5 = .ok (.aload_n 0, 1) := by decide +kernel
theorem dX1_trips_6 : decode cX1_trips 6 = .ok (.getfield 58, 3) := by decide +kernel
theorem dX1_trips_9 : decode cX1_trips 9 = .ok (.ireturn, 1) := by decide +kernel
abbrev cX1_using : ByteArray := prog_1_method_10_code
def yX1_using : MethodName := ⟨RX1, "using", "(II)I"⟩
theorem dX1_using_0 : decode cX1_using 0 = .ok (.aload_n 0, 1) := by decide +kernel
theorem dX1_using_1 : decode cX1_using 1 = .ok (.iload_n 1, 1) := by decide +kernel
theorem dX1_using_2 : decode cX1_using 2 = .ok (.iload_n 2, 1) := by decide +kernel
theorem dX1_using_3 : decode cX1_using 3 = .ok (.invokevirtual 36, 3) := by decide +kernel
theorem dX1_using_6 : decode cX1_using 6 = .ok (.ifCond .ne 5, 3) := by decide +kernel
theorem dX1_using_9 : decode cX1_using 9 = .ok (.iconst (-1), 1) := by decide +kernel
theorem dX1_using_10 : decode cX1_using 10 = .ok (.ireturn, 1) := by decide +kernel
theorem dX1_using_11 : decode cX1_using 11 = .ok (.aload_n 0, 1) := by decide +kernel
theorem dX1_using_12 : decode cX1_using 12 = .ok (.invokevirtual 44, 3) := by decide +kernel
theorem dX1_using_15 : decode cX1_using 15 = .ok (.aload_n 0, 1) := by decide +kernel
theorem dX1_using_16 : decode cX1_using 16 = .ok (.iload_n 1, 1) := by decide +kernel
theorem dX1_using_17 : decode cX1_using 17 = .ok (.iload_n 2, 1) := by decide +kernel
theorem dX1_using_18 : decode cX1_using 18 = .ok (.invokevirtual 47, 3) := by decide +kernel
theorem dX1_using_21 : decode cX1_using 21 = .ok (.aload_n 0, 1) := by decide +kernel
theorem dX1_using_22 : decode cX1_using 22 = .ok (.getfield 51, 3) := by decide +kernel
theorem dX1_using_25 : decode cX1_using 25 = .ok (.aload_n 0, 1) := by decide +kernel
theorem dX1_using_26 : decode cX1_using 26 = .ok (.getfield 7, 3) := by decide +kernel
theorem dX1_using_29 : decode cX1_using 29 = .ok (.bipush 7, 2) := by decide +kernel
theorem dX1_using_31 : decode cX1_using 31 = .ok (.iload_n 1, 1) := by decide +kernel
theorem dX1_using_32 : decode cX1_using 32 = .ok (.imul, 1) := by decide +kernel
theorem dX1_using_33 : decode cX1_using 33 = .ok (.iload_n 2, 1) := by decide +kernel
theorem dX1_using_34 : decode cX1_using 34 = .ok (.iadd, 1) := by decide +kernel
theorem dX1_using_35 : decode cX1_using 35 = .ok (.iaload, 1) := by decide +kernel
theorem dX1_using_36 : decode cX1_using 36 = .ok (.iadd, 1) := by decide +kernel
theorem dX1_using_37 : decode cX1_using 37 = .ok (.ireturn, 1) := by decide +kernel
abbrev cX1_avoiding : ByteArray := prog_1_method_11_code
def yX1_avoiding : MethodName := ⟨RX1, "avoiding", "(II)I"⟩
theorem dX1_avoiding_0 : decode cX1_avoiding 0 = .ok (.aload_n 0, 1) := by decide +kernel
theorem dX1_avoiding_1 : decode cX1_avoiding 1 = .ok (.iload_n 1, 1) := by decide +kernel
theorem dX1_avoiding_2 : decode cX1_avoiding 2 = .ok (.iload_n 2, 1) := by decide +kernel
theorem dX1_avoiding_3 : decode cX1_avoiding 3 = .ok (.invokevirtual 36, 3) := by decide +kernel
theorem dX1_avoiding_6 : decode cX1_avoiding 6 = .ok (.ifCond .eq 11, 3) := by decide +kernel
theorem dX1_avoiding_9 : decode cX1_avoiding 9 = .ok (.aload_n 0, 1) := by decide +kernel
theorem dX1_avoiding_10 : decode cX1_avoiding 10 = .ok (.getfield 32, 3) := by decide +kernel
theorem dX1_avoiding_13 : decode cX1_avoiding 13 = .ok (.iconst 3, 1) := by decide +kernel
theorem dX1_avoiding_14 : decode cX1_avoiding 14 = .ok (.if_icmp .ne 5, 3) := by decide +kernel
theorem dX1_avoiding_17 : decode cX1_avoiding 17 = .ok (.iconst (-1), 1) := by decide +kernel
theorem dX1_avoiding_18 : decode cX1_avoiding 18 = .ok (.ireturn, 1) := by decide +kernel
theorem dX1_avoiding_19 : decode cX1_avoiding 19 = .ok (.aload_n 0, 1) := by decide +kernel
theorem dX1_avoiding_20 : decode cX1_avoiding 20 = .ok (.invokevirtual 44, 3) := by decide +kernel
theorem dX1_avoiding_23 : decode cX1_avoiding 23 = .ok (.aload_n 0, 1) := by decide +kernel
theorem dX1_avoiding_24 : decode cX1_avoiding 24 = .ok (.iload_n 1, 1) := by decide +kernel
theorem dX1_avoiding_25 : decode cX1_avoiding 25 = .ok (.iload_n 2, 1) := by decide +kernel
theorem dX1_avoiding_26 : decode cX1_avoiding 26 = .ok (.sipush 10000, 3) := by decide +kernel
theorem dX1_avoiding_29 : decode cX1_avoiding 29 = .ok (.invokevirtual 61, 3) := by decide +kernel
theorem dX1_avoiding_32 : decode cX1_avoiding 32 = .ok (.aload_n 0, 1) := by decide +kernel
theorem dX1_avoiding_33 : decode cX1_avoiding 33 = .ok (.iconst 0, 1) := by decide +kernel
theorem dX1_avoiding_34 : decode cX1_avoiding 34 = .ok (.iconst 0, 1) := by decide +kernel
theorem dX1_avoiding_35 : decode cX1_avoiding 35 = .ok (.invokevirtual 47, 3) := by decide +kernel
theorem dX1_avoiding_38 : decode cX1_avoiding 38 = .ok (.aload_n 0, 1) := by decide +kernel
theorem dX1_avoiding_39 : decode cX1_avoiding 39 = .ok (.getfield 51, 3) := by decide +kernel
theorem dX1_avoiding_42 : decode cX1_avoiding 42 = .ok (.ireturn, 1) := by decide +kernel
abbrev cX1_price : ByteArray := prog_1_method_6_code
def yX1_price : MethodName := ⟨RX1, "price", "(III)V"⟩
theorem dX1_price_0 : decode cX1_price 0 = .ok (.aload_n 0, 1) := by decide +kernel
theorem dX1_price_1 : decode cX1_price 1 = .ok (.getfield 13, 3) := by decide +kernel
theorem dX1_price_4 : decode cX1_price 4 = .ok (.bipush 7, 2) := by decide +kernel
theorem dX1_price_6 : decode cX1_price 6 = .ok (.iload_n 1, 1) := by decide +kernel
theorem dX1_price_7 : decode cX1_price 7 = .ok (.imul, 1) := by decide +kernel
theorem dX1_price_8 : decode cX1_price 8 = .ok (.iload_n 2, 1) := by decide +kernel
theorem dX1_price_9 : decode cX1_price 9 = .ok (.iadd, 1) := by decide +kernel
theorem dX1_price_10 : decode cX1_price 10 = .ok (.iload_n 3, 1) := by decide +kernel
theorem dX1_price_11 : decode cX1_price 11 = .ok (.iastore, 1) := by decide +kernel
theorem dX1_price_12 : decode cX1_price 12 = .ok (.aload_n 0, 1) := by decide +kernel
theorem dX1_price_13 : decode cX1_price 13 = .ok (.getfield 13, 3) := by decide +kernel
theorem dX1_price_16 : decode cX1_price 16 = .ok (.bipush 7, 2) := by decide +kernel
theorem dX1_price_18 : decode cX1_price 18 = .ok (.iload_n 2, 1) := by decide +kernel
theorem dX1_price_19 : decode cX1_price 19 = .ok (.imul, 1) := by decide +kernel
theorem dX1_price_20 : decode cX1_price 20 = .ok (.iload_n 1, 1) := by decide +kernel
theorem dX1_price_21 : decode cX1_price 21 = .ok (.iadd, 1) := by decide +kernel
theorem dX1_price_22 : decode cX1_price 22 = .ok (.iload_n 3, 1) := by decide +kernel
theorem dX1_price_23 : decode cX1_price 23 = .ok (.iastore, 1) := by decide +kernel
theorem dX1_price_24 : decode cX1_price 24 = .ok (.return_, 1) := by decide +kernel
abbrev cX1_walk : ByteArray := prog_1_method_12_code
def yX1_walk : MethodName := ⟨RX1, "walk", "(II)I"⟩
theorem dX1_walk_0 : decode cX1_walk 0 = .ok (.aload_n 0, 1) := by decide +kernel
theorem dX1_walk_1 : decode cX1_walk 1 = .ok (.iload_n 1, 1) := by decide +kernel
theorem dX1_walk_2 : decode cX1_walk 2 = .ok (.iload_n 2, 1) := by decide +kernel
theorem dX1_walk_3 : decode cX1_walk 3 = .ok (.invokevirtual 36, 3) := by decide +kernel
theorem dX1_walk_6 : decode cX1_walk 6 = .ok (.ifCond .ne 5, 3) := by decide +kernel
theorem dX1_walk_9 : decode cX1_walk 9 = .ok (.iconst (-1), 1) := by decide +kernel
theorem dX1_walk_10 : decode cX1_walk 10 = .ok (.ireturn, 1) := by decide +kernel
theorem dX1_walk_11 : decode cX1_walk 11 = .ok (.aload_n 0, 1) := by decide +kernel
theorem dX1_walk_12 : decode cX1_walk 12 = .ok (.invokevirtual 44, 3) := by decide +kernel
theorem dX1_walk_15 : decode cX1_walk 15 = .ok (.aload_n 0, 1) := by decide +kernel
theorem dX1_walk_16 : decode cX1_walk 16 = .ok (.iload_n 1, 1) := by decide +kernel
theorem dX1_walk_17 : decode cX1_walk 17 = .ok (.iload_n 2, 1) := by decide +kernel
theorem dX1_walk_18 : decode cX1_walk 18 = .ok (.invokevirtual 47, 3) := by decide +kernel
theorem dX1_walk_21 : decode cX1_walk 21 = .ok (.aload_n 0, 1) := by decide +kernel
theorem dX1_walk_22 : decode cX1_walk 22 = .ok (.getfield 51, 3) := by decide +kernel
theorem dX1_walk_25 : decode cX1_walk 25 = .ok (.ireturn, 1) := by decide +kernel
abbrev cX1_reach : ByteArray := prog_1_method_13_code
def yX1_reach : MethodName := ⟨RX1, "reach", "()I"⟩
theorem dX1_reach_0 : decode cX1_reach 0 = .ok (.aload_n 0, 1) := by decide +kernel
theorem dX1_reach_1 : decode cX1_reach 1 = .ok (.invokevirtual 44, 3) := by decide +kernel
theorem dX1_reach_4 : decode cX1_reach 4 = .ok (.aload_n 0, 1) := by decide +kernel
theorem dX1_reach_5 : decode cX1_reach 5 = .ok (.iconst 1, 1) := by decide +kernel
theorem dX1_reach_6 : decode cX1_reach 6 = .ok (.aload_n 0, 1) := by decide +kernel
theorem dX1_reach_7 : decode cX1_reach 7 = .ok (.getfield 32, 3) := by decide +kernel
theorem dX1_reach_10 : decode cX1_reach 10 = .ok (.ishl, 1) := by decide +kernel
theorem dX1_reach_11 : decode cX1_reach 11 = .ok (.iconst 1, 1) := by decide +kernel
theorem dX1_reach_12 : decode cX1_reach 12 = .ok (.isub, 1) := by decide +kernel
theorem dX1_reach_13 : decode cX1_reach 13 = .ok (.iconst 0, 1) := by decide +kernel
theorem dX1_reach_14 : decode cX1_reach 14 = .ok (.iconst 1, 1) := by decide +kernel
theorem dX1_reach_15 : decode cX1_reach 15 = .ok (.invokevirtual 65, 3) := by decide +kernel
theorem dX1_reach_18 : decode cX1_reach 18 = .ok (.ireturn, 1) := by decide +kernel
abbrev cX1_net : ByteArray := prog_1_method_14_code
def yX1_net : MethodName := ⟨RX1, "net", "()I"⟩
theorem dX1_net_0 : decode cX1_net 0 = .ok (.aload_n 0, 1) := by decide +kernel
theorem dX1_net_1 : decode cX1_net 1 = .ok (.invokevirtual 44, 3) := by decide +kernel
theorem dX1_net_4 : decode cX1_net 4 = .ok (.aload_n 0, 1) := by decide +kernel
theorem dX1_net_5 : decode cX1_net 5 = .ok (.iconst 1, 1) := by decide +kernel
theorem dX1_net_6 : decode cX1_net 6 = .ok (.aload_n 0, 1) := by decide +kernel
theorem dX1_net_7 : decode cX1_net 7 = .ok (.getfield 32, 3) := by decide +kernel
theorem dX1_net_10 : decode cX1_net 10 = .ok (.ishl, 1) := by decide +kernel
theorem dX1_net_11 : decode cX1_net 11 = .ok (.iconst 1, 1) := by decide +kernel
theorem dX1_net_12 : decode cX1_net 12 = .ok (.isub, 1) := by decide +kernel
theorem dX1_net_13 : decode cX1_net 13 = .ok (.iconst 0, 1) := by decide +kernel
theorem dX1_net_14 : decode cX1_net 14 = .ok (.iconst 0, 1) := by decide +kernel
theorem dX1_net_15 : decode cX1_net 15 = .ok (.invokevirtual 65, 3) := by decide +kernel
theorem dX1_net_18 : decode cX1_net 18 = .ok (.ireturn, 1) := by decide +kernel
abbrev cX1_shift : ByteArray := prog_1_method_15_code
def yX1_shift : MethodName := ⟨RX1, "shift", "(II)I"⟩
theorem dX1_shift_0 : decode cX1_shift 0 = .ok (.aload_n 0, 1) := by decide +kernel
theorem dX1_shift_1 : decode cX1_shift 1 = .ok (.iload_n 1, 1) := by decide +kernel
theorem dX1_shift_2 : decode cX1_shift 2 = .ok (.invokevirtual 40, 3) := by decide +kernel
theorem dX1_shift_5 : decode cX1_shift 5 = .ok (.ifCond .eq 15, 3) := by decide +kernel
theorem dX1_shift_8 : decode cX1_shift 8 = .ok (.iload_n 2, 1) := by decide +kernel
theorem dX1_shift_9 : decode cX1_shift 9 = .ok (.bipush (-60), 2) := by decide +kernel
theorem dX1_shift_11 : decode cX1_shift 11 = .ok (.if_icmp .lt 9, 3) := by decide +kernel
theorem dX1_shift_14 : decode cX1_shift 14 = .ok (.iload_n 2, 1) := by decide +kernel
theorem dX1_shift_15 : decode cX1_shift 15 = .ok (.bipush 60, 2) := by decide +kernel
theorem dX1_shift_17 : decode cX1_shift 17 = .ok (.if_icmp .le 5, 3) := by decide +kernel
theorem dX1_shift_20 : decode cX1_shift 20 = .ok (.iconst (-1), 1) := by decide +kernel
theorem dX1_shift_21 : decode cX1_shift 21 = .ok (.ireturn, 1) := by decide +kernel
theorem dX1_shift_22 : decode cX1_shift 22 = .ok (.iconst 0, 1) := by decide +kernel
theorem dX1_shift_23 : decode cX1_shift 23 = .ok (.istore_n 3, 1) := by decide +kernel
theorem dX1_shift_24 : decode cX1_shift 24 = .ok (.iconst 0, 1) := by decide +kernel
theorem dX1_shift_25 : decode cX1_shift 25 = .ok (.istore 4, 2) := by decide +kernel
theorem dX1_shift_27 : decode cX1_shift 27 = .ok (.iload 4, 2) := by decide +kernel
theorem dX1_shift_29 : decode cX1_shift 29 = .ok (.aload_n 0, 1) := by decide +kernel
theorem dX1_shift_30 : decode cX1_shift 30 = .ok (.getfield 32, 3) := by decide +kernel
theorem dX1_shift_33 : decode cX1_shift 33 = .ok (.if_icmp .ge 83, 3) := by decide +kernel
theorem dX1_shift_36 : decode cX1_shift 36 = .ok (.iload 4, 2) := by decide +kernel
theorem dX1_shift_38 : decode cX1_shift 38 = .ok (.iload_n 1, 1) := by decide +kernel
theorem dX1_shift_39 : decode cX1_shift 39 = .ok (.if_icmp .ne 6, 3) := by decide +kernel
theorem dX1_shift_42 : decode cX1_shift 42 = .ok (.goto 68, 3) := by decide +kernel
theorem dX1_shift_45 : decode cX1_shift 45 = .ok (.aload_n 0, 1) := by decide +kernel
theorem dX1_shift_46 : decode cX1_shift 46 = .ok (.getfield 7, 3) := by decide +kernel
theorem dX1_shift_49 : decode cX1_shift 49 = .ok (.bipush 7, 2) := by decide +kernel
theorem dX1_shift_51 : decode cX1_shift 51 = .ok (.iload_n 1, 1) := by decide +kernel
theorem dX1_shift_52 : decode cX1_shift 52 = .ok (.imul, 1) := by decide +kernel
theorem dX1_shift_53 : decode cX1_shift 53 = .ok (.iload 4, 2) := by decide +kernel
theorem dX1_shift_55 : decode cX1_shift 55 = .ok (.iadd, 1) := by decide +kernel
theorem dX1_shift_56 : decode cX1_shift 56 = .ok (.iaload, 1) := by decide +kernel
theorem dX1_shift_57 : decode cX1_shift 57 = .ok (.iload_n 2, 1) := by decide +kernel
theorem dX1_shift_58 : decode cX1_shift 58 = .ok (.iadd, 1) := by decide +kernel
theorem dX1_shift_59 : decode cX1_shift 59 = .ok (.istore 5, 2) := by decide +kernel
theorem dX1_shift_61 : decode cX1_shift 61 = .ok (.iload 5, 2) := by decide +kernel
theorem dX1_shift_63 : decode cX1_shift 63 = .ok (.ifCond .ge 6, 3) := by decide +kernel
theorem dX1_shift_66 : decode cX1_shift 66 = .ok (.iconst 0, 1) := by decide +kernel
theorem dX1_shift_67 : decode cX1_shift 67 = .ok (.istore 5, 2) := by decide +kernel
theorem dX1_shift_69 : decode cX1_shift 69 = .ok (.iload 5, 2) := by decide +kernel
theorem dX1_shift_71 : decode cX1_shift 71 = .ok (.bipush 60, 2) := by decide +kernel
theorem dX1_shift_73 : decode cX1_shift 73 = .ok (.if_icmp .le 7, 3) := by decide +kernel
theorem dX1_shift_76 : decode cX1_shift 76 = .ok (.bipush 60, 2) := by decide +kernel
theorem dX1_shift_78 : decode cX1_shift 78 = .ok (.istore 5, 2) := by decide +kernel
theorem dX1_shift_80 : decode cX1_shift 80 = .ok (.iload 5, 2) := by decide +kernel
theorem dX1_shift_82 : decode cX1_shift 82 = .ok (.aload_n 0, 1) := by decide +kernel
theorem dX1_shift_83 : decode cX1_shift 83 = .ok (.getfield 7, 3) := by decide +kernel
theorem dX1_shift_86 : decode cX1_shift 86 = .ok (.bipush 7, 2) := by decide +kernel
theorem dX1_shift_88 : decode cX1_shift 88 = .ok (.iload_n 1, 1) := by decide +kernel
theorem dX1_shift_89 : decode cX1_shift 89 = .ok (.imul, 1) := by decide +kernel
theorem dX1_shift_90 : decode cX1_shift 90 = .ok (.iload 4, 2) := by decide +kernel
theorem dX1_shift_92 : decode cX1_shift 92 = .ok (.iadd, 1) := by decide +kernel
theorem dX1_shift_93 : decode cX1_shift 93 = .ok (.iaload, 1) := by decide +kernel
theorem dX1_shift_94 : decode cX1_shift 94 = .ok (.if_icmp .eq 6, 3) := by decide +kernel
theorem dX1_shift_97 : decode cX1_shift 97 = .ok (.iinc 3 1, 3) := by decide +kernel
theorem dX1_shift_100 : decode cX1_shift 100 = .ok (.aload_n 0, 1) := by decide +kernel
theorem dX1_shift_101 : decode cX1_shift 101 = .ok (.iload_n 1, 1) := by decide +kernel
theorem dX1_shift_102 : decode cX1_shift 102 = .ok (.iload 4, 2) := by decide +kernel
theorem dX1_shift_104 : decode cX1_shift 104 = .ok (.iload 5, 2) := by decide +kernel
theorem dX1_shift_106 : decode cX1_shift 106 = .ok (.invokevirtual 69, 3) := by decide +kernel
theorem dX1_shift_109 : decode cX1_shift 109 = .ok (.pop, 1) := by decide +kernel
theorem dX1_shift_110 : decode cX1_shift 110 = .ok (.iinc 4 1, 3) := by decide +kernel
theorem dX1_shift_113 : decode cX1_shift 113 = .ok (.goto (-86), 3) := by decide +kernel
theorem dX1_shift_116 : decode cX1_shift 116 = .ok (.iload_n 3, 1) := by decide +kernel
theorem dX1_shift_117 : decode cX1_shift 117 = .ok (.ireturn, 1) := by decide +kernel
theorem q22 : (Jvm.Cond.initialized "TourSolver") ∈ lw_all := lw_g (lw_at lw_m1 1 rfl) rfl
theorem q25 : (Jvm.Cond.instantiable "TourSolver" (11 : Nat)) ∈ lw_all := lw_g (lw_at lw_m1 4 rfl) rfl
theorem q27 : (Jvm.Cond.instanceMethod ({ cls := "TourSolver", name := "<init>", desc := "(I)V" } : Jvm.MethodName)) ∈ lw_all := lw_g (lw_at lw_m1 6 rfl) rfl
theorem q28 : (Jvm.Cond.code ({ cls := "TourSolver", name := "<init>", desc := "(I)V" } : Jvm.MethodName) prog_1_method_1_code (3 : Nat) (Option.none : Option Jvm.ClassFile.FieldType)) ∈ lw_all := lw_g (lw_at lw_m1 7 rfl) rfl
theorem q29 : (Jvm.Cond.methodLink "TourSolver" (1 : Nat) ({ cls := "java/lang/Object", name := "<init>", desc := "()V" } : Jvm.MethodName)) ∈ lw_all := lw_g (lw_at lw_m1 8 rfl) rfl
theorem q32 : (Jvm.Cond.fieldLink "TourSolver" (32 : Nat) "TourSolver" "townCount" "I") ∈ lw_all := lw_g (lw_at lw_m1 11 rfl) rfl
theorem q33 : (Jvm.Cond.fieldLink "TourSolver" (7 : Nat) "TourSolver" "lengths" "[I") ∈ lw_all := lw_g (lw_at lw_m1 12 rfl) rfl
theorem q34 : (Jvm.Cond.fieldLink "TourSolver" (77 : Nat) "TourSolver" "goal" "I") ∈ lw_all := lw_g (lw_at lw_m1 13 rfl) rfl
theorem q35 : (Jvm.Cond.fieldLink "TourSolver" (13 : Nat) "TourSolver" "priced" "[I") ∈ lw_all := lw_g (lw_at lw_m1 14 rfl) rfl
theorem q36 : (Jvm.Cond.fieldLink "TourSolver" (16 : Nat) "TourSolver" "path" "[B") ∈ lw_all := lw_g (lw_at lw_m1 15 rfl) rfl
theorem q37 : (Jvm.Cond.fieldLink "TourSolver" (20 : Nat) "TourSolver" "lengthAt" "[I") ∈ lw_all := lw_g (lw_at lw_m1 16 rfl) rfl
theorem q38 : (Jvm.Cond.fieldLink "TourSolver" (23 : Nat) "TourSolver" "nextTry" "[B") ∈ lw_all := lw_g (lw_at lw_m1 17 rfl) rfl
theorem q39 : (Jvm.Cond.fieldLink "TourSolver" (51 : Nat) "TourSolver" "best" "I") ∈ lw_all := lw_g (lw_at lw_m1 18 rfl) rfl
theorem q40 : (Jvm.Cond.fieldLink "TourSolver" (58 : Nat) "TourSolver" "bestCount" "I") ∈ lw_all := lw_g (lw_at lw_m1 19 rfl) rfl
theorem q41 : (Jvm.Cond.fieldLink "TourSolver" (26 : Nat) "TourSolver" "bestPath" "[B") ∈ lw_all := lw_g (lw_at lw_m1 20 rfl) rfl
theorem q42 : (Jvm.Cond.fieldLink "TourSolver" (29 : Nat) "TourSolver" "nearest" "[I") ∈ lw_all := lw_g (lw_at lw_m1 21 rfl) rfl
theorem q43 : (Jvm.Cond.lays "TourSolver" "TourSolver" "townCount" "I") ∈ lw_all := lw_g (lw_at lw_m1 22 rfl) rfl
theorem q44 : (Jvm.Cond.soleField "TourSolver" "townCount") ∈ lw_all := lw_g (lw_at lw_m1 23 rfl) rfl
theorem q45 : (Jvm.Cond.laysFinal "TourSolver" "TourSolver" "lengths" "[I") ∈ lw_all := lw_g (lw_at lw_m1 24 rfl) rfl
theorem q46 : (Jvm.Cond.soleField "TourSolver" "lengths") ∈ lw_all := lw_g (lw_at lw_m1 25 rfl) rfl
theorem q47 : (Jvm.Cond.lays "TourSolver" "TourSolver" "goal" "I") ∈ lw_all := lw_g (lw_at lw_m1 26 rfl) rfl
theorem q48 : (Jvm.Cond.soleField "TourSolver" "goal") ∈ lw_all := lw_g (lw_at lw_m1 27 rfl) rfl
theorem q49 : (Jvm.Cond.laysFinal "TourSolver" "TourSolver" "priced" "[I") ∈ lw_all := lw_g (lw_at lw_m1 28 rfl) rfl
theorem q50 : (Jvm.Cond.soleField "TourSolver" "priced") ∈ lw_all := lw_g (lw_at lw_m1 29 rfl) rfl
theorem q51 : (Jvm.Cond.laysFinal "TourSolver" "TourSolver" "path" "[B") ∈ lw_all := lw_g (lw_at lw_m1 30 rfl) rfl
theorem q52 : (Jvm.Cond.soleField "TourSolver" "path") ∈ lw_all := lw_g (lw_at lw_m1 31 rfl) rfl
theorem q53 : (Jvm.Cond.laysFinal "TourSolver" "TourSolver" "lengthAt" "[I") ∈ lw_all := lw_g (lw_at lw_m1 32 rfl) rfl
theorem q54 : (Jvm.Cond.soleField "TourSolver" "lengthAt") ∈ lw_all := lw_g (lw_at lw_m1 33 rfl) rfl
theorem q55 : (Jvm.Cond.laysFinal "TourSolver" "TourSolver" "nextTry" "[B") ∈ lw_all := lw_g (lw_at lw_m1 34 rfl) rfl
theorem q56 : (Jvm.Cond.soleField "TourSolver" "nextTry") ∈ lw_all := lw_g (lw_at lw_m1 35 rfl) rfl
theorem q57 : (Jvm.Cond.lays "TourSolver" "TourSolver" "best" "I") ∈ lw_all := lw_g (lw_at lw_m1 36 rfl) rfl
theorem q58 : (Jvm.Cond.soleField "TourSolver" "best") ∈ lw_all := lw_g (lw_at lw_m1 37 rfl) rfl
theorem q59 : (Jvm.Cond.lays "TourSolver" "TourSolver" "bestCount" "I") ∈ lw_all := lw_g (lw_at lw_m1 38 rfl) rfl
theorem q60 : (Jvm.Cond.soleField "TourSolver" "bestCount") ∈ lw_all := lw_g (lw_at lw_m1 39 rfl) rfl
theorem q61 : (Jvm.Cond.laysFinal "TourSolver" "TourSolver" "bestPath" "[B") ∈ lw_all := lw_g (lw_at lw_m1 40 rfl) rfl
theorem q62 : (Jvm.Cond.soleField "TourSolver" "bestPath") ∈ lw_all := lw_g (lw_at lw_m1 41 rfl) rfl
theorem q63 : (Jvm.Cond.laysFinal "TourSolver" "TourSolver" "nearest" "[I") ∈ lw_all := lw_g (lw_at lw_m1 42 rfl) rfl
theorem q64 : (Jvm.Cond.soleField "TourSolver" "nearest") ∈ lw_all := lw_g (lw_at lw_m1 43 rfl) rfl
theorem q65 : (Jvm.Cond.superclass "TourSolver" "java/lang/Object") ∈ lw_all := lw_g (lw_at lw_m1 44 rfl) rfl
theorem q69 : (Jvm.Cond.instanceMethod ({ cls := "TourSolver", name := "road", desc := "(III)Z" } : Jvm.MethodName)) ∈ lw_all := lw_g (lw_at lw_m1 48 rfl) rfl
theorem q70 : (Jvm.Cond.selects "TourSolver" ({ cls := "TourSolver", name := "road", desc := "(III)Z" } : Jvm.MethodName) ({ cls := "TourSolver", name := "road", desc := "(III)Z" } : Jvm.MethodName)) ∈ lw_all := lw_g (lw_at lw_m1 49 rfl) rfl
theorem q71 : (Jvm.Cond.code ({ cls := "TourSolver", name := "road", desc := "(III)Z" } : Jvm.MethodName) prog_1_method_2_code (4 : Nat) (Option.some Jvm.ClassFile.FieldType.boolean)) ∈ lw_all := lw_g (lw_at lw_m1 50 rfl) rfl
theorem q72 : (Jvm.Cond.methodLink "TourSolver" (36 : Nat) ({ cls := "TourSolver", name := "isCouple", desc := "(II)Z" } : Jvm.MethodName)) ∈ lw_all := lw_g (lw_at lw_m1 51 rfl) rfl
theorem q73 : (Jvm.Cond.privateMethod ({ cls := "TourSolver", name := "isCouple", desc := "(II)Z" } : Jvm.MethodName)) ∈ lw_tbl := lw_at lw_m1 52 rfl
theorem q74 : (Jvm.Cond.instanceMethod ({ cls := "TourSolver", name := "isCouple", desc := "(II)Z" } : Jvm.MethodName)) ∈ lw_all := lw_g (lw_at lw_m1 53 rfl) rfl
theorem q75 : (Jvm.Cond.code ({ cls := "TourSolver", name := "isCouple", desc := "(II)Z" } : Jvm.MethodName) prog_1_method_4_code (3 : Nat) (Option.some Jvm.ClassFile.FieldType.boolean)) ∈ lw_all := lw_g (lw_at lw_m1 54 rfl) rfl
theorem q76 : (Jvm.Cond.methodLink "TourSolver" (40 : Nat) ({ cls := "TourSolver", name := "isTown", desc := "(I)Z" } : Jvm.MethodName)) ∈ lw_all := lw_g (lw_at lw_m1 55 rfl) rfl
theorem q77 : (Jvm.Cond.privateMethod ({ cls := "TourSolver", name := "isTown", desc := "(I)Z" } : Jvm.MethodName)) ∈ lw_tbl := lw_at lw_m1 56 rfl
theorem q78 : (Jvm.Cond.instanceMethod ({ cls := "TourSolver", name := "isTown", desc := "(I)Z" } : Jvm.MethodName)) ∈ lw_all := lw_g (lw_at lw_m1 57 rfl) rfl
theorem q79 : (Jvm.Cond.code ({ cls := "TourSolver", name := "isTown", desc := "(I)Z" } : Jvm.MethodName) prog_1_method_3_code (2 : Nat) (Option.some Jvm.ClassFile.FieldType.boolean)) ∈ lw_all := lw_g (lw_at lw_m1 58 rfl) rfl
theorem q81 : (Jvm.Cond.instanceMethod ({ cls := "TourSolver", name := "shortest", desc := "()I" } : Jvm.MethodName)) ∈ lw_all := lw_g (lw_at lw_m1 60 rfl) rfl
theorem q82 : (Jvm.Cond.selects "TourSolver" ({ cls := "TourSolver", name := "shortest", desc := "()I" } : Jvm.MethodName) ({ cls := "TourSolver", name := "shortest", desc := "()I" } : Jvm.MethodName)) ∈ lw_all := lw_g (lw_at lw_m1 61 rfl) rfl
theorem q83 : (Jvm.Cond.code ({ cls := "TourSolver", name := "shortest", desc := "()I" } : Jvm.MethodName) prog_1_method_7_code (1 : Nat) (Option.some Jvm.ClassFile.FieldType.int)) ∈ lw_all := lw_g (lw_at lw_m1 62 rfl) rfl
theorem q84 : (Jvm.Cond.methodLink "TourSolver" (44 : Nat) ({ cls := "TourSolver", name := "loadPrices", desc := "()V" } : Jvm.MethodName)) ∈ lw_all := lw_g (lw_at lw_m1 63 rfl) rfl
theorem q85 : (Jvm.Cond.privateMethod ({ cls := "TourSolver", name := "loadPrices", desc := "()V" } : Jvm.MethodName)) ∈ lw_tbl := lw_at lw_m1 64 rfl
theorem q86 : (Jvm.Cond.instanceMethod ({ cls := "TourSolver", name := "loadPrices", desc := "()V" } : Jvm.MethodName)) ∈ lw_all := lw_g (lw_at lw_m1 65 rfl) rfl
theorem q87 : (Jvm.Cond.code ({ cls := "TourSolver", name := "loadPrices", desc := "()V" } : Jvm.MethodName) prog_1_method_5_code (2 : Nat) (Option.none : Option Jvm.ClassFile.FieldType)) ∈ lw_all := lw_g (lw_at lw_m1 66 rfl) rfl
theorem q88 : (Jvm.Cond.methodLink "TourSolver" (47 : Nat) ({ cls := "TourSolver", name := "solve", desc := "(II)V" } : Jvm.MethodName)) ∈ lw_all := lw_g (lw_at lw_m1 67 rfl) rfl
theorem q89 : (Jvm.Cond.privateMethod ({ cls := "TourSolver", name := "solve", desc := "(II)V" } : Jvm.MethodName)) ∈ lw_tbl := lw_at lw_m1 68 rfl
theorem q90 : (Jvm.Cond.instanceMethod ({ cls := "TourSolver", name := "solve", desc := "(II)V" } : Jvm.MethodName)) ∈ lw_all := lw_g (lw_at lw_m1 69 rfl) rfl
theorem q91 : (Jvm.Cond.code ({ cls := "TourSolver", name := "solve", desc := "(II)V" } : Jvm.MethodName) prog_1_method_19_code (10 : Nat) (Option.none : Option Jvm.ClassFile.FieldType)) ∈ lw_all := lw_g (lw_at lw_m1 70 rfl) rfl
theorem q92 : (Jvm.Cond.constant "TourSolver" (80 : Nat) (80000 : Int32)) ∈ lw_all := lw_g (lw_at lw_m1 71 rfl) rfl
theorem q93 : (Jvm.Cond.methodLink "TourSolver" (81 : Nat) ({ cls := "TourSolver", name := "offer", desc := "(II)V" } : Jvm.MethodName)) ∈ lw_all := lw_g (lw_at lw_m1 72 rfl) rfl
theorem q94 : (Jvm.Cond.privateMethod ({ cls := "TourSolver", name := "offer", desc := "(II)V" } : Jvm.MethodName)) ∈ lw_tbl := lw_at lw_m1 73 rfl
theorem q95 : (Jvm.Cond.instanceMethod ({ cls := "TourSolver", name := "offer", desc := "(II)V" } : Jvm.MethodName)) ∈ lw_all := lw_g (lw_at lw_m1 74 rfl) rfl
theorem q96 : (Jvm.Cond.code ({ cls := "TourSolver", name := "offer", desc := "(II)V" } : Jvm.MethodName) prog_1_method_22_code (4 : Nat) (Option.none : Option Jvm.ClassFile.FieldType)) ∈ lw_all := lw_g (lw_at lw_m1 75 rfl) rfl
theorem q97 : (Jvm.Cond.methodLink "TourSolver" (84 : Nat) ({ cls := "TourSolver", name := "freed", desc := "(I)I" } : Jvm.MethodName)) ∈ lw_all := lw_g (lw_at lw_m1 76 rfl) rfl
theorem q98 : (Jvm.Cond.privateMethod ({ cls := "TourSolver", name := "freed", desc := "(I)I" } : Jvm.MethodName)) ∈ lw_tbl := lw_at lw_m1 77 rfl
theorem q99 : (Jvm.Cond.instanceMethod ({ cls := "TourSolver", name := "freed", desc := "(I)I" } : Jvm.MethodName)) ∈ lw_all := lw_g (lw_at lw_m1 78 rfl) rfl
theorem q100 : (Jvm.Cond.code ({ cls := "TourSolver", name := "freed", desc := "(I)I" } : Jvm.MethodName) prog_1_method_20_code (2 : Nat) (Option.some Jvm.ClassFile.FieldType.int)) ∈ lw_all := lw_g (lw_at lw_m1 79 rfl) rfl
theorem q101 : (Jvm.Cond.methodLink "TourSolver" (87 : Nat) ({ cls := "TourSolver", name := "nextTown", desc := "(II)I" } : Jvm.MethodName)) ∈ lw_all := lw_g (lw_at lw_m1 80 rfl) rfl
theorem q102 : (Jvm.Cond.privateMethod ({ cls := "TourSolver", name := "nextTown", desc := "(II)I" } : Jvm.MethodName)) ∈ lw_tbl := lw_at lw_m1 81 rfl
theorem q103 : (Jvm.Cond.instanceMethod ({ cls := "TourSolver", name := "nextTown", desc := "(II)I" } : Jvm.MethodName)) ∈ lw_all := lw_g (lw_at lw_m1 82 rfl) rfl
theorem q104 : (Jvm.Cond.code ({ cls := "TourSolver", name := "nextTown", desc := "(II)I" } : Jvm.MethodName) prog_1_method_21_code (4 : Nat) (Option.some Jvm.ClassFile.FieldType.int)) ∈ lw_all := lw_g (lw_at lw_m1 83 rfl) rfl
theorem q105 : (Jvm.Cond.methodLink "TourSolver" (91 : Nat) ({ cls := "TourSolver", name := "atLeast", desc := "(II)I" } : Jvm.MethodName)) ∈ lw_all := lw_g (lw_at lw_m1 84 rfl) rfl
theorem q106 : (Jvm.Cond.privateMethod ({ cls := "TourSolver", name := "atLeast", desc := "(II)I" } : Jvm.MethodName)) ∈ lw_tbl := lw_at lw_m1 85 rfl
theorem q107 : (Jvm.Cond.instanceMethod ({ cls := "TourSolver", name := "atLeast", desc := "(II)I" } : Jvm.MethodName)) ∈ lw_all := lw_g (lw_at lw_m1 86 rfl) rfl
theorem q108 : (Jvm.Cond.code ({ cls := "TourSolver", name := "atLeast", desc := "(II)I" } : Jvm.MethodName) prog_1_method_18_code (7 : Nat) (Option.some Jvm.ClassFile.FieldType.int)) ∈ lw_all := lw_g (lw_at lw_m1 87 rfl) rfl
theorem q109 : (Jvm.Cond.methodLink "TourSolver" (65 : Nat) ({ cls := "TourSolver", name := "growNet", desc := "(IIZ)I" } : Jvm.MethodName)) ∈ lw_all := lw_g (lw_at lw_m1 88 rfl) rfl
theorem q110 : (Jvm.Cond.privateMethod ({ cls := "TourSolver", name := "growNet", desc := "(IIZ)I" } : Jvm.MethodName)) ∈ lw_tbl := lw_at lw_m1 89 rfl
theorem q111 : (Jvm.Cond.instanceMethod ({ cls := "TourSolver", name := "growNet", desc := "(IIZ)I" } : Jvm.MethodName)) ∈ lw_all := lw_g (lw_at lw_m1 90 rfl) rfl
theorem q112 : (Jvm.Cond.code ({ cls := "TourSolver", name := "growNet", desc := "(IIZ)I" } : Jvm.MethodName) prog_1_method_16_code (9 : Nat) (Option.some Jvm.ClassFile.FieldType.int)) ∈ lw_all := lw_g (lw_at lw_m1 91 rfl) rfl
theorem q113 : (Jvm.Cond.methodLink "TourSolver" (73 : Nat) ({ cls := "TourSolver", name := "nearestOf", desc := "(I)I" } : Jvm.MethodName)) ∈ lw_all := lw_g (lw_at lw_m1 92 rfl) rfl
theorem q114 : (Jvm.Cond.privateMethod ({ cls := "TourSolver", name := "nearestOf", desc := "(I)I" } : Jvm.MethodName)) ∈ lw_tbl := lw_at lw_m1 93 rfl
theorem q115 : (Jvm.Cond.instanceMethod ({ cls := "TourSolver", name := "nearestOf", desc := "(I)I" } : Jvm.MethodName)) ∈ lw_all := lw_g (lw_at lw_m1 94 rfl) rfl
theorem q116 : (Jvm.Cond.code ({ cls := "TourSolver", name := "nearestOf", desc := "(I)I" } : Jvm.MethodName) prog_1_method_17_code (4 : Nat) (Option.some Jvm.ClassFile.FieldType.int)) ∈ lw_all := lw_g (lw_at lw_m1 95 rfl) rfl
theorem q118 : (Jvm.Cond.instanceMethod ({ cls := "TourSolver", name := "town", desc := "(I)I" } : Jvm.MethodName)) ∈ lw_all := lw_g (lw_at lw_m1 97 rfl) rfl
theorem q119 : (Jvm.Cond.selects "TourSolver" ({ cls := "TourSolver", name := "town", desc := "(I)I" } : Jvm.MethodName) ({ cls := "TourSolver", name := "town", desc := "(I)I" } : Jvm.MethodName)) ∈ lw_all := lw_g (lw_at lw_m1 98 rfl) rfl
theorem q120 : (Jvm.Cond.code ({ cls := "TourSolver", name := "town", desc := "(I)I" } : Jvm.MethodName) prog_1_method_8_code (2 : Nat) (Option.some Jvm.ClassFile.FieldType.int)) ∈ lw_all := lw_g (lw_at lw_m1 99 rfl) rfl
theorem q121 : (Jvm.Cond.methodLink "TourSolver" (54 : Nat) ({ cls := "TourSolver", name := "shortest", desc := "()I" } : Jvm.MethodName)) ∈ lw_all := lw_g (lw_at lw_m1 100 rfl) rfl
theorem q123 : (Jvm.Cond.instanceMethod ({ cls := "TourSolver", name := "trips", desc := "()I" } : Jvm.MethodName)) ∈ lw_all := lw_g (lw_at lw_m1 102 rfl) rfl
theorem q124 : (Jvm.Cond.selects "TourSolver" ({ cls := "TourSolver", name := "trips", desc := "()I" } : Jvm.MethodName) ({ cls := "TourSolver", name := "trips", desc := "()I" } : Jvm.MethodName)) ∈ lw_all := lw_g (lw_at lw_m1 103 rfl) rfl
theorem q125 : (Jvm.Cond.code ({ cls := "TourSolver", name := "trips", desc := "()I" } : Jvm.MethodName) prog_1_method_9_code (1 : Nat) (Option.some Jvm.ClassFile.FieldType.int)) ∈ lw_all := lw_g (lw_at lw_m1 104 rfl) rfl
theorem q127 : (Jvm.Cond.instanceMethod ({ cls := "TourSolver", name := "using", desc := "(II)I" } : Jvm.MethodName)) ∈ lw_all := lw_g (lw_at lw_m1 106 rfl) rfl
theorem q128 : (Jvm.Cond.selects "TourSolver" ({ cls := "TourSolver", name := "using", desc := "(II)I" } : Jvm.MethodName) ({ cls := "TourSolver", name := "using", desc := "(II)I" } : Jvm.MethodName)) ∈ lw_all := lw_g (lw_at lw_m1 107 rfl) rfl
theorem q129 : (Jvm.Cond.code ({ cls := "TourSolver", name := "using", desc := "(II)I" } : Jvm.MethodName) prog_1_method_10_code (3 : Nat) (Option.some Jvm.ClassFile.FieldType.int)) ∈ lw_all := lw_g (lw_at lw_m1 108 rfl) rfl
theorem q131 : (Jvm.Cond.instanceMethod ({ cls := "TourSolver", name := "avoiding", desc := "(II)I" } : Jvm.MethodName)) ∈ lw_all := lw_g (lw_at lw_m1 110 rfl) rfl
theorem q132 : (Jvm.Cond.selects "TourSolver" ({ cls := "TourSolver", name := "avoiding", desc := "(II)I" } : Jvm.MethodName) ({ cls := "TourSolver", name := "avoiding", desc := "(II)I" } : Jvm.MethodName)) ∈ lw_all := lw_g (lw_at lw_m1 111 rfl) rfl
theorem q133 : (Jvm.Cond.code ({ cls := "TourSolver", name := "avoiding", desc := "(II)I" } : Jvm.MethodName) prog_1_method_11_code (3 : Nat) (Option.some Jvm.ClassFile.FieldType.int)) ∈ lw_all := lw_g (lw_at lw_m1 112 rfl) rfl
theorem q134 : (Jvm.Cond.methodLink "TourSolver" (61 : Nat) ({ cls := "TourSolver", name := "price", desc := "(III)V" } : Jvm.MethodName)) ∈ lw_all := lw_g (lw_at lw_m1 113 rfl) rfl
theorem q135 : (Jvm.Cond.privateMethod ({ cls := "TourSolver", name := "price", desc := "(III)V" } : Jvm.MethodName)) ∈ lw_tbl := lw_at lw_m1 114 rfl
theorem q136 : (Jvm.Cond.instanceMethod ({ cls := "TourSolver", name := "price", desc := "(III)V" } : Jvm.MethodName)) ∈ lw_all := lw_g (lw_at lw_m1 115 rfl) rfl
theorem q137 : (Jvm.Cond.code ({ cls := "TourSolver", name := "price", desc := "(III)V" } : Jvm.MethodName) prog_1_method_6_code (4 : Nat) (Option.none : Option Jvm.ClassFile.FieldType)) ∈ lw_all := lw_g (lw_at lw_m1 116 rfl) rfl
theorem q139 : (Jvm.Cond.instanceMethod ({ cls := "TourSolver", name := "walk", desc := "(II)I" } : Jvm.MethodName)) ∈ lw_all := lw_g (lw_at lw_m1 118 rfl) rfl
theorem q140 : (Jvm.Cond.selects "TourSolver" ({ cls := "TourSolver", name := "walk", desc := "(II)I" } : Jvm.MethodName) ({ cls := "TourSolver", name := "walk", desc := "(II)I" } : Jvm.MethodName)) ∈ lw_all := lw_g (lw_at lw_m1 119 rfl) rfl
theorem q141 : (Jvm.Cond.code ({ cls := "TourSolver", name := "walk", desc := "(II)I" } : Jvm.MethodName) prog_1_method_12_code (3 : Nat) (Option.some Jvm.ClassFile.FieldType.int)) ∈ lw_all := lw_g (lw_at lw_m1 120 rfl) rfl
theorem q143 : (Jvm.Cond.instanceMethod ({ cls := "TourSolver", name := "reach", desc := "()I" } : Jvm.MethodName)) ∈ lw_all := lw_g (lw_at lw_m1 122 rfl) rfl
theorem q144 : (Jvm.Cond.selects "TourSolver" ({ cls := "TourSolver", name := "reach", desc := "()I" } : Jvm.MethodName) ({ cls := "TourSolver", name := "reach", desc := "()I" } : Jvm.MethodName)) ∈ lw_all := lw_g (lw_at lw_m1 123 rfl) rfl
theorem q145 : (Jvm.Cond.code ({ cls := "TourSolver", name := "reach", desc := "()I" } : Jvm.MethodName) prog_1_method_13_code (1 : Nat) (Option.some Jvm.ClassFile.FieldType.int)) ∈ lw_all := lw_g (lw_at lw_m1 124 rfl) rfl
theorem q147 : (Jvm.Cond.instanceMethod ({ cls := "TourSolver", name := "net", desc := "()I" } : Jvm.MethodName)) ∈ lw_all := lw_g (lw_at lw_m1 126 rfl) rfl
theorem q148 : (Jvm.Cond.selects "TourSolver" ({ cls := "TourSolver", name := "net", desc := "()I" } : Jvm.MethodName) ({ cls := "TourSolver", name := "net", desc := "()I" } : Jvm.MethodName)) ∈ lw_all := lw_g (lw_at lw_m1 127 rfl) rfl
theorem q149 : (Jvm.Cond.code ({ cls := "TourSolver", name := "net", desc := "()I" } : Jvm.MethodName) prog_1_method_14_code (1 : Nat) (Option.some Jvm.ClassFile.FieldType.int)) ∈ lw_all := lw_g (lw_at lw_m1 128 rfl) rfl
theorem q151 : (Jvm.Cond.instanceMethod ({ cls := "TourSolver", name := "shift", desc := "(II)I" } : Jvm.MethodName)) ∈ lw_all := lw_g (lw_at lw_m1 130 rfl) rfl
theorem q152 : (Jvm.Cond.selects "TourSolver" ({ cls := "TourSolver", name := "shift", desc := "(II)I" } : Jvm.MethodName) ({ cls := "TourSolver", name := "shift", desc := "(II)I" } : Jvm.MethodName)) ∈ lw_all := lw_g (lw_at lw_m1 131 rfl) rfl
theorem q153 : (Jvm.Cond.code ({ cls := "TourSolver", name := "shift", desc := "(II)I" } : Jvm.MethodName) prog_1_method_15_code (6 : Nat) (Option.some Jvm.ClassFile.FieldType.int)) ∈ lw_all := lw_g (lw_at lw_m1 132 rfl) rfl
theorem q154 : (Jvm.Cond.methodLink "TourSolver" (69 : Nat) ({ cls := "TourSolver", name := "road", desc := "(III)Z" } : Jvm.MethodName)) ∈ lw_all := lw_g (lw_at lw_m1 133 rfl) rfl
theorem in_X1 : ∀ w ∈ wsX10, w ∈ lw_all := lw_in wsX10 [43, 45, 47, 49, 51, 53, 55, 57, 59, 61, 63] (by decide +kernel) (by decide +kernel)
end
section
/-! TourSolverModel -/
set_option maxRecDepth 100000
def RX2 : String := "TourSolverModel"
def TX2 : u_T := fun k => match k with
  | 0 => ("TourSolverModel", "n", "I", false)
  | 1 => ("TourSolverModel", "length", "[I", false)
  | 2 => ("TourSolverModel", "trips", "I", false)
  | 3 => ("TourSolverModel", "towns", "[I", false)
  | 4 => ("TourSolverModel", "longer", "[I", false)
  | _ => ("TourSolverModel", "part", "[I", false)
def tyX2 : Nat → FieldType := fun k => match k with
  | 0 => .int
  | 1 => .array .int
  | 2 => .int
  | 3 => .array .int
  | 4 => .array .int
  | _ => .array .int
abbrev wsX20 : List Cond := u_ws RX2 TX2 6
theorem nmX2 : ∀ a, a < 6 → ∀ b, b < 6 → a ≠ b → (TX2 a).2.1 ≠ (TX2 b).2.1 := by decide +kernel
theorem tyX2_ok : ∀ k, k < 6 → parseFieldDescriptor (TX2 k).2.2.1 = some (tyX2 k) := by decide +kernel
abbrev cX2_init : ByteArray := prog_3_method_1_code
def yX2_init : MethodName := ⟨RX2, "<init>", "(I)V"⟩
theorem dX2_init_0 : decode cX2_init 0 = .ok (.aload_n 0, 1) := by decide +kernel
theorem dX2_init_1 : decode cX2_init 1 = .ok (.invokespecial 1, 3) := by decide +kernel
theorem dX2_init_4 : decode cX2_init 4 = .ok (.aload_n 0, 1) := by decide +kernel
theorem dX2_init_5 : decode cX2_init 5 = .ok (.bipush 49, 2) := by decide +kernel
theorem dX2_init_7 : decode cX2_init 7 = .ok (.newarray .int, 2) := by decide +kernel
theorem dX2_init_9 : decode cX2_init 9 = .ok (.putfield 7, 3) := by decide +kernel
theorem dX2_init_12 : decode cX2_init 12 = .ok (.aload_n 0, 1) := by decide +kernel
theorem dX2_init_13 : decode cX2_init 13 = .ok (.iconst 1, 1) := by decide +kernel
theorem dX2_init_14 : decode cX2_init 14 = .ok (.putfield 13, 3) := by decide +kernel
theorem dX2_init_17 : decode cX2_init 17 = .ok (.aload_n 0, 1) := by decide +kernel
theorem dX2_init_18 : decode cX2_init 18 = .ok (.sipush 5040, 3) := by decide +kernel
theorem dX2_init_21 : decode cX2_init 21 = .ok (.newarray .int, 2) := by decide +kernel
theorem dX2_init_23 : decode cX2_init 23 = .ok (.putfield 17, 3) := by decide +kernel
theorem dX2_init_26 : decode cX2_init 26 = .ok (.aload_n 0, 1) := by decide +kernel
theorem dX2_init_27 : decode cX2_init 27 = .ok (.sipush 5040, 3) := by decide +kernel
theorem dX2_init_30 : decode cX2_init 30 = .ok (.newarray .int, 2) := by decide +kernel
theorem dX2_init_32 : decode cX2_init 32 = .ok (.putfield 20, 3) := by decide +kernel
theorem dX2_init_35 : decode cX2_init 35 = .ok (.aload_n 0, 1) := by decide +kernel
theorem dX2_init_36 : decode cX2_init 36 = .ok (.bipush 7, 2) := by decide +kernel
theorem dX2_init_38 : decode cX2_init 38 = .ok (.newarray .int, 2) := by decide +kernel
theorem dX2_init_40 : decode cX2_init 40 = .ok (.putfield 23, 3) := by decide +kernel
theorem dX2_init_43 : decode cX2_init 43 = .ok (.aload_n 0, 1) := by decide +kernel
theorem dX2_init_44 : decode cX2_init 44 = .ok (.iload_n 1, 1) := by decide +kernel
theorem dX2_init_45 : decode cX2_init 45 = .ok (.iconst 3, 1) := by decide +kernel
theorem dX2_init_46 : decode cX2_init 46 = .ok (.if_icmp .ge 7, 3) := by decide +kernel
theorem dX2_init_49 : decode cX2_init 49 = .ok (.iconst 3, 1) := by decide +kernel
theorem dX2_init_50 : decode cX2_init 50 = .ok (.goto 15, 3) := by decide +kernel
theorem dX2_init_53 : decode cX2_init 53 = .ok (.iload_n 1, 1) := by decide +kernel
theorem dX2_init_54 : decode cX2_init 54 = .ok (.bipush 7, 2) := by decide +kernel
theorem dX2_init_56 : decode cX2_init 56 = .ok (.if_icmp .le 8, 3) := by decide +kernel
theorem dX2_init_59 : decode cX2_init 59 = .ok (.bipush 7, 2) := by decide +kernel
theorem dX2_init_61 : decode cX2_init 61 = .ok (.goto 4, 3) := by decide +kernel
theorem dX2_init_64 : decode cX2_init 64 = .ok (.iload_n 1, 1) := by decide +kernel
theorem dX2_init_65 : decode cX2_init 65 = .ok (.putfield 26, 3) := by decide +kernel
theorem dX2_init_68 : decode cX2_init 68 = .ok (.iconst 0, 1) := by decide +kernel
theorem dX2_init_69 : decode cX2_init 69 = .ok (.istore_n 2, 1) := by decide +kernel
theorem dX2_init_70 : decode cX2_init 70 = .ok (.iload_n 2, 1) := by decide +kernel
theorem dX2_init_71 : decode cX2_init 71 = .ok (.bipush 49, 2) := by decide +kernel
theorem dX2_init_73 : decode cX2_init 73 = .ok (.if_icmp .ge 17, 3) := by decide +kernel
theorem dX2_init_76 : decode cX2_init 76 = .ok (.aload_n 0, 1) := by decide +kernel
theorem dX2_init_77 : decode cX2_init 77 = .ok (.getfield 7, 3) := by decide +kernel
theorem dX2_init_80 : decode cX2_init 80 = .ok (.iload_n 2, 1) := by decide +kernel
theorem dX2_init_81 : decode cX2_init 81 = .ok (.bipush 60, 2) := by decide +kernel
theorem dX2_init_83 : decode cX2_init 83 = .ok (.iastore, 1) := by decide +kernel
theorem dX2_init_84 : decode cX2_init 84 = .ok (.iinc 2 1, 3) := by decide +kernel
theorem dX2_init_87 : decode cX2_init 87 = .ok (.goto (-17), 3) := by decide +kernel
theorem dX2_init_90 : decode cX2_init 90 = .ok (.iconst 1, 1) := by decide +kernel
theorem dX2_init_91 : decode cX2_init 91 = .ok (.istore_n 2, 1) := by decide +kernel
theorem dX2_init_92 : decode cX2_init 92 = .ok (.iload_n 2, 1) := by decide +kernel
theorem dX2_init_93 : decode cX2_init 93 = .ok (.aload_n 0, 1) := by decide +kernel
theorem dX2_init_94 : decode cX2_init 94 = .ok (.getfield 26, 3) := by decide +kernel
theorem dX2_init_97 : decode cX2_init 97 = .ok (.if_icmp .ge 14, 3) := by decide +kernel
theorem dX2_init_100 : decode cX2_init 100 = .ok (.aload_n 0, 1) := by decide +kernel
theorem dX2_init_101 : decode cX2_init 101 = .ok (.iload_n 2, 1) := by decide +kernel
theorem dX2_init_102 : decode cX2_init 102 = .ok (.invokevirtual 29, 3) := by decide +kernel
theorem dX2_init_105 : decode cX2_init 105 = .ok (.iinc 2 1, 3) := by decide +kernel
theorem dX2_init_108 : decode cX2_init 108 = .ok (.goto (-16), 3) := by decide +kernel
theorem dX2_init_111 : decode cX2_init 111 = .ok (.return_, 1) := by decide +kernel
abbrev cX2_lengthen : ByteArray := prog_3_method_2_code
def yX2_lengthen : MethodName := ⟨RX2, "lengthen", "(I)V"⟩
theorem dX2_lengthen_0 : decode cX2_lengthen 0 = .ok (.iconst 0, 1) := by decide +kernel
theorem dX2_lengthen_1 : decode cX2_lengthen 1 = .ok (.istore_n 2, 1) := by decide +kernel
theorem dX2_lengthen_2 : decode cX2_lengthen 2 = .ok (.iconst 0, 1) := by decide +kernel
theorem dX2_lengthen_3 : decode cX2_lengthen 3 = .ok (.istore_n 3, 1) := by decide +kernel
theorem dX2_lengthen_4 : decode cX2_lengthen 4 = .ok (.iload_n 3, 1) := by decide +kernel
theorem dX2_lengthen_5 : decode cX2_lengthen 5 = .ok (.aload_n 0, 1) := by decide +kernel
theorem dX2_lengthen_6 : decode cX2_lengthen 6 = .ok (.getfield 13, 3) := by decide +kernel
theorem dX2_lengthen_9 : decode cX2_lengthen 9 = .ok (.aload_n 0, 1) := by decide +kernel
theorem dX2_lengthen_10 : decode cX2_lengthen 10 = .ok (.getfield 26, 3) := by decide +kernel
theorem dX2_lengthen_13 : decode cX2_lengthen 13 = .ok (.imul, 1) := by decide +kernel
theorem dX2_lengthen_14 : decode cX2_lengthen 14 = .ok (.if_icmp .ge 125, 3) := by decide +kernel
theorem dX2_lengthen_17 : decode cX2_lengthen 17 = .ok (.iload_n 3, 1) := by decide +kernel
theorem dX2_lengthen_18 : decode cX2_lengthen 18 = .ok (.aload_n 0, 1) := by decide +kernel
theorem dX2_lengthen_19 : decode cX2_lengthen 19 = .ok (.getfield 26, 3) := by decide +kernel
theorem dX2_lengthen_22 : decode cX2_lengthen 22 = .ok (.idiv, 1) := by decide +kernel
theorem dX2_lengthen_23 : decode cX2_lengthen 23 = .ok (.istore 4, 2) := by decide +kernel
theorem dX2_lengthen_25 : decode cX2_lengthen 25 = .ok (.iconst 1, 1) := by decide +kernel
theorem dX2_lengthen_26 : decode cX2_lengthen 26 = .ok (.istore 5, 2) := by decide +kernel
theorem dX2_lengthen_28 : decode cX2_lengthen 28 = .ok (.iconst 0, 1) := by decide +kernel
theorem dX2_lengthen_29 : decode cX2_lengthen 29 = .ok (.istore 6, 2) := by decide +kernel
theorem dX2_lengthen_31 : decode cX2_lengthen 31 = .ok (.iload 6, 2) := by decide +kernel
theorem dX2_lengthen_33 : decode cX2_lengthen 33 = .ok (.iload_n 1, 1) := by decide +kernel
theorem dX2_lengthen_34 : decode cX2_lengthen 34 = .ok (.if_icmp .ge 34, 3) := by decide +kernel
theorem dX2_lengthen_37 : decode cX2_lengthen 37 = .ok (.aload_n 0, 1) := by decide +kernel
theorem dX2_lengthen_38 : decode cX2_lengthen 38 = .ok (.getfield 17, 3) := by decide +kernel
theorem dX2_lengthen_41 : decode cX2_lengthen 41 = .ok (.bipush 7, 2) := by decide +kernel
theorem dX2_lengthen_43 : decode cX2_lengthen 43 = .ok (.iload 4, 2) := by decide +kernel
theorem dX2_lengthen_45 : decode cX2_lengthen 45 = .ok (.imul, 1) := by decide +kernel
theorem dX2_lengthen_46 : decode cX2_lengthen 46 = .ok (.iload 6, 2) := by decide +kernel
theorem dX2_lengthen_48 : decode cX2_lengthen 48 = .ok (.iadd, 1) := by decide +kernel
theorem dX2_lengthen_49 : decode cX2_lengthen 49 = .ok (.iaload, 1) := by decide +kernel
theorem dX2_lengthen_50 : decode cX2_lengthen 50 = .ok (.iload_n 3, 1) := by decide +kernel
theorem dX2_lengthen_51 : decode cX2_lengthen 51 = .ok (.aload_n 0, 1) := by decide +kernel
theorem dX2_lengthen_52 : decode cX2_lengthen 52 = .ok (.getfield 26, 3) := by decide +kernel
theorem dX2_lengthen_55 : decode cX2_lengthen 55 = .ok (.irem, 1) := by decide +kernel
theorem dX2_lengthen_56 : decode cX2_lengthen 56 = .ok (.if_icmp .ne 6, 3) := by decide +kernel
theorem dX2_lengthen_59 : decode cX2_lengthen 59 = .ok (.iconst 0, 1) := by decide +kernel
theorem dX2_lengthen_60 : decode cX2_lengthen 60 = .ok (.istore 5, 2) := by decide +kernel
theorem dX2_lengthen_62 : decode cX2_lengthen 62 = .ok (.iinc 6 1, 3) := by decide +kernel
theorem dX2_lengthen_65 : decode cX2_lengthen 65 = .ok (.goto (-34), 3) := by decide +kernel
theorem dX2_lengthen_68 : decode cX2_lengthen 68 = .ok (.iload 5, 2) := by decide +kernel
theorem dX2_lengthen_70 : decode cX2_lengthen 70 = .ok (.ifCond .eq 63, 3) := by decide +kernel
theorem dX2_lengthen_73 : decode cX2_lengthen 73 = .ok (.iconst 0, 1) := by decide +kernel
theorem dX2_lengthen_74 : decode cX2_lengthen 74 = .ok (.istore 6, 2) := by decide +kernel
theorem dX2_lengthen_76 : decode cX2_lengthen 76 = .ok (.iload 6, 2) := by decide +kernel
theorem dX2_lengthen_78 : decode cX2_lengthen 78 = .ok (.iload_n 1, 1) := by decide +kernel
theorem dX2_lengthen_79 : decode cX2_lengthen 79 = .ok (.if_icmp .ge 34, 3) := by decide +kernel
theorem dX2_lengthen_82 : decode cX2_lengthen 82 = .ok (.aload_n 0, 1) := by decide +kernel
theorem dX2_lengthen_83 : decode cX2_lengthen 83 = .ok (.getfield 20, 3) := by decide +kernel
theorem dX2_lengthen_86 : decode cX2_lengthen 86 = .ok (.bipush 7, 2) := by decide +kernel
theorem dX2_lengthen_88 : decode cX2_lengthen 88 = .ok (.iload_n 2, 1) := by decide +kernel
theorem dX2_lengthen_89 : decode cX2_lengthen 89 = .ok (.imul, 1) := by decide +kernel
theorem dX2_lengthen_90 : decode cX2_lengthen 90 = .ok (.iload 6, 2) := by decide +kernel
theorem dX2_lengthen_92 : decode cX2_lengthen 92 = .ok (.iadd, 1) := by decide +kernel
theorem dX2_lengthen_93 : decode cX2_lengthen 93 = .ok (.aload_n 0, 1) := by decide +kernel
theorem dX2_lengthen_94 : decode cX2_lengthen 94 = .ok (.getfield 17, 3) := by decide +kernel
theorem dX2_lengthen_97 : decode cX2_lengthen 97 = .ok (.bipush 7, 2) := by decide +kernel
theorem dX2_lengthen_99 : decode cX2_lengthen 99 = .ok (.iload 4, 2) := by decide +kernel
theorem dX2_lengthen_101 : decode cX2_lengthen 101 = .ok (.imul, 1) := by decide +kernel
theorem dX2_lengthen_102 : decode cX2_lengthen 102 = .ok (.iload 6, 2) := by decide +kernel
theorem dX2_lengthen_104 : decode cX2_lengthen 104 = .ok (.iadd, 1) := by decide +kernel
theorem dX2_lengthen_105 : decode cX2_lengthen 105 = .ok (.iaload, 1) := by decide +kernel
theorem dX2_lengthen_106 : decode cX2_lengthen 106 = .ok (.iastore, 1) := by decide +kernel
theorem dX2_lengthen_107 : decode cX2_lengthen 107 = .ok (.iinc 6 1, 3) := by decide +kernel
theorem dX2_lengthen_110 : decode cX2_lengthen 110 = .ok (.goto (-34), 3) := by decide +kernel
theorem dX2_lengthen_113 : decode cX2_lengthen 113 = .ok (.aload_n 0, 1) := by decide +kernel
theorem dX2_lengthen_114 : decode cX2_lengthen 114 = .ok (.getfield 20, 3) := by decide +kernel
theorem dX2_lengthen_117 : decode cX2_lengthen 117 = .ok (.bipush 7, 2) := by decide +kernel
theorem dX2_lengthen_119 : decode cX2_lengthen 119 = .ok (.iload_n 2, 1) := by decide +kernel
theorem dX2_lengthen_120 : decode cX2_lengthen 120 = .ok (.imul, 1) := by decide +kernel
theorem dX2_lengthen_121 : decode cX2_lengthen 121 = .ok (.iload_n 1, 1) := by decide +kernel
theorem dX2_lengthen_122 : decode cX2_lengthen 122 = .ok (.iadd, 1) := by decide +kernel
theorem dX2_lengthen_123 : decode cX2_lengthen 123 = .ok (.iload_n 3, 1) := by decide +kernel
theorem dX2_lengthen_124 : decode cX2_lengthen 124 = .ok (.aload_n 0, 1) := by decide +kernel
theorem dX2_lengthen_125 : decode cX2_lengthen 125 = .ok (.getfield 26, 3) := by decide +kernel
theorem dX2_lengthen_128 : decode cX2_lengthen 128 = .ok (.irem, 1) := by decide +kernel
theorem dX2_lengthen_129 : decode cX2_lengthen 129 = .ok (.iastore, 1) := by decide +kernel
theorem dX2_lengthen_130 : decode cX2_lengthen 130 = .ok (.iinc 2 1, 3) := by decide +kernel
theorem dX2_lengthen_133 : decode cX2_lengthen 133 = .ok (.iinc 3 1, 3) := by decide +kernel
theorem dX2_lengthen_136 : decode cX2_lengthen 136 = .ok (.goto (-132), 3) := by decide +kernel
theorem dX2_lengthen_139 : decode cX2_lengthen 139 = .ok (.aload_n 0, 1) := by decide +kernel
theorem dX2_lengthen_140 : decode cX2_lengthen 140 = .ok (.iload_n 2, 1) := by decide +kernel
theorem dX2_lengthen_141 : decode cX2_lengthen 141 = .ok (.putfield 13, 3) := by decide +kernel
theorem dX2_lengthen_144 : decode cX2_lengthen 144 = .ok (.iconst 0, 1) := by decide +kernel
theorem dX2_lengthen_145 : decode cX2_lengthen 145 = .ok (.istore_n 3, 1) := by decide +kernel
theorem dX2_lengthen_146 : decode cX2_lengthen 146 = .ok (.iload_n 3, 1) := by decide +kernel
theorem dX2_lengthen_147 : decode cX2_lengthen 147 = .ok (.bipush 7, 2) := by decide +kernel
theorem dX2_lengthen_149 : decode cX2_lengthen 149 = .ok (.iload_n 2, 1) := by decide +kernel
theorem dX2_lengthen_150 : decode cX2_lengthen 150 = .ok (.imul, 1) := by decide +kernel
theorem dX2_lengthen_151 : decode cX2_lengthen 151 = .ok (.if_icmp .ge 21, 3) := by decide +kernel
theorem dX2_lengthen_154 : decode cX2_lengthen 154 = .ok (.aload_n 0, 1) := by decide +kernel
theorem dX2_lengthen_155 : decode cX2_lengthen 155 = .ok (.getfield 17, 3) := by decide +kernel
theorem dX2_lengthen_158 : decode cX2_lengthen 158 = .ok (.iload_n 3, 1) := by decide +kernel
theorem dX2_lengthen_159 : decode cX2_lengthen 159 = .ok (.aload_n 0, 1) := by decide +kernel
theorem dX2_lengthen_160 : decode cX2_lengthen 160 = .ok (.getfield 20, 3) := by decide +kernel
theorem dX2_lengthen_163 : decode cX2_lengthen 163 = .ok (.iload_n 3, 1) := by decide +kernel
theorem dX2_lengthen_164 : decode cX2_lengthen 164 = .ok (.iaload, 1) := by decide +kernel
theorem dX2_lengthen_165 : decode cX2_lengthen 165 = .ok (.iastore, 1) := by decide +kernel
theorem dX2_lengthen_166 : decode cX2_lengthen 166 = .ok (.iinc 3 1, 3) := by decide +kernel
theorem dX2_lengthen_169 : decode cX2_lengthen 169 = .ok (.goto (-23), 3) := by decide +kernel
theorem dX2_lengthen_172 : decode cX2_lengthen 172 = .ok (.return_, 1) := by decide +kernel
abbrev cX2_road : ByteArray := prog_3_method_6_code
def yX2_road : MethodName := ⟨RX2, "road", "(III)Z"⟩
theorem dX2_road_0 : decode cX2_road 0 = .ok (.aload_n 0, 1) := by decide +kernel
theorem dX2_road_1 : decode cX2_road 1 = .ok (.iload_n 1, 1) := by decide +kernel
theorem dX2_road_2 : decode cX2_road 2 = .ok (.iload_n 2, 1) := by decide +kernel
theorem dX2_road_3 : decode cX2_road 3 = .ok (.invokevirtual 37, 3) := by decide +kernel
theorem dX2_road_6 : decode cX2_road 6 = .ok (.ifCond .eq 13, 3) := by decide +kernel
theorem dX2_road_9 : decode cX2_road 9 = .ok (.iload_n 3, 1) := by decide +kernel
theorem dX2_road_10 : decode cX2_road 10 = .ok (.ifCond .lt 9, 3) := by decide +kernel
theorem dX2_road_13 : decode cX2_road 13 = .ok (.iload_n 3, 1) := by decide +kernel
theorem dX2_road_14 : decode cX2_road 14 = .ok (.bipush 60, 2) := by decide +kernel
theorem dX2_road_16 : decode cX2_road 16 = .ok (.if_icmp .le 5, 3) := by decide +kernel
theorem dX2_road_19 : decode cX2_road 19 = .ok (.iconst 0, 1) := by decide +kernel
theorem dX2_road_20 : decode cX2_road 20 = .ok (.ireturn, 1) := by decide +kernel
theorem dX2_road_21 : decode cX2_road 21 = .ok (.aload_n 0, 1) := by decide +kernel
theorem dX2_road_22 : decode cX2_road 22 = .ok (.iload_n 1, 1) := by decide +kernel
theorem dX2_road_23 : decode cX2_road 23 = .ok (.iload_n 2, 1) := by decide +kernel
theorem dX2_road_24 : decode cX2_road 24 = .ok (.iload_n 3, 1) := by decide +kernel
theorem dX2_road_25 : decode cX2_road 25 = .ok (.invokevirtual 41, 3) := by decide +kernel
theorem dX2_road_28 : decode cX2_road 28 = .ok (.iconst 1, 1) := by decide +kernel
theorem dX2_road_29 : decode cX2_road 29 = .ok (.ireturn, 1) := by decide +kernel
abbrev cX2_isCouple : ByteArray := prog_3_method_4_code
def yX2_isCouple : MethodName := ⟨RX2, "isCouple", "(II)Z"⟩
theorem dX2_isCouple_0 : decode cX2_isCouple 0 = .ok (.aload_n 0, 1) := by decide +kernel
theorem dX2_isCouple_1 : decode cX2_isCouple 1 = .ok (.iload_n 1, 1) := by decide +kernel
theorem dX2_isCouple_2 : decode cX2_isCouple 2 = .ok (.invokevirtual 33, 3) := by decide +kernel
theorem dX2_isCouple_5 : decode cX2_isCouple 5 = .ok (.ifCond .eq 20, 3) := by decide +kernel
theorem dX2_isCouple_8 : decode cX2_isCouple 8 = .ok (.aload_n 0, 1) := by decide +kernel
theorem dX2_isCouple_9 : decode cX2_isCouple 9 = .ok (.iload_n 2, 1) := by decide +kernel
theorem dX2_isCouple_10 : decode cX2_isCouple 10 = .ok (.invokevirtual 33, 3) := by decide +kernel
theorem dX2_isCouple_13 : decode cX2_isCouple 13 = .ok (.ifCond .eq 12, 3) := by decide +kernel
theorem dX2_isCouple_16 : decode cX2_isCouple 16 = .ok (.iload_n 1, 1) := by decide +kernel
theorem dX2_isCouple_17 : decode cX2_isCouple 17 = .ok (.iload_n 2, 1) := by decide +kernel
theorem dX2_isCouple_18 : decode cX2_isCouple 18 = .ok (.if_icmp .eq 7, 3) := by decide +kernel
theorem dX2_isCouple_21 : decode cX2_isCouple 21 = .ok (.iconst 1, 1) := by decide +kernel
theorem dX2_isCouple_22 : decode cX2_isCouple 22 = .ok (.goto 4, 3) := by decide +kernel
theorem dX2_isCouple_25 : decode cX2_isCouple 25 = .ok (.iconst 0, 1) := by decide +kernel
theorem dX2_isCouple_26 : decode cX2_isCouple 26 = .ok (.ireturn, 1) := by decide +kernel
abbrev cX2_isTown : ByteArray := prog_3_method_3_code
def yX2_isTown : MethodName := ⟨RX2, "isTown", "(I)Z"⟩
theorem dX2_isTown_0 : decode cX2_isTown 0 = .ok (.iload_n 1, 1) := by decide +kernel
theorem dX2_isTown_1 : decode cX2_isTown 1 = .ok (.ifCond .lt 15, 3) := by decide +kernel
theorem dX2_isTown_4 : decode cX2_isTown 4 = .ok (.iload_n 1, 1) := by decide +kernel
theorem dX2_isTown_5 : decode cX2_isTown 5 = .ok (.aload_n 0, 1) := by decide +kernel
theorem dX2_isTown_6 : decode cX2_isTown 6 = .ok (.getfield 26, 3) := by decide +kernel
theorem dX2_isTown_9 : decode cX2_isTown 9 = .ok (.if_icmp .ge 7, 3) := by decide +kernel
theorem dX2_isTown_12 : decode cX2_isTown 12 = .ok (.iconst 1, 1) := by decide +kernel
theorem dX2_isTown_13 : decode cX2_isTown 13 = .ok (.goto 4, 3) := by decide +kernel
theorem dX2_isTown_16 : decode cX2_isTown 16 = .ok (.iconst 0, 1) := by decide +kernel
theorem dX2_isTown_17 : decode cX2_isTown 17 = .ok (.ireturn, 1) := by decide +kernel
abbrev cX2_put : ByteArray := prog_3_method_5_code
def yX2_put : MethodName := ⟨RX2, "put", "(III)V"⟩
theorem dX2_put_0 : decode cX2_put 0 = .ok (.aload_n 0, 1) := by decide +kernel
theorem dX2_put_1 : decode cX2_put 1 = .ok (.getfield 7, 3) := by decide +kernel
theorem dX2_put_4 : decode cX2_put 4 = .ok (.bipush 7, 2) := by decide +kernel
theorem dX2_put_6 : decode cX2_put 6 = .ok (.iload_n 1, 1) := by decide +kernel
theorem dX2_put_7 : decode cX2_put 7 = .ok (.imul, 1) := by decide +kernel
theorem dX2_put_8 : decode cX2_put 8 = .ok (.iload_n 2, 1) := by decide +kernel
theorem dX2_put_9 : decode cX2_put 9 = .ok (.iadd, 1) := by decide +kernel
theorem dX2_put_10 : decode cX2_put 10 = .ok (.iload_n 3, 1) := by decide +kernel
theorem dX2_put_11 : decode cX2_put 11 = .ok (.iastore, 1) := by decide +kernel
theorem dX2_put_12 : decode cX2_put 12 = .ok (.aload_n 0, 1) := by decide +kernel
theorem dX2_put_13 : decode cX2_put 13 = .ok (.getfield 7, 3) := by decide +kernel
theorem dX2_put_16 : decode cX2_put 16 = .ok (.bipush 7, 2) := by decide +kernel
theorem dX2_put_18 : decode cX2_put 18 = .ok (.iload_n 2, 1) := by decide +kernel
theorem dX2_put_19 : decode cX2_put 19 = .ok (.imul, 1) := by decide +kernel
theorem dX2_put_20 : decode cX2_put 20 = .ok (.iload_n 1, 1) := by decide +kernel
theorem dX2_put_21 : decode cX2_put 21 = .ok (.iadd, 1) := by decide +kernel
theorem dX2_put_22 : decode cX2_put 22 = .ok (.iload_n 3, 1) := by decide +kernel
theorem dX2_put_23 : decode cX2_put 23 = .ok (.iastore, 1) := by decide +kernel
theorem dX2_put_24 : decode cX2_put 24 = .ok (.return_, 1) := by decide +kernel
abbrev cX2_shortest : ByteArray := prog_3_method_11_code
def yX2_shortest : MethodName := ⟨RX2, "shortest", "()I"⟩
theorem dX2_shortest_0 : decode cX2_shortest 0 = .ok (.aload_n 0, 1) := by decide +kernel
theorem dX2_shortest_1 : decode cX2_shortest 1 = .ok (.invokevirtual 53, 3) := by decide +kernel
theorem dX2_shortest_4 : decode cX2_shortest 4 = .ok (.istore_n 1, 1) := by decide +kernel
theorem dX2_shortest_5 : decode cX2_shortest 5 = .ok (.aload_n 0, 1) := by decide +kernel
theorem dX2_shortest_6 : decode cX2_shortest 6 = .ok (.iload_n 1, 1) := by decide +kernel
theorem dX2_shortest_7 : decode cX2_shortest 7 = .ok (.invokevirtual 49, 3) := by decide +kernel
theorem dX2_shortest_10 : decode cX2_shortest 10 = .ok (.ireturn, 1) := by decide +kernel
abbrev cX2_best : ByteArray := prog_3_method_10_code
def yX2_best : MethodName := ⟨RX2, "best", "()I"⟩
theorem dX2_best_0 : decode cX2_best 0 = .ok (.iconst 0, 1) := by decide +kernel
theorem dX2_best_1 : decode cX2_best 1 = .ok (.istore_n 1, 1) := by decide +kernel
theorem dX2_best_2 : decode cX2_best 2 = .ok (.iconst 1, 1) := by decide +kernel
theorem dX2_best_3 : decode cX2_best 3 = .ok (.istore_n 2, 1) := by decide +kernel
theorem dX2_best_4 : decode cX2_best 4 = .ok (.iload_n 2, 1) := by decide +kernel
theorem dX2_best_5 : decode cX2_best 5 = .ok (.aload_n 0, 1) := by decide +kernel
theorem dX2_best_6 : decode cX2_best 6 = .ok (.getfield 13, 3) := by decide +kernel
theorem dX2_best_9 : decode cX2_best 9 = .ok (.if_icmp .ge 24, 3) := by decide +kernel
theorem dX2_best_12 : decode cX2_best 12 = .ok (.aload_n 0, 1) := by decide +kernel
theorem dX2_best_13 : decode cX2_best 13 = .ok (.iload_n 2, 1) := by decide +kernel
theorem dX2_best_14 : decode cX2_best 14 = .ok (.invokevirtual 49, 3) := by decide +kernel
theorem dX2_best_17 : decode cX2_best 17 = .ok (.aload_n 0, 1) := by decide +kernel
theorem dX2_best_18 : decode cX2_best 18 = .ok (.iload_n 1, 1) := by decide +kernel
theorem dX2_best_19 : decode cX2_best 19 = .ok (.invokevirtual 49, 3) := by decide +kernel
theorem dX2_best_22 : decode cX2_best 22 = .ok (.if_icmp .ge 5, 3) := by decide +kernel
theorem dX2_best_25 : decode cX2_best 25 = .ok (.iload_n 2, 1) := by decide +kernel
theorem dX2_best_26 : decode cX2_best 26 = .ok (.istore_n 1, 1) := by decide +kernel
theorem dX2_best_27 : decode cX2_best 27 = .ok (.iinc 2 1, 3) := by decide +kernel
theorem dX2_best_30 : decode cX2_best 30 = .ok (.goto (-26), 3) := by decide +kernel
theorem dX2_best_33 : decode cX2_best 33 = .ok (.iload_n 1, 1) := by decide +kernel
theorem dX2_best_34 : decode cX2_best 34 = .ok (.ireturn, 1) := by decide +kernel
abbrev cX2_sum : ByteArray := prog_3_method_8_code
def yX2_sum : MethodName := ⟨RX2, "sum", "(I)I"⟩
theorem dX2_sum_0 : decode cX2_sum 0 = .ok (.iconst 0, 1) := by decide +kernel
theorem dX2_sum_1 : decode cX2_sum 1 = .ok (.istore_n 2, 1) := by decide +kernel
theorem dX2_sum_2 : decode cX2_sum 2 = .ok (.iconst 0, 1) := by decide +kernel
theorem dX2_sum_3 : decode cX2_sum 3 = .ok (.istore_n 3, 1) := by decide +kernel
theorem dX2_sum_4 : decode cX2_sum 4 = .ok (.iload_n 3, 1) := by decide +kernel
theorem dX2_sum_5 : decode cX2_sum 5 = .ok (.aload_n 0, 1) := by decide +kernel
theorem dX2_sum_6 : decode cX2_sum 6 = .ok (.getfield 26, 3) := by decide +kernel
theorem dX2_sum_9 : decode cX2_sum 9 = .ok (.if_icmp .ge 43, 3) := by decide +kernel
theorem dX2_sum_12 : decode cX2_sum 12 = .ok (.aload_n 0, 1) := by decide +kernel
theorem dX2_sum_13 : decode cX2_sum 13 = .ok (.iload_n 1, 1) := by decide +kernel
theorem dX2_sum_14 : decode cX2_sum 14 = .ok (.iload_n 3, 1) := by decide +kernel
theorem dX2_sum_15 : decode cX2_sum 15 = .ok (.invokevirtual 45, 3) := by decide +kernel
theorem dX2_sum_18 : decode cX2_sum 18 = .ok (.istore 4, 2) := by decide +kernel
theorem dX2_sum_20 : decode cX2_sum 20 = .ok (.aload_n 0, 1) := by decide +kernel
theorem dX2_sum_21 : decode cX2_sum 21 = .ok (.iload_n 1, 1) := by decide +kernel
theorem dX2_sum_22 : decode cX2_sum 22 = .ok (.iload_n 3, 1) := by decide +kernel
theorem dX2_sum_23 : decode cX2_sum 23 = .ok (.iconst 1, 1) := by decide +kernel
theorem dX2_sum_24 : decode cX2_sum 24 = .ok (.iadd, 1) := by decide +kernel
theorem dX2_sum_25 : decode cX2_sum 25 = .ok (.invokevirtual 45, 3) := by decide +kernel
theorem dX2_sum_28 : decode cX2_sum 28 = .ok (.istore 5, 2) := by decide +kernel
theorem dX2_sum_30 : decode cX2_sum 30 = .ok (.iload_n 2, 1) := by decide +kernel
theorem dX2_sum_31 : decode cX2_sum 31 = .ok (.aload_n 0, 1) := by decide +kernel
theorem dX2_sum_32 : decode cX2_sum 32 = .ok (.getfield 7, 3) := by decide +kernel
theorem dX2_sum_35 : decode cX2_sum 35 = .ok (.bipush 7, 2) := by decide +kernel
theorem dX2_sum_37 : decode cX2_sum 37 = .ok (.iload 4, 2) := by decide +kernel
theorem dX2_sum_39 : decode cX2_sum 39 = .ok (.imul, 1) := by decide +kernel
theorem dX2_sum_40 : decode cX2_sum 40 = .ok (.iload 5, 2) := by decide +kernel
theorem dX2_sum_42 : decode cX2_sum 42 = .ok (.iadd, 1) := by decide +kernel
theorem dX2_sum_43 : decode cX2_sum 43 = .ok (.iaload, 1) := by decide +kernel
theorem dX2_sum_44 : decode cX2_sum 44 = .ok (.iadd, 1) := by decide +kernel
theorem dX2_sum_45 : decode cX2_sum 45 = .ok (.istore_n 2, 1) := by decide +kernel
theorem dX2_sum_46 : decode cX2_sum 46 = .ok (.iinc 3 1, 3) := by decide +kernel
theorem dX2_sum_49 : decode cX2_sum 49 = .ok (.goto (-45), 3) := by decide +kernel
theorem dX2_sum_52 : decode cX2_sum 52 = .ok (.iload_n 2, 1) := by decide +kernel
theorem dX2_sum_53 : decode cX2_sum 53 = .ok (.ireturn, 1) := by decide +kernel
abbrev cX2_placeOf : ByteArray := prog_3_method_7_code
def yX2_placeOf : MethodName := ⟨RX2, "placeOf", "(II)I"⟩
theorem dX2_placeOf_0 : decode cX2_placeOf 0 = .ok (.aload_n 0, 1) := by decide +kernel
theorem dX2_placeOf_1 : decode cX2_placeOf 1 = .ok (.getfield 17, 3) := by decide +kernel
theorem dX2_placeOf_4 : decode cX2_placeOf 4 = .ok (.bipush 7, 2) := by decide +kernel
theorem dX2_placeOf_6 : decode cX2_placeOf 6 = .ok (.iload_n 1, 1) := by decide +kernel
theorem dX2_placeOf_7 : decode cX2_placeOf 7 = .ok (.imul, 1) := by decide +kernel
theorem dX2_placeOf_8 : decode cX2_placeOf 8 = .ok (.iload_n 2, 1) := by decide +kernel
theorem dX2_placeOf_9 : decode cX2_placeOf 9 = .ok (.aload_n 0, 1) := by decide +kernel
theorem dX2_placeOf_10 : decode cX2_placeOf 10 = .ok (.getfield 26, 3) := by decide +kernel
theorem dX2_placeOf_13 : decode cX2_placeOf 13 = .ok (.if_icmp .ne 7, 3) := by decide +kernel
theorem dX2_placeOf_16 : decode cX2_placeOf 16 = .ok (.iconst 0, 1) := by decide +kernel
theorem dX2_placeOf_17 : decode cX2_placeOf 17 = .ok (.goto 4, 3) := by decide +kernel
theorem dX2_placeOf_20 : decode cX2_placeOf 20 = .ok (.iload_n 2, 1) := by decide +kernel
theorem dX2_placeOf_21 : decode cX2_placeOf 21 = .ok (.iadd, 1) := by decide +kernel
theorem dX2_placeOf_22 : decode cX2_placeOf 22 = .ok (.iaload, 1) := by decide +kernel
theorem dX2_placeOf_23 : decode cX2_placeOf 23 = .ok (.ireturn, 1) := by decide +kernel
abbrev cX2_town : ByteArray := prog_3_method_12_code
def yX2_town : MethodName := ⟨RX2, "town", "(I)I"⟩
theorem dX2_town_0 : decode cX2_town 0 = .ok (.aload_n 0, 1) := by decide +kernel
theorem dX2_town_1 : decode cX2_town 1 = .ok (.iload_n 1, 1) := by decide +kernel
theorem dX2_town_2 : decode cX2_town 2 = .ok (.invokevirtual 33, 3) := by decide +kernel
theorem dX2_town_5 : decode cX2_town 5 = .ok (.ifCond .ne 5, 3) := by decide +kernel
theorem dX2_town_8 : decode cX2_town 8 = .ok (.iconst (-1), 1) := by decide +kernel
theorem dX2_town_9 : decode cX2_town 9 = .ok (.ireturn, 1) := by decide +kernel
theorem dX2_town_10 : decode cX2_town 10 = .ok (.aload_n 0, 1) := by decide +kernel
theorem dX2_town_11 : decode cX2_town 11 = .ok (.invokevirtual 53, 3) := by decide +kernel
theorem dX2_town_14 : decode cX2_town 14 = .ok (.istore_n 2, 1) := by decide +kernel
theorem dX2_town_15 : decode cX2_town 15 = .ok (.aload_n 0, 1) := by decide +kernel
theorem dX2_town_16 : decode cX2_town 16 = .ok (.iload_n 2, 1) := by decide +kernel
theorem dX2_town_17 : decode cX2_town 17 = .ok (.iload_n 1, 1) := by decide +kernel
theorem dX2_town_18 : decode cX2_town 18 = .ok (.invokevirtual 45, 3) := by decide +kernel
theorem dX2_town_21 : decode cX2_town 21 = .ok (.ireturn, 1) := by decide +kernel
abbrev cX2_trips : ByteArray := prog_3_method_13_code
def yX2_trips : MethodName := ⟨RX2, "trips", "()I"⟩
theorem dX2_trips_0 : decode cX2_trips 0 = .ok (.aload_n 0, 1) := by decide +kernel
theorem dX2_trips_1 : decode cX2_trips 1 = .ok (.invokevirtual 57, 3) := by decide +kernel
theorem dX2_trips_4 : decode cX2_trips 4 = .ok (.istore_n 1, 1) := by decide +kernel
theorem dX2_trips_5 : decode cX2_trips 5 = .ok (.iconst 0, 1) := by decide +kernel
theorem dX2_trips_6 : decode cX2_trips 6 = .ok (.istore_n 2, 1) := by decide +kernel
theorem dX2_trips_7 : decode cX2_trips 7 = .ok (.iconst 0, 1) := by decide +kernel
theorem dX2_trips_8 : decode cX2_trips 8 = .ok (.istore_n 3, 1) := by decide +kernel
theorem dX2_trips_9 : decode cX2_trips 9 = .ok (.iload_n 3, 1) := by decide +kernel
end
section
set_option maxRecDepth 100000
theorem dX2_trips_10 : decode cX2_trips 10 = .ok (.aload_n 0, 1) := by decide +kernel
theorem dX2_trips_11 : decode cX2_trips 11 = .ok (.getfield 13, 3) := by decide +kernel
theorem dX2_trips_14 : decode cX2_trips 14 = .ok (.if_icmp .ge 21, 3) := by decide +kernel
theorem dX2_trips_17 : decode cX2_trips 17 = .ok (.aload_n 0, 1) := by decide +kernel
theorem dX2_trips_18 : decode cX2_trips 18 = .ok (.iload_n 3, 1) := by decide +kernel
theorem dX2_trips_19 : decode cX2_trips 19 = .ok (.invokevirtual 49, 3) := by decide +kernel
theorem dX2_trips_22 : decode cX2_trips 22 = .ok (.iload_n 1, 1) := by decide +kernel
theorem dX2_trips_23 : decode cX2_trips 23 = .ok (.if_icmp .ne 6, 3) := by decide +kernel
theorem dX2_trips_26 : decode cX2_trips 26 = .ok (.iinc 2 1, 3) := by decide +kernel
theorem dX2_trips_29 : decode cX2_trips 29 = .ok (.iinc 3 1, 3) := by decide +kernel
theorem dX2_trips_32 : decode cX2_trips 32 = .ok (.goto (-23), 3) := by decide +kernel
theorem dX2_trips_35 : decode cX2_trips 35 = .ok (.iload_n 2, 1) := by decide +kernel
theorem dX2_trips_36 : decode cX2_trips 36 = .ok (.ireturn, 1) := by decide +kernel
abbrev cX2_using : ByteArray := prog_3_method_15_code
def yX2_using : MethodName := ⟨RX2, "using", "(II)I"⟩
theorem dX2_using_0 : decode cX2_using 0 = .ok (.aload_n 0, 1) := by decide +kernel
theorem dX2_using_1 : decode cX2_using 1 = .ok (.iload_n 1, 1) := by decide +kernel
theorem dX2_using_2 : decode cX2_using 2 = .ok (.iload_n 2, 1) := by decide +kernel
theorem dX2_using_3 : decode cX2_using 3 = .ok (.invokevirtual 37, 3) := by decide +kernel
theorem dX2_using_6 : decode cX2_using 6 = .ok (.ifCond .eq 13, 3) := by decide +kernel
theorem dX2_using_9 : decode cX2_using 9 = .ok (.aload_n 0, 1) := by decide +kernel
theorem dX2_using_10 : decode cX2_using 10 = .ok (.iload_n 1, 1) := by decide +kernel
theorem dX2_using_11 : decode cX2_using 11 = .ok (.iload_n 2, 1) := by decide +kernel
theorem dX2_using_12 : decode cX2_using 12 = .ok (.iconst 1, 1) := by decide +kernel
theorem dX2_using_13 : decode cX2_using 13 = .ok (.invokevirtual 64, 3) := by decide +kernel
theorem dX2_using_16 : decode cX2_using 16 = .ok (.goto 4, 3) := by decide +kernel
theorem dX2_using_19 : decode cX2_using 19 = .ok (.iconst (-1), 1) := by decide +kernel
theorem dX2_using_20 : decode cX2_using 20 = .ok (.ireturn, 1) := by decide +kernel
abbrev cX2_least : ByteArray := prog_3_method_14_code
def yX2_least : MethodName := ⟨RX2, "least", "(IIZ)I"⟩
theorem dX2_least_0 : decode cX2_least 0 = .ok (.iconst (-1), 1) := by decide +kernel
theorem dX2_least_1 : decode cX2_least 1 = .ok (.istore 4, 2) := by decide +kernel
theorem dX2_least_3 : decode cX2_least 3 = .ok (.iconst 0, 1) := by decide +kernel
theorem dX2_least_4 : decode cX2_least 4 = .ok (.istore 5, 2) := by decide +kernel
theorem dX2_least_6 : decode cX2_least 6 = .ok (.iload 5, 2) := by decide +kernel
theorem dX2_least_8 : decode cX2_least 8 = .ok (.aload_n 0, 1) := by decide +kernel
theorem dX2_least_9 : decode cX2_least 9 = .ok (.getfield 13, 3) := by decide +kernel
theorem dX2_least_12 : decode cX2_least 12 = .ok (.if_icmp .ge 54, 3) := by decide +kernel
theorem dX2_least_15 : decode cX2_least 15 = .ok (.aload_n 0, 1) := by decide +kernel
theorem dX2_least_16 : decode cX2_least 16 = .ok (.iload 5, 2) := by decide +kernel
theorem dX2_least_18 : decode cX2_least 18 = .ok (.iload_n 1, 1) := by decide +kernel
theorem dX2_least_19 : decode cX2_least 19 = .ok (.iload_n 2, 1) := by decide +kernel
theorem dX2_least_20 : decode cX2_least 20 = .ok (.invokevirtual 60, 3) := by decide +kernel
theorem dX2_least_23 : decode cX2_least 23 = .ok (.iload_n 3, 1) := by decide +kernel
theorem dX2_least_24 : decode cX2_least 24 = .ok (.if_icmp .ne 12, 3) := by decide +kernel
theorem dX2_least_27 : decode cX2_least 27 = .ok (.aload_n 0, 1) := by decide +kernel
theorem dX2_least_28 : decode cX2_least 28 = .ok (.iload 5, 2) := by decide +kernel
theorem dX2_least_30 : decode cX2_least 30 = .ok (.invokevirtual 49, 3) := by decide +kernel
theorem dX2_least_33 : decode cX2_least 33 = .ok (.goto 4, 3) := by decide +kernel
theorem dX2_least_36 : decode cX2_least 36 = .ok (.iconst (-1), 1) := by decide +kernel
theorem dX2_least_37 : decode cX2_least 37 = .ok (.istore 6, 2) := by decide +kernel
theorem dX2_least_39 : decode cX2_least 39 = .ok (.iload 6, 2) := by decide +kernel
theorem dX2_least_41 : decode cX2_least 41 = .ok (.ifCond .lt 19, 3) := by decide +kernel
theorem dX2_least_44 : decode cX2_least 44 = .ok (.iload 4, 2) := by decide +kernel
theorem dX2_least_46 : decode cX2_least 46 = .ok (.ifCond .lt 10, 3) := by decide +kernel
theorem dX2_least_49 : decode cX2_least 49 = .ok (.iload 6, 2) := by decide +kernel
theorem dX2_least_51 : decode cX2_least 51 = .ok (.iload 4, 2) := by decide +kernel
theorem dX2_least_53 : decode cX2_least 53 = .ok (.if_icmp .ge 7, 3) := by decide +kernel
theorem dX2_least_56 : decode cX2_least 56 = .ok (.iload 6, 2) := by decide +kernel
theorem dX2_least_58 : decode cX2_least 58 = .ok (.istore 4, 2) := by decide +kernel
theorem dX2_least_60 : decode cX2_least 60 = .ok (.iinc 5 1, 3) := by decide +kernel
theorem dX2_least_63 : decode cX2_least 63 = .ok (.goto (-57), 3) := by decide +kernel
theorem dX2_least_66 : decode cX2_least 66 = .ok (.iload 4, 2) := by decide +kernel
theorem dX2_least_68 : decode cX2_least 68 = .ok (.ireturn, 1) := by decide +kernel
abbrev cX2_uses : ByteArray := prog_3_method_9_code
def yX2_uses : MethodName := ⟨RX2, "uses", "(III)Z"⟩
theorem dX2_uses_0 : decode cX2_uses 0 = .ok (.iconst 0, 1) := by decide +kernel
theorem dX2_uses_1 : decode cX2_uses 1 = .ok (.istore 4, 2) := by decide +kernel
theorem dX2_uses_3 : decode cX2_uses 3 = .ok (.iload 4, 2) := by decide +kernel
theorem dX2_uses_5 : decode cX2_uses 5 = .ok (.aload_n 0, 1) := by decide +kernel
theorem dX2_uses_6 : decode cX2_uses 6 = .ok (.getfield 26, 3) := by decide +kernel
theorem dX2_uses_9 : decode cX2_uses 9 = .ok (.if_icmp .ge 55, 3) := by decide +kernel
theorem dX2_uses_12 : decode cX2_uses 12 = .ok (.aload_n 0, 1) := by decide +kernel
theorem dX2_uses_13 : decode cX2_uses 13 = .ok (.iload_n 1, 1) := by decide +kernel
theorem dX2_uses_14 : decode cX2_uses 14 = .ok (.iload 4, 2) := by decide +kernel
theorem dX2_uses_16 : decode cX2_uses 16 = .ok (.invokevirtual 45, 3) := by decide +kernel
theorem dX2_uses_19 : decode cX2_uses 19 = .ok (.istore 5, 2) := by decide +kernel
theorem dX2_uses_21 : decode cX2_uses 21 = .ok (.aload_n 0, 1) := by decide +kernel
theorem dX2_uses_22 : decode cX2_uses 22 = .ok (.iload_n 1, 1) := by decide +kernel
theorem dX2_uses_23 : decode cX2_uses 23 = .ok (.iload 4, 2) := by decide +kernel
theorem dX2_uses_25 : decode cX2_uses 25 = .ok (.iconst 1, 1) := by decide +kernel
theorem dX2_uses_26 : decode cX2_uses 26 = .ok (.iadd, 1) := by decide +kernel
theorem dX2_uses_27 : decode cX2_uses 27 = .ok (.invokevirtual 45, 3) := by decide +kernel
theorem dX2_uses_30 : decode cX2_uses 30 = .ok (.istore 6, 2) := by decide +kernel
theorem dX2_uses_32 : decode cX2_uses 32 = .ok (.iload 5, 2) := by decide +kernel
theorem dX2_uses_34 : decode cX2_uses 34 = .ok (.iload_n 2, 1) := by decide +kernel
theorem dX2_uses_35 : decode cX2_uses 35 = .ok (.if_icmp .ne 9, 3) := by decide +kernel
theorem dX2_uses_38 : decode cX2_uses 38 = .ok (.iload 6, 2) := by decide +kernel
theorem dX2_uses_40 : decode cX2_uses 40 = .ok (.iload_n 3, 1) := by decide +kernel
theorem dX2_uses_41 : decode cX2_uses 41 = .ok (.if_icmp .eq 15, 3) := by decide +kernel
theorem dX2_uses_44 : decode cX2_uses 44 = .ok (.iload 5, 2) := by decide +kernel
theorem dX2_uses_46 : decode cX2_uses 46 = .ok (.iload_n 3, 1) := by decide +kernel
theorem dX2_uses_47 : decode cX2_uses 47 = .ok (.if_icmp .ne 11, 3) := by decide +kernel
theorem dX2_uses_50 : decode cX2_uses 50 = .ok (.iload 6, 2) := by decide +kernel
theorem dX2_uses_52 : decode cX2_uses 52 = .ok (.iload_n 2, 1) := by decide +kernel
theorem dX2_uses_53 : decode cX2_uses 53 = .ok (.if_icmp .ne 5, 3) := by decide +kernel
theorem dX2_uses_56 : decode cX2_uses 56 = .ok (.iconst 1, 1) := by decide +kernel
theorem dX2_uses_57 : decode cX2_uses 57 = .ok (.ireturn, 1) := by decide +kernel
theorem dX2_uses_58 : decode cX2_uses 58 = .ok (.iinc 4 1, 3) := by decide +kernel
theorem dX2_uses_61 : decode cX2_uses 61 = .ok (.goto (-58), 3) := by decide +kernel
theorem dX2_uses_64 : decode cX2_uses 64 = .ok (.iconst 0, 1) := by decide +kernel
theorem dX2_uses_65 : decode cX2_uses 65 = .ok (.ireturn, 1) := by decide +kernel
abbrev cX2_avoiding : ByteArray := prog_3_method_16_code
def yX2_avoiding : MethodName := ⟨RX2, "avoiding", "(II)I"⟩
theorem dX2_avoiding_0 : decode cX2_avoiding 0 = .ok (.aload_n 0, 1) := by decide +kernel
theorem dX2_avoiding_1 : decode cX2_avoiding 1 = .ok (.iload_n 1, 1) := by decide +kernel
theorem dX2_avoiding_2 : decode cX2_avoiding 2 = .ok (.iload_n 2, 1) := by decide +kernel
theorem dX2_avoiding_3 : decode cX2_avoiding 3 = .ok (.invokevirtual 37, 3) := by decide +kernel
theorem dX2_avoiding_6 : decode cX2_avoiding 6 = .ok (.ifCond .eq 21, 3) := by decide +kernel
theorem dX2_avoiding_9 : decode cX2_avoiding 9 = .ok (.aload_n 0, 1) := by decide +kernel
theorem dX2_avoiding_10 : decode cX2_avoiding 10 = .ok (.getfield 26, 3) := by decide +kernel
theorem dX2_avoiding_13 : decode cX2_avoiding 13 = .ok (.iconst 3, 1) := by decide +kernel
theorem dX2_avoiding_14 : decode cX2_avoiding 14 = .ok (.if_icmp .le 13, 3) := by decide +kernel
theorem dX2_avoiding_17 : decode cX2_avoiding 17 = .ok (.aload_n 0, 1) := by decide +kernel
theorem dX2_avoiding_18 : decode cX2_avoiding 18 = .ok (.iload_n 1, 1) := by decide +kernel
theorem dX2_avoiding_19 : decode cX2_avoiding 19 = .ok (.iload_n 2, 1) := by decide +kernel
theorem dX2_avoiding_20 : decode cX2_avoiding 20 = .ok (.iconst 0, 1) := by decide +kernel
theorem dX2_avoiding_21 : decode cX2_avoiding 21 = .ok (.invokevirtual 64, 3) := by decide +kernel
theorem dX2_avoiding_24 : decode cX2_avoiding 24 = .ok (.goto 4, 3) := by decide +kernel
theorem dX2_avoiding_27 : decode cX2_avoiding 27 = .ok (.iconst (-1), 1) := by decide +kernel
theorem dX2_avoiding_28 : decode cX2_avoiding 28 = .ok (.ireturn, 1) := by decide +kernel
abbrev cX2_walk : ByteArray := prog_3_method_17_code
def yX2_walk : MethodName := ⟨RX2, "walk", "(II)I"⟩
theorem dX2_walk_0 : decode cX2_walk 0 = .ok (.aload_n 0, 1) := by decide +kernel
theorem dX2_walk_1 : decode cX2_walk 1 = .ok (.iload_n 1, 1) := by decide +kernel
theorem dX2_walk_2 : decode cX2_walk 2 = .ok (.iload_n 2, 1) := by decide +kernel
theorem dX2_walk_3 : decode cX2_walk 3 = .ok (.invokevirtual 37, 3) := by decide +kernel
theorem dX2_walk_6 : decode cX2_walk 6 = .ok (.ifCond .eq 25, 3) := by decide +kernel
theorem dX2_walk_9 : decode cX2_walk 9 = .ok (.aload_n 0, 1) := by decide +kernel
theorem dX2_walk_10 : decode cX2_walk 10 = .ok (.iload_n 1, 1) := by decide +kernel
theorem dX2_walk_11 : decode cX2_walk 11 = .ok (.iload_n 2, 1) := by decide +kernel
theorem dX2_walk_12 : decode cX2_walk 12 = .ok (.iconst 1, 1) := by decide +kernel
theorem dX2_walk_13 : decode cX2_walk 13 = .ok (.invokevirtual 64, 3) := by decide +kernel
theorem dX2_walk_16 : decode cX2_walk 16 = .ok (.aload_n 0, 1) := by decide +kernel
theorem dX2_walk_17 : decode cX2_walk 17 = .ok (.getfield 7, 3) := by decide +kernel
theorem dX2_walk_20 : decode cX2_walk 20 = .ok (.bipush 7, 2) := by decide +kernel
theorem dX2_walk_22 : decode cX2_walk 22 = .ok (.iload_n 1, 1) := by decide +kernel
theorem dX2_walk_23 : decode cX2_walk 23 = .ok (.imul, 1) := by decide +kernel
theorem dX2_walk_24 : decode cX2_walk 24 = .ok (.iload_n 2, 1) := by decide +kernel
theorem dX2_walk_25 : decode cX2_walk 25 = .ok (.iadd, 1) := by decide +kernel
theorem dX2_walk_26 : decode cX2_walk 26 = .ok (.iaload, 1) := by decide +kernel
theorem dX2_walk_27 : decode cX2_walk 27 = .ok (.isub, 1) := by decide +kernel
theorem dX2_walk_28 : decode cX2_walk 28 = .ok (.goto 4, 3) := by decide +kernel
theorem dX2_walk_31 : decode cX2_walk 31 = .ok (.iconst (-1), 1) := by decide +kernel
theorem dX2_walk_32 : decode cX2_walk 32 = .ok (.ireturn, 1) := by decide +kernel
abbrev cX2_reach : ByteArray := prog_3_method_19_code
def yX2_reach : MethodName := ⟨RX2, "reach", "()I"⟩
theorem dX2_reach_0 : decode cX2_reach 0 = .ok (.iconst 0, 1) := by decide +kernel
theorem dX2_reach_1 : decode cX2_reach 1 = .ok (.istore_n 1, 1) := by decide +kernel
theorem dX2_reach_2 : decode cX2_reach 2 = .ok (.iload_n 1, 1) := by decide +kernel
theorem dX2_reach_3 : decode cX2_reach 3 = .ok (.bipush 60, 2) := by decide +kernel
theorem dX2_reach_5 : decode cX2_reach 5 = .ok (.if_icmp .ge 20, 3) := by decide +kernel
theorem dX2_reach_8 : decode cX2_reach 8 = .ok (.aload_n 0, 1) := by decide +kernel
theorem dX2_reach_9 : decode cX2_reach 9 = .ok (.iload_n 1, 1) := by decide +kernel
theorem dX2_reach_10 : decode cX2_reach 10 = .ok (.invokevirtual 68, 3) := by decide +kernel
theorem dX2_reach_13 : decode cX2_reach 13 = .ok (.iconst 1, 1) := by decide +kernel
theorem dX2_reach_14 : decode cX2_reach 14 = .ok (.if_icmp .ne 5, 3) := by decide +kernel
theorem dX2_reach_17 : decode cX2_reach 17 = .ok (.iload_n 1, 1) := by decide +kernel
theorem dX2_reach_18 : decode cX2_reach 18 = .ok (.ireturn, 1) := by decide +kernel
theorem dX2_reach_19 : decode cX2_reach 19 = .ok (.iinc 1 1, 3) := by decide +kernel
theorem dX2_reach_22 : decode cX2_reach 22 = .ok (.goto (-20), 3) := by decide +kernel
theorem dX2_reach_25 : decode cX2_reach 25 = .ok (.bipush 60, 2) := by decide +kernel
theorem dX2_reach_27 : decode cX2_reach 27 = .ok (.ireturn, 1) := by decide +kernel
abbrev cX2_parts : ByteArray := prog_3_method_18_code
def yX2_parts : MethodName := ⟨RX2, "parts", "(I)I"⟩
theorem dX2_parts_0 : decode cX2_parts 0 = .ok (.iconst 0, 1) := by decide +kernel
theorem dX2_parts_1 : decode cX2_parts 1 = .ok (.istore_n 2, 1) := by decide +kernel
theorem dX2_parts_2 : decode cX2_parts 2 = .ok (.iload_n 2, 1) := by decide +kernel
theorem dX2_parts_3 : decode cX2_parts 3 = .ok (.aload_n 0, 1) := by decide +kernel
theorem dX2_parts_4 : decode cX2_parts 4 = .ok (.getfield 26, 3) := by decide +kernel
theorem dX2_parts_7 : decode cX2_parts 7 = .ok (.if_icmp .ge 16, 3) := by decide +kernel
theorem dX2_parts_10 : decode cX2_parts 10 = .ok (.aload_n 0, 1) := by decide +kernel
theorem dX2_parts_11 : decode cX2_parts 11 = .ok (.getfield 23, 3) := by decide +kernel
theorem dX2_parts_14 : decode cX2_parts 14 = .ok (.iload_n 2, 1) := by decide +kernel
theorem dX2_parts_15 : decode cX2_parts 15 = .ok (.iload_n 2, 1) := by decide +kernel
theorem dX2_parts_16 : decode cX2_parts 16 = .ok (.iastore, 1) := by decide +kernel
theorem dX2_parts_17 : decode cX2_parts 17 = .ok (.iinc 2 1, 3) := by decide +kernel
theorem dX2_parts_20 : decode cX2_parts 20 = .ok (.goto (-18), 3) := by decide +kernel
theorem dX2_parts_23 : decode cX2_parts 23 = .ok (.iconst 0, 1) := by decide +kernel
theorem dX2_parts_24 : decode cX2_parts 24 = .ok (.istore_n 2, 1) := by decide +kernel
theorem dX2_parts_25 : decode cX2_parts 25 = .ok (.iload_n 2, 1) := by decide +kernel
theorem dX2_parts_26 : decode cX2_parts 26 = .ok (.aload_n 0, 1) := by decide +kernel
theorem dX2_parts_27 : decode cX2_parts 27 = .ok (.getfield 26, 3) := by decide +kernel
theorem dX2_parts_30 : decode cX2_parts 30 = .ok (.if_icmp .ge 101, 3) := by decide +kernel
theorem dX2_parts_33 : decode cX2_parts 33 = .ok (.iconst 0, 1) := by decide +kernel
theorem dX2_parts_34 : decode cX2_parts 34 = .ok (.istore_n 3, 1) := by decide +kernel
theorem dX2_parts_35 : decode cX2_parts 35 = .ok (.iload_n 3, 1) := by decide +kernel
theorem dX2_parts_36 : decode cX2_parts 36 = .ok (.bipush 49, 2) := by decide +kernel
theorem dX2_parts_38 : decode cX2_parts 38 = .ok (.if_icmp .ge 87, 3) := by decide +kernel
theorem dX2_parts_41 : decode cX2_parts 41 = .ok (.iload_n 3, 1) := by decide +kernel
theorem dX2_parts_42 : decode cX2_parts 42 = .ok (.bipush 7, 2) := by decide +kernel
theorem dX2_parts_44 : decode cX2_parts 44 = .ok (.idiv, 1) := by decide +kernel
theorem dX2_parts_45 : decode cX2_parts 45 = .ok (.istore 4, 2) := by decide +kernel
theorem dX2_parts_47 : decode cX2_parts 47 = .ok (.iload_n 3, 1) := by decide +kernel
theorem dX2_parts_48 : decode cX2_parts 48 = .ok (.bipush 7, 2) := by decide +kernel
theorem dX2_parts_50 : decode cX2_parts 50 = .ok (.irem, 1) := by decide +kernel
theorem dX2_parts_51 : decode cX2_parts 51 = .ok (.istore 5, 2) := by decide +kernel
theorem dX2_parts_53 : decode cX2_parts 53 = .ok (.iload 4, 2) := by decide +kernel
theorem dX2_parts_55 : decode cX2_parts 55 = .ok (.aload_n 0, 1) := by decide +kernel
theorem dX2_parts_56 : decode cX2_parts 56 = .ok (.getfield 26, 3) := by decide +kernel
theorem dX2_parts_59 : decode cX2_parts 59 = .ok (.if_icmp .ge 60, 3) := by decide +kernel
theorem dX2_parts_62 : decode cX2_parts 62 = .ok (.iload 5, 2) := by decide +kernel
theorem dX2_parts_64 : decode cX2_parts 64 = .ok (.aload_n 0, 1) := by decide +kernel
theorem dX2_parts_65 : decode cX2_parts 65 = .ok (.getfield 26, 3) := by decide +kernel
theorem dX2_parts_68 : decode cX2_parts 68 = .ok (.if_icmp .ge 51, 3) := by decide +kernel
theorem dX2_parts_71 : decode cX2_parts 71 = .ok (.iload 4, 2) := by decide +kernel
theorem dX2_parts_73 : decode cX2_parts 73 = .ok (.iload 5, 2) := by decide +kernel
theorem dX2_parts_75 : decode cX2_parts 75 = .ok (.if_icmp .eq 44, 3) := by decide +kernel
theorem dX2_parts_78 : decode cX2_parts 78 = .ok (.aload_n 0, 1) := by decide +kernel
theorem dX2_parts_79 : decode cX2_parts 79 = .ok (.getfield 7, 3) := by decide +kernel
theorem dX2_parts_82 : decode cX2_parts 82 = .ok (.iload_n 3, 1) := by decide +kernel
theorem dX2_parts_83 : decode cX2_parts 83 = .ok (.iaload, 1) := by decide +kernel
theorem dX2_parts_84 : decode cX2_parts 84 = .ok (.iload_n 1, 1) := by decide +kernel
theorem dX2_parts_85 : decode cX2_parts 85 = .ok (.if_icmp .gt 34, 3) := by decide +kernel
theorem dX2_parts_88 : decode cX2_parts 88 = .ok (.aload_n 0, 1) := by decide +kernel
theorem dX2_parts_89 : decode cX2_parts 89 = .ok (.getfield 23, 3) := by decide +kernel
theorem dX2_parts_92 : decode cX2_parts 92 = .ok (.iload 5, 2) := by decide +kernel
theorem dX2_parts_94 : decode cX2_parts 94 = .ok (.iaload, 1) := by decide +kernel
theorem dX2_parts_95 : decode cX2_parts 95 = .ok (.aload_n 0, 1) := by decide +kernel
theorem dX2_parts_96 : decode cX2_parts 96 = .ok (.getfield 23, 3) := by decide +kernel
theorem dX2_parts_99 : decode cX2_parts 99 = .ok (.iload 4, 2) := by decide +kernel
theorem dX2_parts_101 : decode cX2_parts 101 = .ok (.iaload, 1) := by decide +kernel
theorem dX2_parts_102 : decode cX2_parts 102 = .ok (.if_icmp .ge 17, 3) := by decide +kernel
theorem dX2_parts_105 : decode cX2_parts 105 = .ok (.aload_n 0, 1) := by decide +kernel
theorem dX2_parts_106 : decode cX2_parts 106 = .ok (.getfield 23, 3) := by decide +kernel
theorem dX2_parts_109 : decode cX2_parts 109 = .ok (.iload 4, 2) := by decide +kernel
theorem dX2_parts_111 : decode cX2_parts 111 = .ok (.aload_n 0, 1) := by decide +kernel
theorem dX2_parts_112 : decode cX2_parts 112 = .ok (.getfield 23, 3) := by decide +kernel
theorem dX2_parts_115 : decode cX2_parts 115 = .ok (.iload 5, 2) := by decide +kernel
theorem dX2_parts_117 : decode cX2_parts 117 = .ok (.iaload, 1) := by decide +kernel
theorem dX2_parts_118 : decode cX2_parts 118 = .ok (.iastore, 1) := by decide +kernel
theorem dX2_parts_119 : decode cX2_parts 119 = .ok (.iinc 3 1, 3) := by decide +kernel
theorem dX2_parts_122 : decode cX2_parts 122 = .ok (.goto (-87), 3) := by decide +kernel
theorem dX2_parts_125 : decode cX2_parts 125 = .ok (.iinc 2 1, 3) := by decide +kernel
theorem dX2_parts_128 : decode cX2_parts 128 = .ok (.goto (-103), 3) := by decide +kernel
theorem dX2_parts_131 : decode cX2_parts 131 = .ok (.iconst 0, 1) := by decide +kernel
theorem dX2_parts_132 : decode cX2_parts 132 = .ok (.istore_n 2, 1) := by decide +kernel
theorem dX2_parts_133 : decode cX2_parts 133 = .ok (.iconst 0, 1) := by decide +kernel
theorem dX2_parts_134 : decode cX2_parts 134 = .ok (.istore_n 3, 1) := by decide +kernel
theorem dX2_parts_135 : decode cX2_parts 135 = .ok (.iload_n 3, 1) := by decide +kernel
theorem dX2_parts_136 : decode cX2_parts 136 = .ok (.aload_n 0, 1) := by decide +kernel
theorem dX2_parts_137 : decode cX2_parts 137 = .ok (.getfield 26, 3) := by decide +kernel
theorem dX2_parts_140 : decode cX2_parts 140 = .ok (.if_icmp .ge 22, 3) := by decide +kernel
theorem dX2_parts_143 : decode cX2_parts 143 = .ok (.aload_n 0, 1) := by decide +kernel
theorem dX2_parts_144 : decode cX2_parts 144 = .ok (.getfield 23, 3) := by decide +kernel
theorem dX2_parts_147 : decode cX2_parts 147 = .ok (.iload_n 3, 1) := by decide +kernel
theorem dX2_parts_148 : decode cX2_parts 148 = .ok (.iaload, 1) := by decide +kernel
theorem dX2_parts_149 : decode cX2_parts 149 = .ok (.iload_n 3, 1) := by decide +kernel
theorem dX2_parts_150 : decode cX2_parts 150 = .ok (.if_icmp .ne 6, 3) := by decide +kernel
theorem dX2_parts_153 : decode cX2_parts 153 = .ok (.iinc 2 1, 3) := by decide +kernel
theorem dX2_parts_156 : decode cX2_parts 156 = .ok (.iinc 3 1, 3) := by decide +kernel
theorem dX2_parts_159 : decode cX2_parts 159 = .ok (.goto (-24), 3) := by decide +kernel
theorem dX2_parts_162 : decode cX2_parts 162 = .ok (.iload_n 2, 1) := by decide +kernel
theorem dX2_parts_163 : decode cX2_parts 163 = .ok (.ireturn, 1) := by decide +kernel
abbrev cX2_net : ByteArray := prog_3_method_20_code
def yX2_net : MethodName := ⟨RX2, "net", "()I"⟩
theorem dX2_net_0 : decode cX2_net 0 = .ok (.iconst 0, 1) := by decide +kernel
theorem dX2_net_1 : decode cX2_net 1 = .ok (.istore_n 1, 1) := by decide +kernel
theorem dX2_net_2 : decode cX2_net 2 = .ok (.iconst 0, 1) := by decide +kernel
theorem dX2_net_3 : decode cX2_net 3 = .ok (.istore_n 2, 1) := by decide +kernel
theorem dX2_net_4 : decode cX2_net 4 = .ok (.iload_n 2, 1) := by decide +kernel
theorem dX2_net_5 : decode cX2_net 5 = .ok (.bipush 60, 2) := by decide +kernel
theorem dX2_net_7 : decode cX2_net 7 = .ok (.if_icmp .ge 19, 3) := by decide +kernel
theorem dX2_net_10 : decode cX2_net 10 = .ok (.iload_n 1, 1) := by decide +kernel
theorem dX2_net_11 : decode cX2_net 11 = .ok (.aload_n 0, 1) := by decide +kernel
theorem dX2_net_12 : decode cX2_net 12 = .ok (.iload_n 2, 1) := by decide +kernel
theorem dX2_net_13 : decode cX2_net 13 = .ok (.invokevirtual 68, 3) := by decide +kernel
theorem dX2_net_16 : decode cX2_net 16 = .ok (.iconst 1, 1) := by decide +kernel
theorem dX2_net_17 : decode cX2_net 17 = .ok (.isub, 1) := by decide +kernel
theorem dX2_net_18 : decode cX2_net 18 = .ok (.iadd, 1) := by decide +kernel
theorem dX2_net_19 : decode cX2_net 19 = .ok (.istore_n 1, 1) := by decide +kernel
theorem dX2_net_20 : decode cX2_net 20 = .ok (.iinc 2 1, 3) := by decide +kernel
theorem dX2_net_23 : decode cX2_net 23 = .ok (.goto (-19), 3) := by decide +kernel
theorem dX2_net_26 : decode cX2_net 26 = .ok (.iload_n 1, 1) := by decide +kernel
theorem dX2_net_27 : decode cX2_net 27 = .ok (.ireturn, 1) := by decide +kernel
abbrev cX2_shift : ByteArray := prog_3_method_21_code
def yX2_shift : MethodName := ⟨RX2, "shift", "(II)I"⟩
theorem dX2_shift_0 : decode cX2_shift 0 = .ok (.aload_n 0, 1) := by decide +kernel
theorem dX2_shift_1 : decode cX2_shift 1 = .ok (.iload_n 1, 1) := by decide +kernel
theorem dX2_shift_2 : decode cX2_shift 2 = .ok (.invokevirtual 33, 3) := by decide +kernel
theorem dX2_shift_5 : decode cX2_shift 5 = .ok (.ifCond .eq 15, 3) := by decide +kernel
theorem dX2_shift_8 : decode cX2_shift 8 = .ok (.iload_n 2, 1) := by decide +kernel
theorem dX2_shift_9 : decode cX2_shift 9 = .ok (.bipush (-60), 2) := by decide +kernel
theorem dX2_shift_11 : decode cX2_shift 11 = .ok (.if_icmp .lt 9, 3) := by decide +kernel
theorem dX2_shift_14 : decode cX2_shift 14 = .ok (.iload_n 2, 1) := by decide +kernel
theorem dX2_shift_15 : decode cX2_shift 15 = .ok (.bipush 60, 2) := by decide +kernel
theorem dX2_shift_17 : decode cX2_shift 17 = .ok (.if_icmp .le 5, 3) := by decide +kernel
theorem dX2_shift_20 : decode cX2_shift 20 = .ok (.iconst (-1), 1) := by decide +kernel
theorem dX2_shift_21 : decode cX2_shift 21 = .ok (.ireturn, 1) := by decide +kernel
theorem dX2_shift_22 : decode cX2_shift 22 = .ok (.iconst 0, 1) := by decide +kernel
theorem dX2_shift_23 : decode cX2_shift 23 = .ok (.istore_n 3, 1) := by decide +kernel
theorem dX2_shift_24 : decode cX2_shift 24 = .ok (.iconst 0, 1) := by decide +kernel
theorem dX2_shift_25 : decode cX2_shift 25 = .ok (.istore 4, 2) := by decide +kernel
theorem dX2_shift_27 : decode cX2_shift 27 = .ok (.iload 4, 2) := by decide +kernel
theorem dX2_shift_29 : decode cX2_shift 29 = .ok (.aload_n 0, 1) := by decide +kernel
theorem dX2_shift_30 : decode cX2_shift 30 = .ok (.getfield 26, 3) := by decide +kernel
theorem dX2_shift_33 : decode cX2_shift 33 = .ok (.if_icmp .ge 79, 3) := by decide +kernel
theorem dX2_shift_36 : decode cX2_shift 36 = .ok (.iload 4, 2) := by decide +kernel
theorem dX2_shift_38 : decode cX2_shift 38 = .ok (.iload_n 1, 1) := by decide +kernel
theorem dX2_shift_39 : decode cX2_shift 39 = .ok (.if_icmp .eq 67, 3) := by decide +kernel
theorem dX2_shift_42 : decode cX2_shift 42 = .ok (.aload_n 0, 1) := by decide +kernel
theorem dX2_shift_43 : decode cX2_shift 43 = .ok (.getfield 7, 3) := by decide +kernel
theorem dX2_shift_46 : decode cX2_shift 46 = .ok (.bipush 7, 2) := by decide +kernel
theorem dX2_shift_48 : decode cX2_shift 48 = .ok (.iload_n 1, 1) := by decide +kernel
theorem dX2_shift_49 : decode cX2_shift 49 = .ok (.imul, 1) := by decide +kernel
theorem dX2_shift_50 : decode cX2_shift 50 = .ok (.iload 4, 2) := by decide +kernel
theorem dX2_shift_52 : decode cX2_shift 52 = .ok (.iadd, 1) := by decide +kernel
theorem dX2_shift_53 : decode cX2_shift 53 = .ok (.iaload, 1) := by decide +kernel
theorem dX2_shift_54 : decode cX2_shift 54 = .ok (.istore 5, 2) := by decide +kernel
theorem dX2_shift_56 : decode cX2_shift 56 = .ok (.iload 5, 2) := by decide +kernel
theorem dX2_shift_58 : decode cX2_shift 58 = .ok (.iload_n 2, 1) := by decide +kernel
theorem dX2_shift_59 : decode cX2_shift 59 = .ok (.iadd, 1) := by decide +kernel
theorem dX2_shift_60 : decode cX2_shift 60 = .ok (.ifCond .ge 7, 3) := by decide +kernel
theorem dX2_shift_63 : decode cX2_shift 63 = .ok (.iconst 0, 1) := by decide +kernel
theorem dX2_shift_64 : decode cX2_shift 64 = .ok (.goto 21, 3) := by decide +kernel
theorem dX2_shift_67 : decode cX2_shift 67 = .ok (.iload 5, 2) := by decide +kernel
theorem dX2_shift_69 : decode cX2_shift 69 = .ok (.iload_n 2, 1) := by decide +kernel
theorem dX2_shift_70 : decode cX2_shift 70 = .ok (.iadd, 1) := by decide +kernel
theorem dX2_shift_71 : decode cX2_shift 71 = .ok (.bipush 60, 2) := by decide +kernel
theorem dX2_shift_73 : decode cX2_shift 73 = .ok (.if_icmp .le 8, 3) := by decide +kernel
theorem dX2_shift_76 : decode cX2_shift 76 = .ok (.bipush 60, 2) := by decide +kernel
theorem dX2_shift_78 : decode cX2_shift 78 = .ok (.goto 7, 3) := by decide +kernel
theorem dX2_shift_81 : decode cX2_shift 81 = .ok (.iload 5, 2) := by decide +kernel
theorem dX2_shift_83 : decode cX2_shift 83 = .ok (.iload_n 2, 1) := by decide +kernel
theorem dX2_shift_84 : decode cX2_shift 84 = .ok (.iadd, 1) := by decide +kernel
theorem dX2_shift_85 : decode cX2_shift 85 = .ok (.istore 6, 2) := by decide +kernel
theorem dX2_shift_87 : decode cX2_shift 87 = .ok (.iload 6, 2) := by decide +kernel
theorem dX2_shift_89 : decode cX2_shift 89 = .ok (.iload 5, 2) := by decide +kernel
theorem dX2_shift_91 : decode cX2_shift 91 = .ok (.if_icmp .eq 6, 3) := by decide +kernel
theorem dX2_shift_94 : decode cX2_shift 94 = .ok (.iinc 3 1, 3) := by decide +kernel
theorem dX2_shift_97 : decode cX2_shift 97 = .ok (.aload_n 0, 1) := by decide +kernel
theorem dX2_shift_98 : decode cX2_shift 98 = .ok (.iload_n 1, 1) := by decide +kernel
theorem dX2_shift_99 : decode cX2_shift 99 = .ok (.iload 4, 2) := by decide +kernel
theorem dX2_shift_101 : decode cX2_shift 101 = .ok (.iload 6, 2) := by decide +kernel
theorem dX2_shift_103 : decode cX2_shift 103 = .ok (.invokevirtual 41, 3) := by decide +kernel
theorem dX2_shift_106 : decode cX2_shift 106 = .ok (.iinc 4 1, 3) := by decide +kernel
theorem dX2_shift_109 : decode cX2_shift 109 = .ok (.goto (-82), 3) := by decide +kernel
theorem dX2_shift_112 : decode cX2_shift 112 = .ok (.iload_n 3, 1) := by decide +kernel
theorem dX2_shift_113 : decode cX2_shift 113 = .ok (.ireturn, 1) := by decide +kernel
theorem q23 : (Jvm.Cond.initialized "TourSolverModel") ∈ lw_all := lw_g (lw_at lw_m1 2 rfl) rfl
theorem q159 : (Jvm.Cond.instantiable "TourSolverModel" (6 : Nat)) ∈ lw_all := lw_g (lw_at lw_m1 138 rfl) rfl
theorem q161 : (Jvm.Cond.instanceMethod ({ cls := "TourSolverModel", name := "<init>", desc := "(I)V" } : Jvm.MethodName)) ∈ lw_all := lw_g (lw_at lw_m1 140 rfl) rfl
theorem q162 : (Jvm.Cond.code ({ cls := "TourSolverModel", name := "<init>", desc := "(I)V" } : Jvm.MethodName) prog_3_method_1_code (3 : Nat) (Option.none : Option Jvm.ClassFile.FieldType)) ∈ lw_all := lw_g (lw_at lw_m1 141 rfl) rfl
theorem q163 : (Jvm.Cond.methodLink "TourSolverModel" (1 : Nat) ({ cls := "java/lang/Object", name := "<init>", desc := "()V" } : Jvm.MethodName)) ∈ lw_all := lw_g (lw_at lw_m1 142 rfl) rfl
theorem q164 : (Jvm.Cond.methodLink "TourSolverModel" (29 : Nat) ({ cls := "TourSolverModel", name := "lengthen", desc := "(I)V" } : Jvm.MethodName)) ∈ lw_all := lw_g (lw_at lw_m1 143 rfl) rfl
theorem q165 : (Jvm.Cond.privateMethod ({ cls := "TourSolverModel", name := "lengthen", desc := "(I)V" } : Jvm.MethodName)) ∈ lw_tbl := lw_at lw_m1 144 rfl
theorem q166 : (Jvm.Cond.instanceMethod ({ cls := "TourSolverModel", name := "lengthen", desc := "(I)V" } : Jvm.MethodName)) ∈ lw_all := lw_g (lw_at lw_m1 145 rfl) rfl
theorem q167 : (Jvm.Cond.code ({ cls := "TourSolverModel", name := "lengthen", desc := "(I)V" } : Jvm.MethodName) prog_3_method_2_code (7 : Nat) (Option.none : Option Jvm.ClassFile.FieldType)) ∈ lw_all := lw_g (lw_at lw_m1 146 rfl) rfl
theorem q168 : (Jvm.Cond.fieldLink "TourSolverModel" (26 : Nat) "TourSolverModel" "n" "I") ∈ lw_all := lw_g (lw_at lw_m1 147 rfl) rfl
theorem q169 : (Jvm.Cond.fieldLink "TourSolverModel" (7 : Nat) "TourSolverModel" "length" "[I") ∈ lw_all := lw_g (lw_at lw_m1 148 rfl) rfl
theorem q170 : (Jvm.Cond.fieldLink "TourSolverModel" (13 : Nat) "TourSolverModel" "trips" "I") ∈ lw_all := lw_g (lw_at lw_m1 149 rfl) rfl
theorem q171 : (Jvm.Cond.fieldLink "TourSolverModel" (17 : Nat) "TourSolverModel" "towns" "[I") ∈ lw_all := lw_g (lw_at lw_m1 150 rfl) rfl
theorem q172 : (Jvm.Cond.fieldLink "TourSolverModel" (20 : Nat) "TourSolverModel" "longer" "[I") ∈ lw_all := lw_g (lw_at lw_m1 151 rfl) rfl
theorem q173 : (Jvm.Cond.fieldLink "TourSolverModel" (23 : Nat) "TourSolverModel" "part" "[I") ∈ lw_all := lw_g (lw_at lw_m1 152 rfl) rfl
theorem q174 : (Jvm.Cond.lays "TourSolverModel" "TourSolverModel" "n" "I") ∈ lw_all := lw_g (lw_at lw_m1 153 rfl) rfl
theorem q175 : (Jvm.Cond.soleField "TourSolverModel" "n") ∈ lw_all := lw_g (lw_at lw_m1 154 rfl) rfl
theorem q176 : (Jvm.Cond.lays "TourSolverModel" "TourSolverModel" "length" "[I") ∈ lw_all := lw_g (lw_at lw_m1 155 rfl) rfl
theorem q177 : (Jvm.Cond.soleField "TourSolverModel" "length") ∈ lw_all := lw_g (lw_at lw_m1 156 rfl) rfl
theorem q178 : (Jvm.Cond.lays "TourSolverModel" "TourSolverModel" "trips" "I") ∈ lw_all := lw_g (lw_at lw_m1 157 rfl) rfl
theorem q179 : (Jvm.Cond.soleField "TourSolverModel" "trips") ∈ lw_all := lw_g (lw_at lw_m1 158 rfl) rfl
theorem q180 : (Jvm.Cond.lays "TourSolverModel" "TourSolverModel" "towns" "[I") ∈ lw_all := lw_g (lw_at lw_m1 159 rfl) rfl
theorem q181 : (Jvm.Cond.soleField "TourSolverModel" "towns") ∈ lw_all := lw_g (lw_at lw_m1 160 rfl) rfl
theorem q182 : (Jvm.Cond.lays "TourSolverModel" "TourSolverModel" "longer" "[I") ∈ lw_all := lw_g (lw_at lw_m1 161 rfl) rfl
theorem q183 : (Jvm.Cond.soleField "TourSolverModel" "longer") ∈ lw_all := lw_g (lw_at lw_m1 162 rfl) rfl
theorem q184 : (Jvm.Cond.lays "TourSolverModel" "TourSolverModel" "part" "[I") ∈ lw_all := lw_g (lw_at lw_m1 163 rfl) rfl
theorem q185 : (Jvm.Cond.soleField "TourSolverModel" "part") ∈ lw_all := lw_g (lw_at lw_m1 164 rfl) rfl
theorem q186 : (Jvm.Cond.superclass "TourSolverModel" "java/lang/Object") ∈ lw_all := lw_g (lw_at lw_m1 165 rfl) rfl
theorem q188 : (Jvm.Cond.instanceMethod ({ cls := "TourSolverModel", name := "road", desc := "(III)Z" } : Jvm.MethodName)) ∈ lw_all := lw_g (lw_at lw_m1 167 rfl) rfl
theorem q189 : (Jvm.Cond.selects "TourSolverModel" ({ cls := "TourSolverModel", name := "road", desc := "(III)Z" } : Jvm.MethodName) ({ cls := "TourSolverModel", name := "road", desc := "(III)Z" } : Jvm.MethodName)) ∈ lw_all := lw_g (lw_at lw_m1 168 rfl) rfl
theorem q190 : (Jvm.Cond.code ({ cls := "TourSolverModel", name := "road", desc := "(III)Z" } : Jvm.MethodName) prog_3_method_6_code (4 : Nat) (Option.some Jvm.ClassFile.FieldType.boolean)) ∈ lw_all := lw_g (lw_at lw_m1 169 rfl) rfl
theorem q191 : (Jvm.Cond.methodLink "TourSolverModel" (37 : Nat) ({ cls := "TourSolverModel", name := "isCouple", desc := "(II)Z" } : Jvm.MethodName)) ∈ lw_all := lw_g (lw_at lw_m1 170 rfl) rfl
theorem q192 : (Jvm.Cond.privateMethod ({ cls := "TourSolverModel", name := "isCouple", desc := "(II)Z" } : Jvm.MethodName)) ∈ lw_tbl := lw_at lw_m1 171 rfl
theorem q193 : (Jvm.Cond.instanceMethod ({ cls := "TourSolverModel", name := "isCouple", desc := "(II)Z" } : Jvm.MethodName)) ∈ lw_all := lw_g (lw_at lw_m1 172 rfl) rfl
theorem q194 : (Jvm.Cond.code ({ cls := "TourSolverModel", name := "isCouple", desc := "(II)Z" } : Jvm.MethodName) prog_3_method_4_code (3 : Nat) (Option.some Jvm.ClassFile.FieldType.boolean)) ∈ lw_all := lw_g (lw_at lw_m1 173 rfl) rfl
theorem q195 : (Jvm.Cond.methodLink "TourSolverModel" (33 : Nat) ({ cls := "TourSolverModel", name := "isTown", desc := "(I)Z" } : Jvm.MethodName)) ∈ lw_all := lw_g (lw_at lw_m1 174 rfl) rfl
theorem q196 : (Jvm.Cond.privateMethod ({ cls := "TourSolverModel", name := "isTown", desc := "(I)Z" } : Jvm.MethodName)) ∈ lw_tbl := lw_at lw_m1 175 rfl
theorem q197 : (Jvm.Cond.instanceMethod ({ cls := "TourSolverModel", name := "isTown", desc := "(I)Z" } : Jvm.MethodName)) ∈ lw_all := lw_g (lw_at lw_m1 176 rfl) rfl
theorem q198 : (Jvm.Cond.code ({ cls := "TourSolverModel", name := "isTown", desc := "(I)Z" } : Jvm.MethodName) prog_3_method_3_code (2 : Nat) (Option.some Jvm.ClassFile.FieldType.boolean)) ∈ lw_all := lw_g (lw_at lw_m1 177 rfl) rfl
theorem q199 : (Jvm.Cond.methodLink "TourSolverModel" (41 : Nat) ({ cls := "TourSolverModel", name := "put", desc := "(III)V" } : Jvm.MethodName)) ∈ lw_all := lw_g (lw_at lw_m1 178 rfl) rfl
theorem q200 : (Jvm.Cond.privateMethod ({ cls := "TourSolverModel", name := "put", desc := "(III)V" } : Jvm.MethodName)) ∈ lw_tbl := lw_at lw_m1 179 rfl
theorem q201 : (Jvm.Cond.instanceMethod ({ cls := "TourSolverModel", name := "put", desc := "(III)V" } : Jvm.MethodName)) ∈ lw_all := lw_g (lw_at lw_m1 180 rfl) rfl
theorem q202 : (Jvm.Cond.code ({ cls := "TourSolverModel", name := "put", desc := "(III)V" } : Jvm.MethodName) prog_3_method_5_code (4 : Nat) (Option.none : Option Jvm.ClassFile.FieldType)) ∈ lw_all := lw_g (lw_at lw_m1 181 rfl) rfl
theorem q204 : (Jvm.Cond.instanceMethod ({ cls := "TourSolverModel", name := "shortest", desc := "()I" } : Jvm.MethodName)) ∈ lw_all := lw_g (lw_at lw_m1 183 rfl) rfl
theorem q205 : (Jvm.Cond.selects "TourSolverModel" ({ cls := "TourSolverModel", name := "shortest", desc := "()I" } : Jvm.MethodName) ({ cls := "TourSolverModel", name := "shortest", desc := "()I" } : Jvm.MethodName)) ∈ lw_all := lw_g (lw_at lw_m1 184 rfl) rfl
theorem q206 : (Jvm.Cond.code ({ cls := "TourSolverModel", name := "shortest", desc := "()I" } : Jvm.MethodName) prog_3_method_11_code (2 : Nat) (Option.some Jvm.ClassFile.FieldType.int)) ∈ lw_all := lw_g (lw_at lw_m1 185 rfl) rfl
theorem q207 : (Jvm.Cond.methodLink "TourSolverModel" (53 : Nat) ({ cls := "TourSolverModel", name := "best", desc := "()I" } : Jvm.MethodName)) ∈ lw_all := lw_g (lw_at lw_m1 186 rfl) rfl
theorem q208 : (Jvm.Cond.privateMethod ({ cls := "TourSolverModel", name := "best", desc := "()I" } : Jvm.MethodName)) ∈ lw_tbl := lw_at lw_m1 187 rfl
theorem q209 : (Jvm.Cond.instanceMethod ({ cls := "TourSolverModel", name := "best", desc := "()I" } : Jvm.MethodName)) ∈ lw_all := lw_g (lw_at lw_m1 188 rfl) rfl
theorem q210 : (Jvm.Cond.code ({ cls := "TourSolverModel", name := "best", desc := "()I" } : Jvm.MethodName) prog_3_method_10_code (3 : Nat) (Option.some Jvm.ClassFile.FieldType.int)) ∈ lw_all := lw_g (lw_at lw_m1 189 rfl) rfl
theorem q211 : (Jvm.Cond.methodLink "TourSolverModel" (49 : Nat) ({ cls := "TourSolverModel", name := "sum", desc := "(I)I" } : Jvm.MethodName)) ∈ lw_all := lw_g (lw_at lw_m1 190 rfl) rfl
theorem q212 : (Jvm.Cond.privateMethod ({ cls := "TourSolverModel", name := "sum", desc := "(I)I" } : Jvm.MethodName)) ∈ lw_tbl := lw_at lw_m1 191 rfl
theorem q213 : (Jvm.Cond.instanceMethod ({ cls := "TourSolverModel", name := "sum", desc := "(I)I" } : Jvm.MethodName)) ∈ lw_all := lw_g (lw_at lw_m1 192 rfl) rfl
theorem q214 : (Jvm.Cond.code ({ cls := "TourSolverModel", name := "sum", desc := "(I)I" } : Jvm.MethodName) prog_3_method_8_code (6 : Nat) (Option.some Jvm.ClassFile.FieldType.int)) ∈ lw_all := lw_g (lw_at lw_m1 193 rfl) rfl
theorem q215 : (Jvm.Cond.methodLink "TourSolverModel" (45 : Nat) ({ cls := "TourSolverModel", name := "placeOf", desc := "(II)I" } : Jvm.MethodName)) ∈ lw_all := lw_g (lw_at lw_m1 194 rfl) rfl
theorem q216 : (Jvm.Cond.privateMethod ({ cls := "TourSolverModel", name := "placeOf", desc := "(II)I" } : Jvm.MethodName)) ∈ lw_tbl := lw_at lw_m1 195 rfl
theorem q217 : (Jvm.Cond.instanceMethod ({ cls := "TourSolverModel", name := "placeOf", desc := "(II)I" } : Jvm.MethodName)) ∈ lw_all := lw_g (lw_at lw_m1 196 rfl) rfl
theorem q218 : (Jvm.Cond.code ({ cls := "TourSolverModel", name := "placeOf", desc := "(II)I" } : Jvm.MethodName) prog_3_method_7_code (3 : Nat) (Option.some Jvm.ClassFile.FieldType.int)) ∈ lw_all := lw_g (lw_at lw_m1 197 rfl) rfl
theorem q220 : (Jvm.Cond.instanceMethod ({ cls := "TourSolverModel", name := "town", desc := "(I)I" } : Jvm.MethodName)) ∈ lw_all := lw_g (lw_at lw_m1 199 rfl) rfl
theorem q221 : (Jvm.Cond.selects "TourSolverModel" ({ cls := "TourSolverModel", name := "town", desc := "(I)I" } : Jvm.MethodName) ({ cls := "TourSolverModel", name := "town", desc := "(I)I" } : Jvm.MethodName)) ∈ lw_all := lw_g (lw_at lw_m1 200 rfl) rfl
theorem q222 : (Jvm.Cond.code ({ cls := "TourSolverModel", name := "town", desc := "(I)I" } : Jvm.MethodName) prog_3_method_12_code (3 : Nat) (Option.some Jvm.ClassFile.FieldType.int)) ∈ lw_all := lw_g (lw_at lw_m1 201 rfl) rfl
theorem q224 : (Jvm.Cond.instanceMethod ({ cls := "TourSolverModel", name := "trips", desc := "()I" } : Jvm.MethodName)) ∈ lw_all := lw_g (lw_at lw_m1 203 rfl) rfl
theorem q225 : (Jvm.Cond.selects "TourSolverModel" ({ cls := "TourSolverModel", name := "trips", desc := "()I" } : Jvm.MethodName) ({ cls := "TourSolverModel", name := "trips", desc := "()I" } : Jvm.MethodName)) ∈ lw_all := lw_g (lw_at lw_m1 204 rfl) rfl
theorem q226 : (Jvm.Cond.code ({ cls := "TourSolverModel", name := "trips", desc := "()I" } : Jvm.MethodName) prog_3_method_13_code (4 : Nat) (Option.some Jvm.ClassFile.FieldType.int)) ∈ lw_all := lw_g (lw_at lw_m1 205 rfl) rfl
theorem q227 : (Jvm.Cond.methodLink "TourSolverModel" (57 : Nat) ({ cls := "TourSolverModel", name := "shortest", desc := "()I" } : Jvm.MethodName)) ∈ lw_all := lw_g (lw_at lw_m1 206 rfl) rfl
theorem q229 : (Jvm.Cond.instanceMethod ({ cls := "TourSolverModel", name := "using", desc := "(II)I" } : Jvm.MethodName)) ∈ lw_all := lw_g (lw_at lw_m1 208 rfl) rfl
theorem q230 : (Jvm.Cond.selects "TourSolverModel" ({ cls := "TourSolverModel", name := "using", desc := "(II)I" } : Jvm.MethodName) ({ cls := "TourSolverModel", name := "using", desc := "(II)I" } : Jvm.MethodName)) ∈ lw_all := lw_g (lw_at lw_m1 209 rfl) rfl
theorem q231 : (Jvm.Cond.code ({ cls := "TourSolverModel", name := "using", desc := "(II)I" } : Jvm.MethodName) prog_3_method_15_code (3 : Nat) (Option.some Jvm.ClassFile.FieldType.int)) ∈ lw_all := lw_g (lw_at lw_m1 210 rfl) rfl
theorem q232 : (Jvm.Cond.methodLink "TourSolverModel" (64 : Nat) ({ cls := "TourSolverModel", name := "least", desc := "(IIZ)I" } : Jvm.MethodName)) ∈ lw_all := lw_g (lw_at lw_m1 211 rfl) rfl
theorem q233 : (Jvm.Cond.privateMethod ({ cls := "TourSolverModel", name := "least", desc := "(IIZ)I" } : Jvm.MethodName)) ∈ lw_tbl := lw_at lw_m1 212 rfl
theorem q234 : (Jvm.Cond.instanceMethod ({ cls := "TourSolverModel", name := "least", desc := "(IIZ)I" } : Jvm.MethodName)) ∈ lw_all := lw_g (lw_at lw_m1 213 rfl) rfl
theorem q235 : (Jvm.Cond.code ({ cls := "TourSolverModel", name := "least", desc := "(IIZ)I" } : Jvm.MethodName) prog_3_method_14_code (7 : Nat) (Option.some Jvm.ClassFile.FieldType.int)) ∈ lw_all := lw_g (lw_at lw_m1 214 rfl) rfl
theorem q236 : (Jvm.Cond.methodLink "TourSolverModel" (60 : Nat) ({ cls := "TourSolverModel", name := "uses", desc := "(III)Z" } : Jvm.MethodName)) ∈ lw_all := lw_g (lw_at lw_m1 215 rfl) rfl
theorem q237 : (Jvm.Cond.privateMethod ({ cls := "TourSolverModel", name := "uses", desc := "(III)Z" } : Jvm.MethodName)) ∈ lw_tbl := lw_at lw_m1 216 rfl
theorem q238 : (Jvm.Cond.instanceMethod ({ cls := "TourSolverModel", name := "uses", desc := "(III)Z" } : Jvm.MethodName)) ∈ lw_all := lw_g (lw_at lw_m1 217 rfl) rfl
theorem q239 : (Jvm.Cond.code ({ cls := "TourSolverModel", name := "uses", desc := "(III)Z" } : Jvm.MethodName) prog_3_method_9_code (7 : Nat) (Option.some Jvm.ClassFile.FieldType.boolean)) ∈ lw_all := lw_g (lw_at lw_m1 218 rfl) rfl
theorem q241 : (Jvm.Cond.instanceMethod ({ cls := "TourSolverModel", name := "avoiding", desc := "(II)I" } : Jvm.MethodName)) ∈ lw_all := lw_g (lw_at lw_m1 220 rfl) rfl
theorem q242 : (Jvm.Cond.selects "TourSolverModel" ({ cls := "TourSolverModel", name := "avoiding", desc := "(II)I" } : Jvm.MethodName) ({ cls := "TourSolverModel", name := "avoiding", desc := "(II)I" } : Jvm.MethodName)) ∈ lw_all := lw_g (lw_at lw_m1 221 rfl) rfl
theorem q243 : (Jvm.Cond.code ({ cls := "TourSolverModel", name := "avoiding", desc := "(II)I" } : Jvm.MethodName) prog_3_method_16_code (3 : Nat) (Option.some Jvm.ClassFile.FieldType.int)) ∈ lw_all := lw_g (lw_at lw_m1 222 rfl) rfl
theorem q245 : (Jvm.Cond.instanceMethod ({ cls := "TourSolverModel", name := "walk", desc := "(II)I" } : Jvm.MethodName)) ∈ lw_all := lw_g (lw_at lw_m1 224 rfl) rfl
theorem q246 : (Jvm.Cond.selects "TourSolverModel" ({ cls := "TourSolverModel", name := "walk", desc := "(II)I" } : Jvm.MethodName) ({ cls := "TourSolverModel", name := "walk", desc := "(II)I" } : Jvm.MethodName)) ∈ lw_all := lw_g (lw_at lw_m1 225 rfl) rfl
theorem q247 : (Jvm.Cond.code ({ cls := "TourSolverModel", name := "walk", desc := "(II)I" } : Jvm.MethodName) prog_3_method_17_code (3 : Nat) (Option.some Jvm.ClassFile.FieldType.int)) ∈ lw_all := lw_g (lw_at lw_m1 226 rfl) rfl
theorem q249 : (Jvm.Cond.instanceMethod ({ cls := "TourSolverModel", name := "reach", desc := "()I" } : Jvm.MethodName)) ∈ lw_all := lw_g (lw_at lw_m1 228 rfl) rfl
theorem q250 : (Jvm.Cond.selects "TourSolverModel" ({ cls := "TourSolverModel", name := "reach", desc := "()I" } : Jvm.MethodName) ({ cls := "TourSolverModel", name := "reach", desc := "()I" } : Jvm.MethodName)) ∈ lw_all := lw_g (lw_at lw_m1 229 rfl) rfl
theorem q251 : (Jvm.Cond.code ({ cls := "TourSolverModel", name := "reach", desc := "()I" } : Jvm.MethodName) prog_3_method_19_code (2 : Nat) (Option.some Jvm.ClassFile.FieldType.int)) ∈ lw_all := lw_g (lw_at lw_m1 230 rfl) rfl
theorem q252 : (Jvm.Cond.methodLink "TourSolverModel" (68 : Nat) ({ cls := "TourSolverModel", name := "parts", desc := "(I)I" } : Jvm.MethodName)) ∈ lw_all := lw_g (lw_at lw_m1 231 rfl) rfl
theorem q253 : (Jvm.Cond.privateMethod ({ cls := "TourSolverModel", name := "parts", desc := "(I)I" } : Jvm.MethodName)) ∈ lw_tbl := lw_at lw_m1 232 rfl
theorem q254 : (Jvm.Cond.instanceMethod ({ cls := "TourSolverModel", name := "parts", desc := "(I)I" } : Jvm.MethodName)) ∈ lw_all := lw_g (lw_at lw_m1 233 rfl) rfl
theorem q255 : (Jvm.Cond.code ({ cls := "TourSolverModel", name := "parts", desc := "(I)I" } : Jvm.MethodName) prog_3_method_18_code (6 : Nat) (Option.some Jvm.ClassFile.FieldType.int)) ∈ lw_all := lw_g (lw_at lw_m1 234 rfl) rfl
theorem q257 : (Jvm.Cond.instanceMethod ({ cls := "TourSolverModel", name := "net", desc := "()I" } : Jvm.MethodName)) ∈ lw_all := lw_g (lw_at lw_m1 236 rfl) rfl
theorem q258 : (Jvm.Cond.selects "TourSolverModel" ({ cls := "TourSolverModel", name := "net", desc := "()I" } : Jvm.MethodName) ({ cls := "TourSolverModel", name := "net", desc := "()I" } : Jvm.MethodName)) ∈ lw_all := lw_g (lw_at lw_m1 237 rfl) rfl
theorem q259 : (Jvm.Cond.code ({ cls := "TourSolverModel", name := "net", desc := "()I" } : Jvm.MethodName) prog_3_method_20_code (3 : Nat) (Option.some Jvm.ClassFile.FieldType.int)) ∈ lw_all := lw_g (lw_at lw_m1 238 rfl) rfl
theorem q261 : (Jvm.Cond.instanceMethod ({ cls := "TourSolverModel", name := "shift", desc := "(II)I" } : Jvm.MethodName)) ∈ lw_all := lw_g (lw_at lw_m2 0 rfl) rfl
theorem q262 : (Jvm.Cond.selects "TourSolverModel" ({ cls := "TourSolverModel", name := "shift", desc := "(II)I" } : Jvm.MethodName) ({ cls := "TourSolverModel", name := "shift", desc := "(II)I" } : Jvm.MethodName)) ∈ lw_all := lw_g (lw_at lw_m2 1 rfl) rfl
theorem q263 : (Jvm.Cond.code ({ cls := "TourSolverModel", name := "shift", desc := "(II)I" } : Jvm.MethodName) prog_3_method_21_code (7 : Nat) (Option.some Jvm.ClassFile.FieldType.int)) ∈ lw_all := lw_g (lw_at lw_m2 2 rfl) rfl
theorem in_X2 : ∀ w ∈ wsX20, w ∈ lw_all := lw_in wsX20 [174, 176, 178, 180, 182, 184] (by decide +kernel) (by decide +kernel)
end
section
/-! java/lang/Object -/
set_option maxRecDepth 100000
def RJ0 : String := "java/lang/Object"
abbrev cJ0_init : ByteArray := object_method_1_code
def yJ0_init : MethodName := ⟨RJ0, "<init>", "()V"⟩
theorem dJ0_init_0 : decode cJ0_init 0 = .ok (.return_, 1) := by decide +kernel
theorem q30 : (Jvm.Cond.instanceMethod ({ cls := "java/lang/Object", name := "<init>", desc := "()V" } : Jvm.MethodName)) ∈ lw_all := lw_g (lw_at lw_m1 9 rfl) rfl
theorem q31 : (Jvm.Cond.code ({ cls := "java/lang/Object", name := "<init>", desc := "()V" } : Jvm.MethodName) object_method_1_code (1 : Nat) (Option.none : Option Jvm.ClassFile.FieldType)) ∈ lw_all := lw_g (lw_at lw_m1 10 rfl) rfl

/-! TourSolverLaw -/
set_option maxRecDepth 100000
def RX0 : String := "TourSolverLaw"
abbrev cX0_cell : ByteArray := method_2_code
def yX0_cell : MethodName := ⟨RX0, "cell", "([II)I"⟩
theorem dX0_cell_0 : decode cX0_cell 0 = .ok (.iload_n 1, 1) := by decide +kernel
theorem dX0_cell_1 : decode cX0_cell 1 = .ok (.aload_n 0, 1) := by decide +kernel
theorem dX0_cell_2 : decode cX0_cell 2 = .ok (.arraylength, 1) := by decide +kernel
theorem dX0_cell_3 : decode cX0_cell 3 = .ok (.if_icmp .ge 9, 3) := by decide +kernel
theorem dX0_cell_6 : decode cX0_cell 6 = .ok (.aload_n 0, 1) := by decide +kernel
theorem dX0_cell_7 : decode cX0_cell 7 = .ok (.iload_n 1, 1) := by decide +kernel
theorem dX0_cell_8 : decode cX0_cell 8 = .ok (.iaload, 1) := by decide +kernel
theorem dX0_cell_9 : decode cX0_cell 9 = .ok (.goto 4, 3) := by decide +kernel
theorem dX0_cell_12 : decode cX0_cell 12 = .ok (.iconst 0, 1) := by decide +kernel
theorem dX0_cell_13 : decode cX0_cell 13 = .ok (.ireturn, 1) := by decide +kernel
theorem q21 : (Jvm.Cond.initialized "TourSolverLaw") ∈ lw_all := lw_g (lw_at lw_m1 0 rfl) rfl
theorem q24 : (Jvm.Cond.classLink "TourSolverLaw" (7 : Nat) "TourSolver") ∈ lw_all := lw_g (lw_at lw_m1 3 rfl) rfl
theorem q26 : (Jvm.Cond.methodLink "TourSolverLaw" (15 : Nat) ({ cls := "TourSolver", name := "<init>", desc := "(I)V" } : Jvm.MethodName)) ∈ lw_all := lw_g (lw_at lw_m1 5 rfl) rfl
theorem q68 : (Jvm.Cond.methodLink "TourSolverLaw" (21 : Nat) ({ cls := "TourSolver", name := "road", desc := "(III)Z" } : Jvm.MethodName)) ∈ lw_all := lw_g (lw_at lw_m1 47 rfl) rfl
theorem q80 : (Jvm.Cond.methodLink "TourSolverLaw" (26 : Nat) ({ cls := "TourSolver", name := "shortest", desc := "()I" } : Jvm.MethodName)) ∈ lw_all := lw_g (lw_at lw_m1 59 rfl) rfl
theorem q117 : (Jvm.Cond.methodLink "TourSolverLaw" (31 : Nat) ({ cls := "TourSolver", name := "town", desc := "(I)I" } : Jvm.MethodName)) ∈ lw_all := lw_g (lw_at lw_m1 96 rfl) rfl
theorem q122 : (Jvm.Cond.methodLink "TourSolverLaw" (36 : Nat) ({ cls := "TourSolver", name := "trips", desc := "()I" } : Jvm.MethodName)) ∈ lw_all := lw_g (lw_at lw_m1 101 rfl) rfl
theorem q126 : (Jvm.Cond.methodLink "TourSolverLaw" (40 : Nat) ({ cls := "TourSolver", name := "using", desc := "(II)I" } : Jvm.MethodName)) ∈ lw_all := lw_g (lw_at lw_m1 105 rfl) rfl
theorem q130 : (Jvm.Cond.methodLink "TourSolverLaw" (45 : Nat) ({ cls := "TourSolver", name := "avoiding", desc := "(II)I" } : Jvm.MethodName)) ∈ lw_all := lw_g (lw_at lw_m1 109 rfl) rfl
theorem q138 : (Jvm.Cond.methodLink "TourSolverLaw" (49 : Nat) ({ cls := "TourSolver", name := "walk", desc := "(II)I" } : Jvm.MethodName)) ∈ lw_all := lw_g (lw_at lw_m1 117 rfl) rfl
theorem q142 : (Jvm.Cond.methodLink "TourSolverLaw" (53 : Nat) ({ cls := "TourSolver", name := "reach", desc := "()I" } : Jvm.MethodName)) ∈ lw_all := lw_g (lw_at lw_m1 121 rfl) rfl
theorem q146 : (Jvm.Cond.methodLink "TourSolverLaw" (57 : Nat) ({ cls := "TourSolver", name := "net", desc := "()I" } : Jvm.MethodName)) ∈ lw_all := lw_g (lw_at lw_m1 125 rfl) rfl
theorem q150 : (Jvm.Cond.methodLink "TourSolverLaw" (61 : Nat) ({ cls := "TourSolver", name := "shift", desc := "(II)I" } : Jvm.MethodName)) ∈ lw_all := lw_g (lw_at lw_m1 129 rfl) rfl
theorem q155 : (Jvm.Cond.methodLink "TourSolverLaw" (9 : Nat) ({ cls := "TourSolverLaw", name := "cell", desc := "([II)I" } : Jvm.MethodName)) ∈ lw_all := lw_g (lw_at lw_m1 134 rfl) rfl
theorem q156 : (Jvm.Cond.static ({ cls := "TourSolverLaw", name := "cell", desc := "([II)I" } : Jvm.MethodName)) ∈ lw_all := lw_g (lw_at lw_m1 135 rfl) rfl
theorem q157 : (Jvm.Cond.code ({ cls := "TourSolverLaw", name := "cell", desc := "([II)I" } : Jvm.MethodName) method_2_code (2 : Nat) (Option.some Jvm.ClassFile.FieldType.int)) ∈ lw_all := lw_g (lw_at lw_m1 136 rfl) rfl
theorem q158 : (Jvm.Cond.classLink "TourSolverLaw" (18 : Nat) "TourSolverModel") ∈ lw_all := lw_g (lw_at lw_m1 137 rfl) rfl
theorem q160 : (Jvm.Cond.methodLink "TourSolverLaw" (20 : Nat) ({ cls := "TourSolverModel", name := "<init>", desc := "(I)V" } : Jvm.MethodName)) ∈ lw_all := lw_g (lw_at lw_m1 139 rfl) rfl
theorem q187 : (Jvm.Cond.methodLink "TourSolverLaw" (25 : Nat) ({ cls := "TourSolverModel", name := "road", desc := "(III)Z" } : Jvm.MethodName)) ∈ lw_all := lw_g (lw_at lw_m1 166 rfl) rfl
theorem q203 : (Jvm.Cond.methodLink "TourSolverLaw" (30 : Nat) ({ cls := "TourSolverModel", name := "shortest", desc := "()I" } : Jvm.MethodName)) ∈ lw_all := lw_g (lw_at lw_m1 182 rfl) rfl
theorem q219 : (Jvm.Cond.methodLink "TourSolverLaw" (35 : Nat) ({ cls := "TourSolverModel", name := "town", desc := "(I)I" } : Jvm.MethodName)) ∈ lw_all := lw_g (lw_at lw_m1 198 rfl) rfl
theorem q223 : (Jvm.Cond.methodLink "TourSolverLaw" (39 : Nat) ({ cls := "TourSolverModel", name := "trips", desc := "()I" } : Jvm.MethodName)) ∈ lw_all := lw_g (lw_at lw_m1 202 rfl) rfl
theorem q228 : (Jvm.Cond.methodLink "TourSolverLaw" (44 : Nat) ({ cls := "TourSolverModel", name := "using", desc := "(II)I" } : Jvm.MethodName)) ∈ lw_all := lw_g (lw_at lw_m1 207 rfl) rfl
theorem q240 : (Jvm.Cond.methodLink "TourSolverLaw" (48 : Nat) ({ cls := "TourSolverModel", name := "avoiding", desc := "(II)I" } : Jvm.MethodName)) ∈ lw_all := lw_g (lw_at lw_m1 219 rfl) rfl
theorem q244 : (Jvm.Cond.methodLink "TourSolverLaw" (52 : Nat) ({ cls := "TourSolverModel", name := "walk", desc := "(II)I" } : Jvm.MethodName)) ∈ lw_all := lw_g (lw_at lw_m1 223 rfl) rfl
theorem q248 : (Jvm.Cond.methodLink "TourSolverLaw" (56 : Nat) ({ cls := "TourSolverModel", name := "reach", desc := "()I" } : Jvm.MethodName)) ∈ lw_all := lw_g (lw_at lw_m1 227 rfl) rfl
theorem q256 : (Jvm.Cond.methodLink "TourSolverLaw" (60 : Nat) ({ cls := "TourSolverModel", name := "net", desc := "()I" } : Jvm.MethodName)) ∈ lw_all := lw_g (lw_at lw_m1 235 rfl) rfl
theorem q260 : (Jvm.Cond.methodLink "TourSolverLaw" (64 : Nat) ({ cls := "TourSolverModel", name := "shift", desc := "(II)I" } : Jvm.MethodName)) ∈ lw_all := lw_g (lw_at lw_m1 239 rfl) rfl

theorem q66 : (Jvm.Cond.arrayClass Jvm.ClassFile.FieldType.int) ∈ lw_all := lw_g (lw_at lw_m1 45 rfl) rfl
set_option maxRecDepth 100000
theorem q67 : (Jvm.Cond.arrayClass Jvm.ClassFile.FieldType.byte) ∈ lw_all := lw_g (lw_at lw_m1 46 rfl) rfl

/-! the law's own entry -/
set_option maxRecDepth 100000
abbrev cL_law : ByteArray := code
theorem dL_law_0 : decode cL_law 0 = .ok (.new 7, 3) := by decide +kernel
theorem dL_law_3 : decode cL_law 3 = .ok (.dup, 1) := by decide +kernel
theorem dL_law_4 : decode cL_law 4 = .ok (.aload_n 0, 1) := by decide +kernel
theorem dL_law_5 : decode cL_law 5 = .ok (.iconst 0, 1) := by decide +kernel
theorem dL_law_6 : decode cL_law 6 = .ok (.invokestatic 9, 3) := by decide +kernel
theorem dL_law_9 : decode cL_law 9 = .ok (.invokespecial 15, 3) := by decide +kernel
theorem dL_law_12 : decode cL_law 12 = .ok (.astore_n 1, 1) := by decide +kernel
theorem dL_law_13 : decode cL_law 13 = .ok (.new 18, 3) := by decide +kernel
theorem dL_law_16 : decode cL_law 16 = .ok (.dup, 1) := by decide +kernel
theorem dL_law_17 : decode cL_law 17 = .ok (.aload_n 0, 1) := by decide +kernel
theorem dL_law_18 : decode cL_law 18 = .ok (.iconst 0, 1) := by decide +kernel
theorem dL_law_19 : decode cL_law 19 = .ok (.invokestatic 9, 3) := by decide +kernel
theorem dL_law_22 : decode cL_law 22 = .ok (.invokespecial 20, 3) := by decide +kernel
theorem dL_law_25 : decode cL_law 25 = .ok (.astore_n 2, 1) := by decide +kernel
theorem dL_law_26 : decode cL_law 26 = .ok (.iconst 1, 1) := by decide +kernel
theorem dL_law_27 : decode cL_law 27 = .ok (.istore_n 3, 1) := by decide +kernel
theorem dL_law_28 : decode cL_law 28 = .ok (.iload_n 3, 1) := by decide +kernel
theorem dL_law_29 : decode cL_law 29 = .ok (.aload_n 0, 1) := by decide +kernel
theorem dL_law_30 : decode cL_law 30 = .ok (.arraylength, 1) := by decide +kernel
theorem dL_law_31 : decode cL_law 31 = .ok (.iconst 4, 1) := by decide +kernel
theorem dL_law_32 : decode cL_law 32 = .ok (.isub, 1) := by decide +kernel
theorem dL_law_33 : decode cL_law 33 = .ok (.if_icmp .gt 319, 3) := by decide +kernel
theorem dL_law_36 : decode cL_law 36 = .ok (.aload_n 0, 1) := by decide +kernel
theorem dL_law_37 : decode cL_law 37 = .ok (.iload_n 3, 1) := by decide +kernel
theorem dL_law_38 : decode cL_law 38 = .ok (.iaload, 1) := by decide +kernel
theorem dL_law_39 : decode cL_law 39 = .ok (.bipush 15, 2) := by decide +kernel
theorem dL_law_41 : decode cL_law 41 = .ok (.iand, 1) := by decide +kernel
theorem dL_law_42 : decode cL_law 42 = .ok (.tableswitch 304 0 9 #[54, 97, 110, 133, 146, 179, 212, 245, 258, 271], 54) := by decide +kernel
theorem dL_law_96 : decode cL_law 96 = .ok (.aload_n 1, 1) := by decide +kernel
theorem dL_law_97 : decode cL_law 97 = .ok (.aload_n 0, 1) := by decide +kernel
theorem dL_law_98 : decode cL_law 98 = .ok (.iload_n 3, 1) := by decide +kernel
theorem dL_law_99 : decode cL_law 99 = .ok (.iconst 1, 1) := by decide +kernel
theorem dL_law_100 : decode cL_law 100 = .ok (.iadd, 1) := by decide +kernel
theorem dL_law_101 : decode cL_law 101 = .ok (.iaload, 1) := by decide +kernel
theorem dL_law_102 : decode cL_law 102 = .ok (.aload_n 0, 1) := by decide +kernel
theorem dL_law_103 : decode cL_law 103 = .ok (.iload_n 3, 1) := by decide +kernel
theorem dL_law_104 : decode cL_law 104 = .ok (.iconst 2, 1) := by decide +kernel
theorem dL_law_105 : decode cL_law 105 = .ok (.iadd, 1) := by decide +kernel
theorem dL_law_106 : decode cL_law 106 = .ok (.iaload, 1) := by decide +kernel
theorem dL_law_107 : decode cL_law 107 = .ok (.aload_n 0, 1) := by decide +kernel
theorem dL_law_108 : decode cL_law 108 = .ok (.iload_n 3, 1) := by decide +kernel
theorem dL_law_109 : decode cL_law 109 = .ok (.iconst 3, 1) := by decide +kernel
theorem dL_law_110 : decode cL_law 110 = .ok (.iadd, 1) := by decide +kernel
theorem dL_law_111 : decode cL_law 111 = .ok (.iaload, 1) := by decide +kernel
theorem dL_law_112 : decode cL_law 112 = .ok (.invokevirtual 21, 3) := by decide +kernel
theorem dL_law_115 : decode cL_law 115 = .ok (.aload_n 2, 1) := by decide +kernel
theorem dL_law_116 : decode cL_law 116 = .ok (.aload_n 0, 1) := by decide +kernel
theorem dL_law_117 : decode cL_law 117 = .ok (.iload_n 3, 1) := by decide +kernel
theorem dL_law_118 : decode cL_law 118 = .ok (.iconst 1, 1) := by decide +kernel
theorem dL_law_119 : decode cL_law 119 = .ok (.iadd, 1) := by decide +kernel
theorem dL_law_120 : decode cL_law 120 = .ok (.iaload, 1) := by decide +kernel
theorem dL_law_121 : decode cL_law 121 = .ok (.aload_n 0, 1) := by decide +kernel
theorem dL_law_122 : decode cL_law 122 = .ok (.iload_n 3, 1) := by decide +kernel
theorem dL_law_123 : decode cL_law 123 = .ok (.iconst 2, 1) := by decide +kernel
theorem dL_law_124 : decode cL_law 124 = .ok (.iadd, 1) := by decide +kernel
theorem dL_law_125 : decode cL_law 125 = .ok (.iaload, 1) := by decide +kernel
theorem dL_law_126 : decode cL_law 126 = .ok (.aload_n 0, 1) := by decide +kernel
theorem dL_law_127 : decode cL_law 127 = .ok (.iload_n 3, 1) := by decide +kernel
theorem dL_law_128 : decode cL_law 128 = .ok (.iconst 3, 1) := by decide +kernel
theorem dL_law_129 : decode cL_law 129 = .ok (.iadd, 1) := by decide +kernel
theorem dL_law_130 : decode cL_law 130 = .ok (.iaload, 1) := by decide +kernel
theorem dL_law_131 : decode cL_law 131 = .ok (.invokevirtual 25, 3) := by decide +kernel
theorem dL_law_134 : decode cL_law 134 = .ok (.if_icmp .eq 212, 3) := by decide +kernel
theorem dL_law_137 : decode cL_law 137 = .ok (.iconst 0, 1) := by decide +kernel
theorem dL_law_138 : decode cL_law 138 = .ok (.ireturn, 1) := by decide +kernel
theorem dL_law_139 : decode cL_law 139 = .ok (.aload_n 1, 1) := by decide +kernel
theorem dL_law_140 : decode cL_law 140 = .ok (.invokevirtual 26, 3) := by decide +kernel
theorem dL_law_143 : decode cL_law 143 = .ok (.aload_n 2, 1) := by decide +kernel
theorem dL_law_144 : decode cL_law 144 = .ok (.invokevirtual 30, 3) := by decide +kernel
theorem dL_law_147 : decode cL_law 147 = .ok (.if_icmp .eq 199, 3) := by decide +kernel
theorem dL_law_150 : decode cL_law 150 = .ok (.iconst 0, 1) := by decide +kernel
theorem dL_law_151 : decode cL_law 151 = .ok (.ireturn, 1) := by decide +kernel
theorem dL_law_152 : decode cL_law 152 = .ok (.aload_n 1, 1) := by decide +kernel
theorem dL_law_153 : decode cL_law 153 = .ok (.aload_n 0, 1) := by decide +kernel
theorem dL_law_154 : decode cL_law 154 = .ok (.iload_n 3, 1) := by decide +kernel
theorem dL_law_155 : decode cL_law 155 = .ok (.iconst 1, 1) := by decide +kernel
theorem dL_law_156 : decode cL_law 156 = .ok (.iadd, 1) := by decide +kernel
theorem dL_law_157 : decode cL_law 157 = .ok (.iaload, 1) := by decide +kernel
theorem dL_law_158 : decode cL_law 158 = .ok (.invokevirtual 31, 3) := by decide +kernel
theorem dL_law_161 : decode cL_law 161 = .ok (.aload_n 2, 1) := by decide +kernel
theorem dL_law_162 : decode cL_law 162 = .ok (.aload_n 0, 1) := by decide +kernel
theorem dL_law_163 : decode cL_law 163 = .ok (.iload_n 3, 1) := by decide +kernel
theorem dL_law_164 : decode cL_law 164 = .ok (.iconst 1, 1) := by decide +kernel
theorem dL_law_165 : decode cL_law 165 = .ok (.iadd, 1) := by decide +kernel
theorem dL_law_166 : decode cL_law 166 = .ok (.iaload, 1) := by decide +kernel
theorem dL_law_167 : decode cL_law 167 = .ok (.invokevirtual 35, 3) := by decide +kernel
theorem dL_law_170 : decode cL_law 170 = .ok (.if_icmp .eq 176, 3) := by decide +kernel
theorem dL_law_173 : decode cL_law 173 = .ok (.iconst 0, 1) := by decide +kernel
theorem dL_law_174 : decode cL_law 174 = .ok (.ireturn, 1) := by decide +kernel
theorem dL_law_175 : decode cL_law 175 = .ok (.aload_n 1, 1) := by decide +kernel
theorem dL_law_176 : decode cL_law 176 = .ok (.invokevirtual 36, 3) := by decide +kernel
theorem dL_law_179 : decode cL_law 179 = .ok (.aload_n 2, 1) := by decide +kernel
theorem dL_law_180 : decode cL_law 180 = .ok (.invokevirtual 39, 3) := by decide +kernel
theorem dL_law_183 : decode cL_law 183 = .ok (.if_icmp .eq 163, 3) := by decide +kernel
theorem dL_law_186 : decode cL_law 186 = .ok (.iconst 0, 1) := by decide +kernel
theorem dL_law_187 : decode cL_law 187 = .ok (.ireturn, 1) := by decide +kernel
theorem dL_law_188 : decode cL_law 188 = .ok (.aload_n 1, 1) := by decide +kernel
theorem dL_law_189 : decode cL_law 189 = .ok (.aload_n 0, 1) := by decide +kernel
theorem dL_law_190 : decode cL_law 190 = .ok (.iload_n 3, 1) := by decide +kernel
theorem dL_law_191 : decode cL_law 191 = .ok (.iconst 1, 1) := by decide +kernel
theorem dL_law_192 : decode cL_law 192 = .ok (.iadd, 1) := by decide +kernel
theorem dL_law_193 : decode cL_law 193 = .ok (.iaload, 1) := by decide +kernel
theorem dL_law_194 : decode cL_law 194 = .ok (.aload_n 0, 1) := by decide +kernel
theorem dL_law_195 : decode cL_law 195 = .ok (.iload_n 3, 1) := by decide +kernel
theorem dL_law_196 : decode cL_law 196 = .ok (.iconst 2, 1) := by decide +kernel
theorem dL_law_197 : decode cL_law 197 = .ok (.iadd, 1) := by decide +kernel
theorem dL_law_198 : decode cL_law 198 = .ok (.iaload, 1) := by decide +kernel
theorem dL_law_199 : decode cL_law 199 = .ok (.invokevirtual 40, 3) := by decide +kernel
theorem dL_law_202 : decode cL_law 202 = .ok (.aload_n 2, 1) := by decide +kernel
theorem dL_law_203 : decode cL_law 203 = .ok (.aload_n 0, 1) := by decide +kernel
theorem dL_law_204 : decode cL_law 204 = .ok (.iload_n 3, 1) := by decide +kernel
theorem dL_law_205 : decode cL_law 205 = .ok (.iconst 1, 1) := by decide +kernel
theorem dL_law_206 : decode cL_law 206 = .ok (.iadd, 1) := by decide +kernel
theorem dL_law_207 : decode cL_law 207 = .ok (.iaload, 1) := by decide +kernel
theorem dL_law_208 : decode cL_law 208 = .ok (.aload_n 0, 1) := by decide +kernel
theorem dL_law_209 : decode cL_law 209 = .ok (.iload_n 3, 1) := by decide +kernel
theorem dL_law_210 : decode cL_law 210 = .ok (.iconst 2, 1) := by decide +kernel
theorem dL_law_211 : decode cL_law 211 = .ok (.iadd, 1) := by decide +kernel
theorem dL_law_212 : decode cL_law 212 = .ok (.iaload, 1) := by decide +kernel
theorem dL_law_213 : decode cL_law 213 = .ok (.invokevirtual 44, 3) := by decide +kernel
theorem dL_law_216 : decode cL_law 216 = .ok (.if_icmp .eq 130, 3) := by decide +kernel
theorem dL_law_219 : decode cL_law 219 = .ok (.iconst 0, 1) := by decide +kernel
theorem dL_law_220 : decode cL_law 220 = .ok (.ireturn, 1) := by decide +kernel
theorem dL_law_221 : decode cL_law 221 = .ok (.aload_n 1, 1) := by decide +kernel
theorem dL_law_222 : decode cL_law 222 = .ok (.aload_n 0, 1) := by decide +kernel
theorem dL_law_223 : decode cL_law 223 = .ok (.iload_n 3, 1) := by decide +kernel
theorem dL_law_224 : decode cL_law 224 = .ok (.iconst 1, 1) := by decide +kernel
theorem dL_law_225 : decode cL_law 225 = .ok (.iadd, 1) := by decide +kernel
theorem dL_law_226 : decode cL_law 226 = .ok (.iaload, 1) := by decide +kernel
theorem dL_law_227 : decode cL_law 227 = .ok (.aload_n 0, 1) := by decide +kernel
theorem dL_law_228 : decode cL_law 228 = .ok (.iload_n 3, 1) := by decide +kernel
theorem dL_law_229 : decode cL_law 229 = .ok (.iconst 2, 1) := by decide +kernel
theorem dL_law_230 : decode cL_law 230 = .ok (.iadd, 1) := by decide +kernel
theorem dL_law_231 : decode cL_law 231 = .ok (.iaload, 1) := by decide +kernel
theorem dL_law_232 : decode cL_law 232 = .ok (.invokevirtual 45, 3) := by decide +kernel
theorem dL_law_235 : decode cL_law 235 = .ok (.aload_n 2, 1) := by decide +kernel
theorem dL_law_236 : decode cL_law 236 = .ok (.aload_n 0, 1) := by decide +kernel
theorem dL_law_237 : decode cL_law 237 = .ok (.iload_n 3, 1) := by decide +kernel
theorem dL_law_238 : decode cL_law 238 = .ok (.iconst 1, 1) := by decide +kernel
theorem dL_law_239 : decode cL_law 239 = .ok (.iadd, 1) := by decide +kernel
theorem dL_law_240 : decode cL_law 240 = .ok (.iaload, 1) := by decide +kernel
theorem dL_law_241 : decode cL_law 241 = .ok (.aload_n 0, 1) := by decide +kernel
theorem dL_law_242 : decode cL_law 242 = .ok (.iload_n 3, 1) := by decide +kernel
theorem dL_law_243 : decode cL_law 243 = .ok (.iconst 2, 1) := by decide +kernel
theorem dL_law_244 : decode cL_law 244 = .ok (.iadd, 1) := by decide +kernel
theorem dL_law_245 : decode cL_law 245 = .ok (.iaload, 1) := by decide +kernel
theorem dL_law_246 : decode cL_law 246 = .ok (.invokevirtual 48, 3) := by decide +kernel
theorem dL_law_249 : decode cL_law 249 = .ok (.if_icmp .eq 97, 3) := by decide +kernel
theorem dL_law_252 : decode cL_law 252 = .ok (.iconst 0, 1) := by decide +kernel
theorem dL_law_253 : decode cL_law 253 = .ok (.ireturn, 1) := by decide +kernel
theorem dL_law_254 : decode cL_law 254 = .ok (.aload_n 1, 1) := by decide +kernel
theorem dL_law_255 : decode cL_law 255 = .ok (.aload_n 0, 1) := by decide +kernel
theorem dL_law_256 : decode cL_law 256 = .ok (.iload_n 3, 1) := by decide +kernel
theorem dL_law_257 : decode cL_law 257 = .ok (.iconst 1, 1) := by decide +kernel
theorem dL_law_258 : decode cL_law 258 = .ok (.iadd, 1) := by decide +kernel
theorem dL_law_259 : decode cL_law 259 = .ok (.iaload, 1) := by decide +kernel
theorem dL_law_260 : decode cL_law 260 = .ok (.aload_n 0, 1) := by decide +kernel
theorem dL_law_261 : decode cL_law 261 = .ok (.iload_n 3, 1) := by decide +kernel
theorem dL_law_262 : decode cL_law 262 = .ok (.iconst 2, 1) := by decide +kernel
theorem dL_law_263 : decode cL_law 263 = .ok (.iadd, 1) := by decide +kernel
theorem dL_law_264 : decode cL_law 264 = .ok (.iaload, 1) := by decide +kernel
theorem dL_law_265 : decode cL_law 265 = .ok (.invokevirtual 49, 3) := by decide +kernel
theorem dL_law_268 : decode cL_law 268 = .ok (.aload_n 2, 1) := by decide +kernel
theorem dL_law_269 : decode cL_law 269 = .ok (.aload_n 0, 1) := by decide +kernel
theorem dL_law_270 : decode cL_law 270 = .ok (.iload_n 3, 1) := by decide +kernel
theorem dL_law_271 : decode cL_law 271 = .ok (.iconst 1, 1) := by decide +kernel
theorem dL_law_272 : decode cL_law 272 = .ok (.iadd, 1) := by decide +kernel
theorem dL_law_273 : decode cL_law 273 = .ok (.iaload, 1) := by decide +kernel
theorem dL_law_274 : decode cL_law 274 = .ok (.aload_n 0, 1) := by decide +kernel
theorem dL_law_275 : decode cL_law 275 = .ok (.iload_n 3, 1) := by decide +kernel
theorem dL_law_276 : decode cL_law 276 = .ok (.iconst 2, 1) := by decide +kernel
theorem dL_law_277 : decode cL_law 277 = .ok (.iadd, 1) := by decide +kernel
theorem dL_law_278 : decode cL_law 278 = .ok (.iaload, 1) := by decide +kernel
theorem dL_law_279 : decode cL_law 279 = .ok (.invokevirtual 52, 3) := by decide +kernel
theorem dL_law_282 : decode cL_law 282 = .ok (.if_icmp .eq 64, 3) := by decide +kernel
theorem dL_law_285 : decode cL_law 285 = .ok (.iconst 0, 1) := by decide +kernel
theorem dL_law_286 : decode cL_law 286 = .ok (.ireturn, 1) := by decide +kernel
theorem dL_law_287 : decode cL_law 287 = .ok (.aload_n 1, 1) := by decide +kernel
theorem dL_law_288 : decode cL_law 288 = .ok (.invokevirtual 53, 3) := by decide +kernel
theorem dL_law_291 : decode cL_law 291 = .ok (.aload_n 2, 1) := by decide +kernel
theorem dL_law_292 : decode cL_law 292 = .ok (.invokevirtual 56, 3) := by decide +kernel
theorem dL_law_295 : decode cL_law 295 = .ok (.if_icmp .eq 51, 3) := by decide +kernel
theorem dL_law_298 : decode cL_law 298 = .ok (.iconst 0, 1) := by decide +kernel
theorem dL_law_299 : decode cL_law 299 = .ok (.ireturn, 1) := by decide +kernel
theorem dL_law_300 : decode cL_law 300 = .ok (.aload_n 1, 1) := by decide +kernel
theorem dL_law_301 : decode cL_law 301 = .ok (.invokevirtual 57, 3) := by decide +kernel
theorem dL_law_304 : decode cL_law 304 = .ok (.aload_n 2, 1) := by decide +kernel
theorem dL_law_305 : decode cL_law 305 = .ok (.invokevirtual 60, 3) := by decide +kernel
theorem dL_law_308 : decode cL_law 308 = .ok (.if_icmp .eq 38, 3) := by decide +kernel
theorem dL_law_311 : decode cL_law 311 = .ok (.iconst 0, 1) := by decide +kernel
theorem dL_law_312 : decode cL_law 312 = .ok (.ireturn, 1) := by decide +kernel
theorem dL_law_313 : decode cL_law 313 = .ok (.aload_n 1, 1) := by decide +kernel
theorem dL_law_314 : decode cL_law 314 = .ok (.aload_n 0, 1) := by decide +kernel
theorem dL_law_315 : decode cL_law 315 = .ok (.iload_n 3, 1) := by decide +kernel
theorem dL_law_316 : decode cL_law 316 = .ok (.iconst 1, 1) := by decide +kernel
theorem dL_law_317 : decode cL_law 317 = .ok (.iadd, 1) := by decide +kernel
theorem dL_law_318 : decode cL_law 318 = .ok (.iaload, 1) := by decide +kernel
theorem dL_law_319 : decode cL_law 319 = .ok (.aload_n 0, 1) := by decide +kernel
theorem dL_law_320 : decode cL_law 320 = .ok (.iload_n 3, 1) := by decide +kernel
theorem dL_law_321 : decode cL_law 321 = .ok (.iconst 2, 1) := by decide +kernel
theorem dL_law_322 : decode cL_law 322 = .ok (.iadd, 1) := by decide +kernel
theorem dL_law_323 : decode cL_law 323 = .ok (.iaload, 1) := by decide +kernel
theorem dL_law_324 : decode cL_law 324 = .ok (.invokevirtual 61, 3) := by decide +kernel
theorem dL_law_327 : decode cL_law 327 = .ok (.aload_n 2, 1) := by decide +kernel
theorem dL_law_328 : decode cL_law 328 = .ok (.aload_n 0, 1) := by decide +kernel
theorem dL_law_329 : decode cL_law 329 = .ok (.iload_n 3, 1) := by decide +kernel
theorem dL_law_330 : decode cL_law 330 = .ok (.iconst 1, 1) := by decide +kernel
theorem dL_law_331 : decode cL_law 331 = .ok (.iadd, 1) := by decide +kernel
theorem dL_law_332 : decode cL_law 332 = .ok (.iaload, 1) := by decide +kernel
theorem dL_law_333 : decode cL_law 333 = .ok (.aload_n 0, 1) := by decide +kernel
theorem dL_law_334 : decode cL_law 334 = .ok (.iload_n 3, 1) := by decide +kernel
theorem dL_law_335 : decode cL_law 335 = .ok (.iconst 2, 1) := by decide +kernel
theorem dL_law_336 : decode cL_law 336 = .ok (.iadd, 1) := by decide +kernel
theorem dL_law_337 : decode cL_law 337 = .ok (.iaload, 1) := by decide +kernel
theorem dL_law_338 : decode cL_law 338 = .ok (.invokevirtual 64, 3) := by decide +kernel
theorem dL_law_341 : decode cL_law 341 = .ok (.if_icmp .eq 5, 3) := by decide +kernel
theorem dL_law_344 : decode cL_law 344 = .ok (.iconst 0, 1) := by decide +kernel
theorem dL_law_345 : decode cL_law 345 = .ok (.ireturn, 1) := by decide +kernel
theorem dL_law_346 : decode cL_law 346 = .ok (.iinc 3 4, 3) := by decide +kernel
theorem dL_law_349 : decode cL_law 349 = .ok (.goto (-321), 3) := by decide +kernel
theorem dL_law_352 : decode cL_law 352 = .ok (.iconst 1, 1) := by decide +kernel
theorem dL_law_353 : decode cL_law 353 = .ok (.ireturn, 1) := by decide +kernel
end
section
/-! THE WALK BY STATES: WW says that from every heap with the picture w, with the locals lv and the stack st, the machine at pc comes to Q; a rule for each instruction over it, numbers as naturals (nI) where they are -/
abbrev vwCl : List vw_C := [(RX1, TX1, 11), (RX2, TX2, 6)]
def nA (F : Nat → Nat) : Nat → Int32 := fun j => nI (F j)
theorem nA_upd (F : Nat → Nat) (k v : Nat) : upd (nA F) k (nI v) = nA (va_up F k v) := by
  funext j
  unfold nA upd va_up
  by_cases h : j = k <;> simp [h]
def lvu : List (Nat × Value) → Nat → Value → List (Nat × Value)
  | [], i, v => [(i, v)]
  | q :: r, i, v => if q.1 == i then (i, v) :: r.filter (fun q => !(q.1 == i) && !(q.1 + 1 == i && q.2.category == 2)) else if q.1 + 1 == i && q.2.category == 2 then lvu r i v else q :: lvu r i v
theorem lvu_mem {i : Nat} {v : Value} {q : Nat × Value} : ∀ {l : List (Nat × Value)}, q ∈ lvu l i v → q = (i, v) ∨ q ∈ l.filter (fun q => !(q.1 == i) && !(q.1 + 1 == i && q.2.category == 2))
  | [], h => by
    left
    simpa [lvu] using h
  | p :: r, h => by
    unfold lvu at h
    by_cases h1 : (p.1 == i) = true
    · rw [if_pos h1] at h
      rcases List.mem_cons.mp h with e | e
      · exact Or.inl e
      · right
        rw [List.mem_filter] at e ⊢
        exact ⟨List.mem_cons_of_mem _ e.1, e.2⟩
    · rw [if_neg h1] at h
      by_cases h2 : (p.1 + 1 == i && p.2.category == 2) = true
      · rw [if_pos h2] at h
        rcases lvu_mem h with e | e
        · exact Or.inl e
        · right
          rw [List.mem_filter] at e ⊢
          exact ⟨List.mem_cons_of_mem _ e.1, e.2⟩
      · rw [if_neg h2] at h
        rcases List.mem_cons.mp h with e | e
        · right
          rw [List.mem_filter]
          refine ⟨by rw [e]; exact List.mem_cons_self, ?_⟩
          rw [e]
          simp only [Bool.not_eq_true] at h1 h2
          rw [h1, h2]
          rfl
        · rcases lvu_mem e with e | e
          · exact Or.inl e
          · right
            rw [List.mem_filter] at e ⊢
            exact ⟨List.mem_cons_of_mem _ e.1, e.2⟩
theorem lvu_has {ls : Array Slot} {nL : Nat} {l : List (Nat × Value)} {i : Nat} {v : Value} (h : lv_has ls nL ((i, v) :: l.filter (fun q => !(q.1 == i) && !(q.1 + 1 == i && q.2.category == 2)))) : lv_has ls nL (lvu l i v) :=
  ⟨h.1, h.2.1, fun q hq => h.2.2 q (by
    rcases lvu_mem hq with e | e
    · rw [e]; exact List.mem_cons_self
    · exact List.mem_cons_of_mem _ e)⟩
section
variable {p : Program} {l : Launch} {e : Env} {R : Room} {s : State} {m : MethodId} {args : Array Value} {below : List Frame} {meth : Method} {c : Code} {Q : State → Prop} {D : va_G} {A : Nat → Prop} {nL ce sl : Nat} {w : va_W} {pc : Nat} {lv lv' : List (Nat × Value)} {st : List Value} {cc : ByteArray} {own : String} {tys : List (ClassId × FieldType)}
def WW (p : Program) (l : Launch) (e : Env) (R : Room) (s : State) (m : MethodId) (args : Array Value) (below : List Frame) (meth : Method) (c : Code) (Q : State → Prop) (D : va_G) (A : Nat → Prop) (nL ce sl : Nat) (w : va_W) (pc : Nat) (lv : List (Nat × Value)) (st : List Value) : Prop :=
  ∀ (H : Heap) (locs : List Loc) (ls : Array Slot), va_P D vwCl w H → va_D A w → va_S A s.heap H locs → lv_has ls nL lv → W p l e R s m args below meth c H locs ce sl Q (F0 m pc ls st)
def FX (p : Program) (s : State) (m : MethodId) (args : Array Value) (c : Code) (D : va_G) (A : Nat → Prop) (cc : ByteArray) (nL : Nat) (own : String) (tys : List (ClassId × FieldType)) : Prop :=
  p.tables.exec = Jvm.exec ∧ c.code = cc ∧ c.maxLocals = nL ∧ s.vm.findClass own = some m.cls ∧ (∀ w ∈ lw_all, w.before args s = true) ∧ va_K D vwCl tys s ∧ ∀ q : Nat, s.heap.size ≤ q → A q
theorem WW.wide {ce' sl' : Nat} (h1 : ce ≤ ce') (h2 : sl ≤ sl') (kk : WW p l e R s m args below meth c Q D A nL ce' sl' w pc lv st) : WW p l e R s m args below meth c Q D A nL ce sl w pc lv st :=
  fun H locs ls hP hD hS hL => W.widen h1 h2 (kk H locs ls hP hD hS hL)
theorem WW.lvs (ks : List Nat) (hl : lv_pick lv ks = lv') (kk : WW p l e R s m args below meth c Q D A nL ce sl w pc lv' st) : WW p l e R s m args below meth c Q D A nL ce sl w pc lv st :=
  fun H locs ls hP hD hS hL => kk H locs ls hP hD hS (lv_sub hL ks hl)
theorem WW.cw {w' : va_W} {lv2 : List (Nat × Value)} {st2 : List Value} (hw : w = w') (hl : lv = lv2) (hs : st = st2) (kk : WW p l e R s m args below meth c Q D A nL ce sl w' pc lv2 st2) : WW p l e R s m args below meth c Q D A nL ce sl w pc lv st := by subst hw; subst hl; subst hs; exact kk
-- locals
theorem x_aload_n (hF : FX p s m args c D A cc nL own tys) (q : Nat) {k : Fin 4} {i x : Nat} (hd : decode cc pc = .ok (.aload_n k, 1)) (hi : (k : Nat) = i) (hl : lv[q]? = some (i, .ref x)) (kk : WW p l e R s m args below meth c Q D A nL ce sl w (pc + 1) lv (.ref x :: st)) : WW p l e R s m args below meth c Q D A nL ce sl w pc lv st :=
  fun H locs ls hP hD hS hL => lv_aload_n hF.1 hF.2.1 hd hi (lv_at hL q hl) (kk H locs ls hP hD hS hL)
theorem x_iload_n (hF : FX p s m args c D A cc nL own tys) (q : Nat) {k : Fin 4} {i : Nat} {x : Int32} (hd : decode cc pc = .ok (.iload_n k, 1)) (hi : (k : Nat) = i) (hl : lv[q]? = some (i, .int x)) (kk : WW p l e R s m args below meth c Q D A nL ce sl w (pc + 1) lv (.int x :: st)) : WW p l e R s m args below meth c Q D A nL ce sl w pc lv st :=
  fun H locs ls hP hD hS hL => lv_iload_n hF.1 hF.2.1 hd hi (lv_at hL q hl) (kk H locs ls hP hD hS hL)
theorem x_iload (hF : FX p s m args c D A cc nL own tys) (q : Nat) {i : Nat} {x : Int32} (hd : decode cc pc = .ok (.iload i, 2)) (hl : lv[q]? = some (i, .int x)) (kk : WW p l e R s m args below meth c Q D A nL ce sl w (pc + 2) lv (.int x :: st)) : WW p l e R s m args below meth c Q D A nL ce sl w pc lv st :=
  fun H locs ls hP hD hS hL => lv_iload hF.1 hF.2.1 hd (lv_at hL q hl) (kk H locs ls hP hD hS hL)
theorem x_istore_n (hF : FX p s m args c D A cc nL own tys) {k : Fin 4} {i : Nat} {x : Int32} (hd : decode cc pc = .ok (.istore_n k, 1)) (hi : (k : Nat) = i) (hn : i < nL) (hl : lvu lv i (.int x) = lv') (kk : WW p l e R s m args below meth c Q D A nL ce sl w (pc + 1) lv' st) : WW p l e R s m args below meth c Q D A nL ce sl w pc lv (.int x :: st) :=
  fun H locs ls hP hD hS hL => lv_istore_n hF.1 hF.2.1 hd hi hL hn rfl (fun ls' h' => kk H locs ls' hP hD hS (hl ▸ lvu_has h'))
theorem x_istore (hF : FX p s m args c D A cc nL own tys) {i : Nat} {x : Int32} (hd : decode cc pc = .ok (.istore i, 2)) (hn : i < nL) (hl : lvu lv i (.int x) = lv') (kk : WW p l e R s m args below meth c Q D A nL ce sl w (pc + 2) lv' st) : WW p l e R s m args below meth c Q D A nL ce sl w pc lv (.int x :: st) :=
  fun H locs ls hP hD hS hL => lv_istore hF.1 hF.2.1 hd hL hn rfl (fun ls' h' => kk H locs ls' hP hD hS (hl ▸ lvu_has h'))
theorem x_astore_n (hF : FX p s m args c D A cc nL own tys) {k : Fin 4} {i x : Nat} (hd : decode cc pc = .ok (.astore_n k, 1)) (hi : (k : Nat) = i) (hn : i < nL) (hl : lvu lv i (.ref x) = lv') (kk : WW p l e R s m args below meth c Q D A nL ce sl w (pc + 1) lv' st) : WW p l e R s m args below meth c Q D A nL ce sl w pc lv (.ref x :: st) :=
  fun H locs ls hP hD hS hL => lv_astore_n hF.1 hF.2.1 hd hi hL hn rfl (fun ls' h' => kk H locs ls' hP hD hS (hl ▸ lvu_has h'))
theorem x_iinc (hF : FX p s m args c D A cc nL own tys) (q : Nat) {i : Nat} {n : Int} {x v : Int32} (hd : decode cc pc = .ok (.iinc i n, 3)) (hk : lv[q]? = some (i, .int x)) (hv : x + Int32.ofInt n = v) (hn : i < nL) (hl : lvu lv i (.int v) = lv') (kk : WW p l e R s m args below meth c Q D A nL ce sl w (pc + 3) lv' st) : WW p l e R s m args below meth c Q D A nL ce sl w pc lv st :=
  fun H locs ls hP hD hS hL => lv_iinc hF.1 hF.2.1 hd hL hk hv hn rfl (fun ls' h' => kk H locs ls' hP hD hS (hl ▸ lvu_has h'))
theorem ii_1 (a : Nat) : nI a + Int32.ofInt 1 = nI (a + 1) := nI_1 a
theorem ii_4 (a : Nat) : nI a + Int32.ofInt 4 = nI (a + 4) := nI_add a 4
theorem ii_m1 (a : Nat) : nI (a + 1) + Int32.ofInt (-1) = nI a := pk_m1 a
theorem ii_m0 : nI 0 + Int32.ofInt (-1) = -1 := by decide +kernel
-- constants
theorem x_iconst (hF : FX p s m args c D A cc nL own tys) {n : Int} {v : Int32} (hd : decode cc pc = .ok (.iconst n, 1)) (hv : Int32.ofInt n = v) (kk : WW p l e R s m args below meth c Q D A nL ce sl w (pc + 1) lv (.int v :: st)) : WW p l e R s m args below meth c Q D A nL ce sl w pc lv st :=
  fun H locs ls hP hD hS hL => lv_iconst hF.1 hF.2.1 hd hv (kk H locs ls hP hD hS hL)
theorem x_bipush (hF : FX p s m args c D A cc nL own tys) {n : Int} {v : Int32} (hd : decode cc pc = .ok (.bipush n, 2)) (hv : (Int8.ofInt n).toInt32 = v) (kk : WW p l e R s m args below meth c Q D A nL ce sl w (pc + 2) lv (.int v :: st)) : WW p l e R s m args below meth c Q D A nL ce sl w pc lv st :=
  fun H locs ls hP hD hS hL => lv_bipush hF.1 hF.2.1 hd hv (kk H locs ls hP hD hS hL)
theorem x_sipush (hF : FX p s m args c D A cc nL own tys) {n : Int} {v : Int32} (hd : decode cc pc = .ok (.sipush n, 3)) (hv : (Int16.ofInt n).toInt32 = v) (kk : WW p l e R s m args below meth c Q D A nL ce sl w (pc + 3) lv (.int v :: st)) : WW p l e R s m args below meth c Q D A nL ce sl w pc lv st :=
  fun H locs ls hP hD hS hL => lv_sipush hF.1 hF.2.1 hd hv (kk H locs ls hP hD hS hL)
theorem x_ldc (hF : FX p s m args c D A cc nL own tys) {index : Nat} {v v' : Int32} (hc : Cond.constant own index v ∈ lw_all) (hv : v = v') (hd : decode cc pc = .ok (.ldc index, 2)) (kk : WW p l e R s m args below meth c Q D A nL ce sl w (pc + 2) lv (.int v' :: st)) : WW p l e R s m args below meth c Q D A nL ce sl w pc lv st :=
  fun H locs ls hP hD hS hL => by
    subst hv
    exact lv_ldc hF.1 hF.2.1 hF.2.2.2.1 (hF.2.2.2.2.1 _ hc) hd (kk H locs ls hP hD hS hL)
-- the stack
theorem x_dup (hF : FX p s m args c D A cc nL own tys) {v : Value} (hd : decode cc pc = .ok (.dup, 1)) (hv : v.category = 1) (kk : WW p l e R s m args below meth c Q D A nL ce sl w (pc + 1) lv (v :: v :: st)) : WW p l e R s m args below meth c Q D A nL ce sl w pc lv (v :: st) :=
  fun H locs ls hP hD hS hL => lv_dup hF.1 hF.2.1 hd hv (kk H locs ls hP hD hS hL)
theorem x_pop (hF : FX p s m args c D A cc nL own tys) {v : Value} (hd : decode cc pc = .ok (.pop, 1)) (hv : v.category = 1) (kk : WW p l e R s m args below meth c Q D A nL ce sl w (pc + 1) lv st) : WW p l e R s m args below meth c Q D A nL ce sl w pc lv (v :: st) :=
  fun H locs ls hP hD hS hL => lv_pop hF.1 hF.2.1 hd hv (kk H locs ls hP hD hS hL)
theorem x_goto (hF : FX p s m args c D A cc nL own tys) (tgt : Nat) {off : Int} (hd : decode cc pc = .ok (.goto off, 3)) (ht : (pc : Int) + off = (tgt : Int)) (kk : WW p l e R s m args below meth c Q D A nL ce sl w tgt lv st) : WW p l e R s m args below meth c Q D A nL ce sl w pc lv st :=
  fun H locs ls hP hD hS hL => lv_goto hF.1 hF.2.1 hd ht (kk H locs ls hP hD hS hL)
-- arithmetic
theorem x_iadd (hF : FX p s m args c D A cc nL own tys) {a b : Nat} (hd : decode cc pc = .ok (.iadd, 1)) (kk : WW p l e R s m args below meth c Q D A nL ce sl w (pc + 1) lv (.int (nI (a + b)) :: st)) : WW p l e R s m args below meth c Q D A nL ce sl w pc lv (.int (nI b) :: .int (nI a) :: st) :=
  fun H locs ls hP hD hS hL => lv_iadd hF.1 hF.2.1 hd (by rw [nI_add]; exact kk H locs ls hP hD hS hL)
theorem x_imul (hF : FX p s m args c D A cc nL own tys) {a b : Nat} (hd : decode cc pc = .ok (.imul, 1)) (kk : WW p l e R s m args below meth c Q D A nL ce sl w (pc + 1) lv (.int (nI (a * b)) :: st)) : WW p l e R s m args below meth c Q D A nL ce sl w pc lv (.int (nI b) :: .int (nI a) :: st) :=
  fun H locs ls hP hD hS hL => lv_imul hF.1 hF.2.1 hd (by rw [pk_mul]; exact kk H locs ls hP hD hS hL)
theorem x_isub (hF : FX p s m args c D A cc nL own tys) {a b : Nat} (hd : decode cc pc = .ok (.isub, 1)) (hab : b ≤ a) (kk : WW p l e R s m args below meth c Q D A nL ce sl w (pc + 1) lv (.int (nI (a - b)) :: st)) : WW p l e R s m args below meth c Q D A nL ce sl w pc lv (.int (nI b) :: .int (nI a) :: st) :=
  fun H locs ls hP hD hS hL => lv_isub hF.1 hF.2.1 hd (by rw [pk_sub hab]; exact kk H locs ls hP hD hS hL)
theorem x_iaddR (hF : FX p s m args c D A cc nL own tys) {a b v : Int32} (hd : decode cc pc = .ok (.iadd, 1)) (hv : a + b = v) (kk : WW p l e R s m args below meth c Q D A nL ce sl w (pc + 1) lv (.int v :: st)) : WW p l e R s m args below meth c Q D A nL ce sl w pc lv (.int b :: .int a :: st) :=
  fun H locs ls hP hD hS hL => lv_iadd hF.1 hF.2.1 hd (by rw [hv]; exact kk H locs ls hP hD hS hL)
theorem x_isubR (hF : FX p s m args c D A cc nL own tys) {a b v : Int32} (hd : decode cc pc = .ok (.isub, 1)) (hv : a - b = v) (kk : WW p l e R s m args below meth c Q D A nL ce sl w (pc + 1) lv (.int v :: st)) : WW p l e R s m args below meth c Q D A nL ce sl w pc lv (.int b :: .int a :: st) :=
  fun H locs ls hP hD hS hL => lv_isub hF.1 hF.2.1 hd (by rw [hv]; exact kk H locs ls hP hD hS hL)
theorem x_idiv (hF : FX p s m args c D A cc nL own tys) {a b : Nat} (hd : decode cc pc = .ok (.idiv, 1)) (ha : a < 2147483648) (h0 : 0 < b) (hb : b < 2147483648) (kk : WW p l e R s m args below meth c Q D A nL ce sl w (pc + 1) lv (.int (nI (a / b)) :: st)) : WW p l e R s m args below meth c Q D A nL ce sl w pc lv (.int (nI b) :: .int (nI a) :: st) :=
  fun H locs ls hP hD hS hL => lv_idiv hF.1 hF.2.1 hd (nI_ne0 h0 hb) (by rw [pk_div ha h0 hb]; exact kk H locs ls hP hD hS hL)
theorem x_irem (hF : FX p s m args c D A cc nL own tys) {a b : Nat} (hd : decode cc pc = .ok (.irem, 1)) (ha : a < 2147483648) (h0 : 0 < b) (hb : b < 2147483648) (kk : WW p l e R s m args below meth c Q D A nL ce sl w (pc + 1) lv (.int (nI (a % b)) :: st)) : WW p l e R s m args below meth c Q D A nL ce sl w pc lv (.int (nI b) :: .int (nI a) :: st) :=
  fun H locs ls hP hD hS hL => lv_irem hF.1 hF.2.1 hd (nI_ne0 h0 hb) (by rw [pk_rem ha h0 hb]; exact kk H locs ls hP hD hS hL)
theorem x_ishl (hF : FX p s m args c D A cc nL own tys) {x y v : Int32} (hd : decode cc pc = .ok (.ishl, 1)) (hv : x <<< (y &&& 31) = v) (kk : WW p l e R s m args below meth c Q D A nL ce sl w (pc + 1) lv (.int v :: st)) : WW p l e R s m args below meth c Q D A nL ce sl w pc lv (.int y :: .int x :: st) :=
  fun H locs ls hP hD hS hL => lv_ishl hF.1 hF.2.1 hd (by rw [hv]; exact kk H locs ls hP hD hS hL)
theorem x_ishr (hF : FX p s m args c D A cc nL own tys) {x y v : Int32} (hd : decode cc pc = .ok (.ishr, 1)) (hv : x >>> (y &&& 31) = v) (kk : WW p l e R s m args below meth c Q D A nL ce sl w (pc + 1) lv (.int v :: st)) : WW p l e R s m args below meth c Q D A nL ce sl w pc lv (.int y :: .int x :: st) :=
  fun H locs ls hP hD hS hL => lv_ishr hF.1 hF.2.1 hd (by rw [hv]; exact kk H locs ls hP hD hS hL)
theorem x_iand (hF : FX p s m args c D A cc nL own tys) {x y v : Int32} (hd : decode cc pc = .ok (.iand, 1)) (hv : x &&& y = v) (kk : WW p l e R s m args below meth c Q D A nL ce sl w (pc + 1) lv (.int v :: st)) : WW p l e R s m args below meth c Q D A nL ce sl w pc lv (.int y :: .int x :: st) :=
  fun H locs ls hP hD hS hL => lv_iand hF.1 hF.2.1 hd (by rw [hv]; exact kk H locs ls hP hD hS hL)
theorem x_ior (hF : FX p s m args c D A cc nL own tys) {x y v : Int32} (hd : decode cc pc = .ok (.ior, 1)) (hv : x ||| y = v) (kk : WW p l e R s m args below meth c Q D A nL ce sl w (pc + 1) lv (.int v :: st)) : WW p l e R s m args below meth c Q D A nL ce sl w pc lv (.int y :: .int x :: st) :=
  fun H locs ls hP hD hS hL => lv_ior hF.1 hF.2.1 hd (by rw [hv]; exact kk H locs ls hP hD hS hL)
theorem x_ixor (hF : FX p s m args c D A cc nL own tys) {x y v : Int32} (hd : decode cc pc = .ok (.ixor, 1)) (hv : x ^^^ y = v) (kk : WW p l e R s m args below meth c Q D A nL ce sl w (pc + 1) lv (.int v :: st)) : WW p l e R s m args below meth c Q D A nL ce sl w pc lv (.int y :: .int x :: st) :=
  fun H locs ls hP hD hS hL => lv_ixor hF.1 hF.2.1 hd (by rw [hv]; exact kk H locs ls hP hD hS hL)
theorem x_i2b (hF : FX p s m args c D A cc nL own tys) {x v : Int32} (hd : decode cc pc = .ok (.i2b, 1)) (hv : x.toInt8.toInt32 = v) (kk : WW p l e R s m args below meth c Q D A nL ce sl w (pc + 1) lv (.int v :: st)) : WW p l e R s m args below meth c Q D A nL ce sl w pc lv (.int x :: st) :=
  fun H locs ls hP hD hS hL => lv_i2b hF.1 hF.2.1 hd hv (kk H locs ls hP hD hS hL)
-- branches over naturals
theorem x_icmp_ge (hF : FX p s m args c D A cc nL own tys) {a b : Nat} (tgt : Nat) {off : Int} (hd : decode cc pc = .ok (.if_icmp .ge off, 3)) (ht : (pc : Int) + off = (tgt : Int)) (ha : a < 2147483648) (hb : b < 2147483648) (kt : b ≤ a → WW p l e R s m args below meth c Q D A nL ce sl w tgt lv st) (kf : a < b → WW p l e R s m args below meth c Q D A nL ce sl w (pc + 3) lv st) : WW p l e R s m args below meth c Q D A nL ce sl w pc lv (.int (nI b) :: .int (nI a) :: st) :=
  fun H locs ls hP hD hS hL => lv_icmp_ge hF.1 hF.2.1 hd ht (fun h => kt ((nI_leI hb ha).mp h) H locs ls hP hD hS hL) (fun h => kf (Nat.lt_of_not_le (fun q => h ((nI_leI hb ha).mpr q))) H locs ls hP hD hS hL)
theorem x_icmp_lt (hF : FX p s m args c D A cc nL own tys) {a b : Nat} (tgt : Nat) {off : Int} (hd : decode cc pc = .ok (.if_icmp .lt off, 3)) (ht : (pc : Int) + off = (tgt : Int)) (ha : a < 2147483648) (hb : b < 2147483648) (kt : a < b → WW p l e R s m args below meth c Q D A nL ce sl w tgt lv st) (kf : b ≤ a → WW p l e R s m args below meth c Q D A nL ce sl w (pc + 3) lv st) : WW p l e R s m args below meth c Q D A nL ce sl w pc lv (.int (nI b) :: .int (nI a) :: st) :=
  fun H locs ls hP hD hS hL => lv_icmp_lt hF.1 hF.2.1 hd ht (fun h => kt ((nI_ltI ha hb).mp h) H locs ls hP hD hS hL) (fun h => kf (Nat.le_of_not_lt (fun q => h ((nI_ltI ha hb).mpr q))) H locs ls hP hD hS hL)
theorem x_icmp_gt (hF : FX p s m args c D A cc nL own tys) {a b : Nat} (tgt : Nat) {off : Int} (hd : decode cc pc = .ok (.if_icmp .gt off, 3)) (ht : (pc : Int) + off = (tgt : Int)) (ha : a < 2147483648) (hb : b < 2147483648) (kt : b < a → WW p l e R s m args below meth c Q D A nL ce sl w tgt lv st) (kf : a ≤ b → WW p l e R s m args below meth c Q D A nL ce sl w (pc + 3) lv st) : WW p l e R s m args below meth c Q D A nL ce sl w pc lv (.int (nI b) :: .int (nI a) :: st) :=
  fun H locs ls hP hD hS hL => lv_icmp_gt hF.1 hF.2.1 hd ht (fun h => kt ((nI_ltI hb ha).mp h) H locs ls hP hD hS hL) (fun h => kf (Nat.le_of_not_lt (fun q => h ((nI_ltI hb ha).mpr q))) H locs ls hP hD hS hL)
theorem x_icmp_le (hF : FX p s m args c D A cc nL own tys) {a b : Nat} (tgt : Nat) {off : Int} (hd : decode cc pc = .ok (.if_icmp .le off, 3)) (ht : (pc : Int) + off = (tgt : Int)) (ha : a < 2147483648) (hb : b < 2147483648) (kt : a ≤ b → WW p l e R s m args below meth c Q D A nL ce sl w tgt lv st) (kf : b < a → WW p l e R s m args below meth c Q D A nL ce sl w (pc + 3) lv st) : WW p l e R s m args below meth c Q D A nL ce sl w pc lv (.int (nI b) :: .int (nI a) :: st) :=
  fun H locs ls hP hD hS hL => lv_icmp_le hF.1 hF.2.1 hd ht (fun h => kt ((nI_leI ha hb).mp h) H locs ls hP hD hS hL) (fun h => kf (Nat.lt_of_not_le (fun q => h ((nI_leI ha hb).mpr q))) H locs ls hP hD hS hL)
theorem x_icmp_eq (hF : FX p s m args c D A cc nL own tys) {a b : Nat} (tgt : Nat) {off : Int} (hd : decode cc pc = .ok (.if_icmp .eq off, 3)) (ht : (pc : Int) + off = (tgt : Int)) (ha : a < 2147483648) (hb : b < 2147483648) (kt : a = b → WW p l e R s m args below meth c Q D A nL ce sl w tgt lv st) (kf : ¬ a = b → WW p l e R s m args below meth c Q D A nL ce sl w (pc + 3) lv st) : WW p l e R s m args below meth c Q D A nL ce sl w pc lv (.int (nI b) :: .int (nI a) :: st) :=
  fun H locs ls hP hD hS hL => lv_icmp_eq hF.1 hF.2.1 hd ht (fun h => kt ((nI_eq ha hb).mp h) H locs ls hP hD hS hL) (fun h => kf (fun q => h ((nI_eq ha hb).mpr q)) H locs ls hP hD hS hL)
theorem x_icmp_ne (hF : FX p s m args c D A cc nL own tys) {a b : Nat} (tgt : Nat) {off : Int} (hd : decode cc pc = .ok (.if_icmp .ne off, 3)) (ht : (pc : Int) + off = (tgt : Int)) (ha : a < 2147483648) (hb : b < 2147483648) (kt : ¬ a = b → WW p l e R s m args below meth c Q D A nL ce sl w tgt lv st) (kf : a = b → WW p l e R s m args below meth c Q D A nL ce sl w (pc + 3) lv st) : WW p l e R s m args below meth c Q D A nL ce sl w pc lv (.int (nI b) :: .int (nI a) :: st) :=
  fun H locs ls hP hD hS hL => lv_icmp_ne hF.1 hF.2.1 hd ht (fun h => kt (fun q => h ((nI_eq ha hb).mpr q)) H locs ls hP hD hS hL) (fun h => kf ((nI_eq ha hb).mp h) H locs ls hP hD hS hL)
theorem x_if_eq (hF : FX p s m args c D A cc nL own tys) {a : Nat} (tgt : Nat) {off : Int} (hd : decode cc pc = .ok (.ifCond .eq off, 3)) (ht : (pc : Int) + off = (tgt : Int)) (ha : a < 2147483648) (kt : a = 0 → WW p l e R s m args below meth c Q D A nL ce sl w tgt lv st) (kf : ¬ a = 0 → WW p l e R s m args below meth c Q D A nL ce sl w (pc + 3) lv st) : WW p l e R s m args below meth c Q D A nL ce sl w pc lv (.int (nI a) :: st) :=
  fun H locs ls hP hD hS hL => lv_if_eq hF.1 hF.2.1 hd ht (fun h => kt ((nI_eq ha (by decide)).mp (h.trans nI_0.symm)) H locs ls hP hD hS hL) (fun h => kf (fun q => h (by rw [q]; exact nI_0)) H locs ls hP hD hS hL)
theorem x_if_ne (hF : FX p s m args c D A cc nL own tys) {a : Nat} (tgt : Nat) {off : Int} (hd : decode cc pc = .ok (.ifCond .ne off, 3)) (ht : (pc : Int) + off = (tgt : Int)) (ha : a < 2147483648) (kt : ¬ a = 0 → WW p l e R s m args below meth c Q D A nL ce sl w tgt lv st) (kf : a = 0 → WW p l e R s m args below meth c Q D A nL ce sl w (pc + 3) lv st) : WW p l e R s m args below meth c Q D A nL ce sl w pc lv (.int (nI a) :: st) :=
  fun H locs ls hP hD hS hL => lv_if_ne hF.1 hF.2.1 hd ht (fun h => kt (fun q => h (by rw [q]; exact nI_0)) H locs ls hP hD hS hL) (fun h => kf ((nI_eq ha (by decide)).mp (h.trans nI_0.symm)) H locs ls hP hD hS hL)
theorem x_if_lt (hF : FX p s m args c D A cc nL own tys) {a : Nat} {off : Int} (tgt : Nat) (hd : decode cc pc = .ok (.ifCond .lt off, 3)) (ht : (pc : Int) + off = (tgt : Int)) (ha : a < 2147483648) (kf : WW p l e R s m args below meth c Q D A nL ce sl w (pc + 3) lv st) : WW p l e R s m args below meth c Q D A nL ce sl w pc lv (.int (nI a) :: st) :=
  fun H locs ls hP hD hS hL => lv_if_lt hF.1 hF.2.1 hd ht (fun h => absurd h (nI_pos ha)) (fun _ => kf H locs ls hP hD hS hL)
theorem x_if_ge (hF : FX p s m args c D A cc nL own tys) {a : Nat} {off : Int} (tgt : Nat) (hd : decode cc pc = .ok (.ifCond .ge off, 3)) (ht : (pc : Int) + off = (tgt : Int)) (ha : a < 2147483648) (kt : WW p l e R s m args below meth c Q D A nL ce sl w tgt lv st) : WW p l e R s m args below meth c Q D A nL ce sl w pc lv (.int (nI a) :: st) :=
  fun H locs ls hP hD hS hL => lv_if_ge hF.1 hF.2.1 hd ht (fun _ => kt H locs ls hP hD hS hL) (fun h => absurd (nI_pos' ha) h)
-- branches over any ints
theorem x_if_ltR (hF : FX p s m args c D A cc nL own tys) {x : Int32} (tgt : Nat) {off : Int} (hd : decode cc pc = .ok (.ifCond .lt off, 3)) (ht : (pc : Int) + off = (tgt : Int)) (kt : x < 0 → WW p l e R s m args below meth c Q D A nL ce sl w tgt lv st) (kf : ¬ x < 0 → WW p l e R s m args below meth c Q D A nL ce sl w (pc + 3) lv st) : WW p l e R s m args below meth c Q D A nL ce sl w pc lv (.int x :: st) :=
  fun H locs ls hP hD hS hL => lv_if_lt hF.1 hF.2.1 hd ht (fun h => kt h H locs ls hP hD hS hL) (fun h => kf h H locs ls hP hD hS hL)
theorem x_if_geR (hF : FX p s m args c D A cc nL own tys) {x : Int32} (tgt : Nat) {off : Int} (hd : decode cc pc = .ok (.ifCond .ge off, 3)) (ht : (pc : Int) + off = (tgt : Int)) (kt : 0 ≤ x → WW p l e R s m args below meth c Q D A nL ce sl w tgt lv st) (kf : ¬ 0 ≤ x → WW p l e R s m args below meth c Q D A nL ce sl w (pc + 3) lv st) : WW p l e R s m args below meth c Q D A nL ce sl w pc lv (.int x :: st) :=
  fun H locs ls hP hD hS hL => lv_if_ge hF.1 hF.2.1 hd ht (fun h => kt h H locs ls hP hD hS hL) (fun h => kf h H locs ls hP hD hS hL)
theorem x_if_eqR (hF : FX p s m args c D A cc nL own tys) {x : Int32} (tgt : Nat) {off : Int} (hd : decode cc pc = .ok (.ifCond .eq off, 3)) (ht : (pc : Int) + off = (tgt : Int)) (kt : x = 0 → WW p l e R s m args below meth c Q D A nL ce sl w tgt lv st) (kf : ¬ x = 0 → WW p l e R s m args below meth c Q D A nL ce sl w (pc + 3) lv st) : WW p l e R s m args below meth c Q D A nL ce sl w pc lv (.int x :: st) :=
  fun H locs ls hP hD hS hL => lv_if_eq hF.1 hF.2.1 hd ht (fun h => kt h H locs ls hP hD hS hL) (fun h => kf h H locs ls hP hD hS hL)
theorem x_if_neR (hF : FX p s m args c D A cc nL own tys) {x : Int32} (tgt : Nat) {off : Int} (hd : decode cc pc = .ok (.ifCond .ne off, 3)) (ht : (pc : Int) + off = (tgt : Int)) (kt : ¬ x = 0 → WW p l e R s m args below meth c Q D A nL ce sl w tgt lv st) (kf : x = 0 → WW p l e R s m args below meth c Q D A nL ce sl w (pc + 3) lv st) : WW p l e R s m args below meth c Q D A nL ce sl w pc lv (.int x :: st) :=
  fun H locs ls hP hD hS hL => lv_if_ne hF.1 hF.2.1 hd ht (fun h => kt h H locs ls hP hD hS hL) (fun h => kf h H locs ls hP hD hS hL)
theorem x_icmp_geR (hF : FX p s m args c D A cc nL own tys) {x y : Int32} (tgt : Nat) {off : Int} (hd : decode cc pc = .ok (.if_icmp .ge off, 3)) (ht : (pc : Int) + off = (tgt : Int)) (kt : y ≤ x → WW p l e R s m args below meth c Q D A nL ce sl w tgt lv st) (kf : ¬ y ≤ x → WW p l e R s m args below meth c Q D A nL ce sl w (pc + 3) lv st) : WW p l e R s m args below meth c Q D A nL ce sl w pc lv (.int y :: .int x :: st) :=
  fun H locs ls hP hD hS hL => lv_icmp_ge hF.1 hF.2.1 hd ht (fun h => kt h H locs ls hP hD hS hL) (fun h => kf h H locs ls hP hD hS hL)
theorem x_icmp_ltR (hF : FX p s m args c D A cc nL own tys) {x y : Int32} (tgt : Nat) {off : Int} (hd : decode cc pc = .ok (.if_icmp .lt off, 3)) (ht : (pc : Int) + off = (tgt : Int)) (kt : x < y → WW p l e R s m args below meth c Q D A nL ce sl w tgt lv st) (kf : ¬ x < y → WW p l e R s m args below meth c Q D A nL ce sl w (pc + 3) lv st) : WW p l e R s m args below meth c Q D A nL ce sl w pc lv (.int y :: .int x :: st) :=
  fun H locs ls hP hD hS hL => lv_icmp_lt hF.1 hF.2.1 hd ht (fun h => kt h H locs ls hP hD hS hL) (fun h => kf h H locs ls hP hD hS hL)
theorem x_icmp_leR (hF : FX p s m args c D A cc nL own tys) {x y : Int32} (tgt : Nat) {off : Int} (hd : decode cc pc = .ok (.if_icmp .le off, 3)) (ht : (pc : Int) + off = (tgt : Int)) (kt : x ≤ y → WW p l e R s m args below meth c Q D A nL ce sl w tgt lv st) (kf : ¬ x ≤ y → WW p l e R s m args below meth c Q D A nL ce sl w (pc + 3) lv st) : WW p l e R s m args below meth c Q D A nL ce sl w pc lv (.int y :: .int x :: st) :=
  fun H locs ls hP hD hS hL => lv_icmp_le hF.1 hF.2.1 hd ht (fun h => kt h H locs ls hP hD hS hL) (fun h => kf h H locs ls hP hD hS hL)
theorem x_icmp_gtR (hF : FX p s m args c D A cc nL own tys) {x y : Int32} (tgt : Nat) {off : Int} (hd : decode cc pc = .ok (.if_icmp .gt off, 3)) (ht : (pc : Int) + off = (tgt : Int)) (kt : y < x → WW p l e R s m args below meth c Q D A nL ce sl w tgt lv st) (kf : ¬ y < x → WW p l e R s m args below meth c Q D A nL ce sl w (pc + 3) lv st) : WW p l e R s m args below meth c Q D A nL ce sl w pc lv (.int y :: .int x :: st) :=
  fun H locs ls hP hD hS hL => lv_icmp_gt hF.1 hF.2.1 hd ht (fun h => kt h H locs ls hP hD hS hL) (fun h => kf h H locs ls hP hD hS hL)
theorem x_icmp_eqR (hF : FX p s m args c D A cc nL own tys) {x y : Int32} (tgt : Nat) {off : Int} (hd : decode cc pc = .ok (.if_icmp .eq off, 3)) (ht : (pc : Int) + off = (tgt : Int)) (kt : x = y → WW p l e R s m args below meth c Q D A nL ce sl w tgt lv st) (kf : ¬ x = y → WW p l e R s m args below meth c Q D A nL ce sl w (pc + 3) lv st) : WW p l e R s m args below meth c Q D A nL ce sl w pc lv (.int y :: .int x :: st) :=
  fun H locs ls hP hD hS hL => lv_icmp_eq hF.1 hF.2.1 hd ht (fun h => kt h H locs ls hP hD hS hL) (fun h => kf h H locs ls hP hD hS hL)
theorem x_icmp_neR (hF : FX p s m args c D A cc nL own tys) {x y : Int32} (tgt : Nat) {off : Int} (hd : decode cc pc = .ok (.if_icmp .ne off, 3)) (ht : (pc : Int) + off = (tgt : Int)) (kt : ¬ x = y → WW p l e R s m args below meth c Q D A nL ce sl w tgt lv st) (kf : x = y → WW p l e R s m args below meth c Q D A nL ce sl w (pc + 3) lv st) : WW p l e R s m args below meth c Q D A nL ce sl w pc lv (.int y :: .int x :: st) :=
  fun H locs ls hP hD hS hL => lv_icmp_ne hF.1 hF.2.1 hd ht (fun h => kt h H locs ls hP hD hS hL) (fun h => kf h H locs ls hP hD hS hL)
end
end
section
/-! fields, arrays, calls and contracts over WW -/
theorem byte_n : ∀ k, k < 128 → (nI k).toInt8.toInt32 = nI k := by decide +kernel
section
variable {p : Program} {l : Launch} {e : Env} {R : Room} {s : State} {m : MethodId} {args : Array Value} {below : List Frame} {meth : Method} {c : Code} {Q : State → Prop} {D : va_G} {A : Nat → Prop} {nL ce sl : Nat} {w w' : va_W} {pc : Nat} {lv lv' : List (Nat × Value)} {st : List Value} {cc : ByteArray} {own : String} {tys : List (ClassId × FieldType)}
theorem x_get (hF : FX p s m args c D A cc nL own tys) {C ref : String} {T : u_T} {N ci index a : Nat} (hin : ∀ w ∈ u_ws C T N, w ∈ lw_all) (q0 : Nat) {fs : List Value} (he : w[q0]? = some (a, .inr (ci, fs))) (hc : vwCl[ci]? = some (C, T, N)) (k : Nat) (hk : k < N) (hlink : Cond.fieldLink own index ref (T k).2.1 (T k).2.2.1 ∈ lw_all) (hsame : (T k).1 = ref) {v : Value} (hv : fs[k]? = some v) (hd : decode cc pc = .ok (.getfield index, 3)) (kk : WW p l e R s m args below meth c Q D A nL ce sl w (pc + 3) lv (v :: st)) : WW p l e R s m args below meth c Q D A nL ce sl w pc lv (.ref a :: st) :=
  fun H locs ls hP hD hS hL => va_get (D := D) hF.1 hF.2.1 hF.2.2.2.2.1 hin hF.2.2.2.1 hF.2.2.2.2.2.1 hP q0 he hc k hk (hF.2.2.2.2.1 _ hlink) (fun x h => by rw [← hsame]; exact h) hv hd (kk H locs ls hP hD hS hL)
theorem x_put (hF : FX p s m args c D A cc nL own tys) {C ref : String} {T : u_T} {N ci index a : Nat} (hin : ∀ w ∈ u_ws C T N, w ∈ lw_all) (ty0 : Nat → FieldType) (hty : ∀ k, k < N → parseFieldDescriptor (T k).2.2.1 = some (ty0 k)) (hnm : ∀ a, a < N → ∀ b, b < N → a ≠ b → (T a).2.1 ≠ (T b).2.1) (q0 : Nat) {fs : List Value} (he : w[q0]? = some (a, .inr (ci, fs))) (hc : vwCl[ci]? = some (C, T, N)) (k : Nat) (hk : k < N) (hlink : Cond.fieldLink own index ref (T k).2.1 (T k).2.2.1 ∈ lw_all) (hsame : (T k).1 = ref) (hfin : (T k).2.2.2 = false) {v : Value} (hn : narrow (ty0 k) v = v) (hfit : fits (ty0 k) v = true) (hl : k < fs.length) (hw : w.set q0 (a, .inr (ci, fs.set k v)) = w') (hd : decode cc pc = .ok (.putfield index, 3)) (kk : WW p l e R s m args below meth c Q D A nL ce sl w' (pc + 3) lv st) : WW p l e R s m args below meth c Q D A nL ce sl w pc lv (v :: .ref a :: st) :=
  fun H locs ls hP hD hS hL => va_put (D := D) hF.1 hF.2.1 hF.2.2.2.2.1 hin ty0 hty hnm hF.2.2.2.1 hF.2.2.2.2.2.1 hP hD hS q0 he hc k hk (hF.2.2.2.2.1 _ hlink) (fun x h => by rw [← hsame]; exact h) hfin (hty k hk) hn hfit hl hd (fun H1 locs1 hP1 hD1 hS1 => kk H1 locs1 ls (hw ▸ hP1) (hw ▸ hD1) hS1 hL)
theorem x_putF (hF : FX p s m args c D A cc nL own tys) {C ref : String} {T : u_T} {N ci index a : Nat} (hin : ∀ w ∈ u_ws C T N, w ∈ lw_all) (ty0 : Nat → FieldType) (hty : ∀ k, k < N → parseFieldDescriptor (T k).2.2.1 = some (ty0 k)) (hnm : ∀ a, a < N → ∀ b, b < N → a ≠ b → (T a).2.1 ≠ (T b).2.1) (hinit : meth.name = "<init>") (q0 : Nat) {fs : List Value} (he : w[q0]? = some (a, .inr (ci, fs))) (hc : vwCl[ci]? = some (C, T, N)) (k : Nat) (hk : k < N) (hlink : Cond.fieldLink own index ref (T k).2.1 (T k).2.2.1 ∈ lw_all) (hsame : (T k).1 = ref) (hown : ref = own) (hfin : (T k).2.2.2 = true) {v : Value} (hn : narrow (ty0 k) v = v) (hfit : fits (ty0 k) v = true) (hl : k < fs.length) (hw : w.set q0 (a, .inr (ci, fs.set k v)) = w') (hd : decode cc pc = .ok (.putfield index, 3)) (kk : WW p l e R s m args below meth c Q D A nL ce sl w' (pc + 3) lv st) : WW p l e R s m args below meth c Q D A nL ce sl w pc lv (v :: .ref a :: st) :=
  fun H locs ls hP hD hS hL => va_putF (D := D) hF.1 hF.2.1 hF.2.2.2.2.1 hin ty0 hty hnm hF.2.2.2.1 hF.2.2.2.2.2.1 hP hD hS q0 he hc k hk (hF.2.2.2.2.1 _ hlink) (fun x h => by rw [← hsame]; exact h) hfin hinit (hsame.trans hown) (hty k hk) hn hfit hl hd (fun H1 locs1 hP1 hD1 hS1 => kk H1 locs1 ls (hw ▸ hP1) (hw ▸ hD1) hS1 hL)
theorem x_iald (hF : FX p s m args c D A cc nL own tys) (q0 t0 : Nat) {a : Nat} {cA : ClassId} {n : Nat} {F : Nat → Nat} {i : Nat} (ha : w[q0]? = some (a, .inl (cA, n, .inl (nA F)))) (ht : tys[t0]? = some (cA, .int)) (hn : n < 2147483648) (hi : i < n) (hd : decode cc pc = .ok (.iaload, 1)) (kk : WW p l e R s m args below meth c Q D A nL ce sl w (pc + 1) lv (.int (nI (F i)) :: st)) : WW p l e R s m args below meth c Q D A nL ce sl w pc lv (.int (nI i) :: .ref a :: st) :=
  fun H locs ls hP hD hS hL => va_iald (D := D) hF.1 hF.2.1 hF.2.2.2.2.2.1 hP q0 t0 ha ht (vp_in_nI hi hn) hd (by rw [nI_clamp (Nat.lt_trans hi hn)]; exact kk H locs ls hP hD hS hL)
theorem x_bald (hF : FX p s m args c D A cc nL own tys) (q0 t0 : Nat) {a : Nat} {cA : ClassId} {n : Nat} {F : Nat → Nat} {i : Nat} (ha : w[q0]? = some (a, .inl (cA, n, .inl (nA F)))) (ht : tys[t0]? = some (cA, .byte)) (hn : n < 2147483648) (hi : i < n) (hd : decode cc pc = .ok (.baload, 1)) (kk : WW p l e R s m args below meth c Q D A nL ce sl w (pc + 1) lv (.int (nI (F i)) :: st)) : WW p l e R s m args below meth c Q D A nL ce sl w pc lv (.int (nI i) :: .ref a :: st) :=
  fun H locs ls hP hD hS hL => va_bald (D := D) hF.1 hF.2.1 hF.2.2.2.2.2.1 hP q0 t0 ha ht (vp_in_nI hi hn) hd (by rw [nI_clamp (Nat.lt_trans hi hn)]; exact kk H locs ls hP hD hS hL)
theorem x_iast (hF : FX p s m args c D A cc nL own tys) (q0 t0 : Nat) {a : Nat} {cA : ClassId} {n : Nat} {F : Nat → Nat} {i v : Nat} (ha : w[q0]? = some (a, .inl (cA, n, .inl (nA F)))) (ht : tys[t0]? = some (cA, .int)) (hn : n < 2147483648) (hi : i < n) (hw : w.set q0 (a, .inl (cA, n, .inl (nA (va_up F i v)))) = w') (hd : decode cc pc = .ok (.iastore, 1)) (kk : WW p l e R s m args below meth c Q D A nL ce sl w' (pc + 1) lv st) : WW p l e R s m args below meth c Q D A nL ce sl w pc lv (.int (nI v) :: .int (nI i) :: .ref a :: st) :=
  fun H locs ls hP hD hS hL => va_iast (D := D) hF.1 hF.2.1 hF.2.2.2.2.2.1 hP hD hS q0 t0 ha ht (vp_in_nI hi hn) hd (fun H1 locs1 hP1 hD1 hS1 => by
    rw [nI_clamp (Nat.lt_trans hi hn), nA_upd, hw] at hP1 hD1
    exact kk H1 locs1 ls hP1 hD1 hS1 hL)
theorem x_bast (hF : FX p s m args c D A cc nL own tys) (q0 t0 : Nat) {a : Nat} {cA : ClassId} {n : Nat} {F : Nat → Nat} {i v : Nat} (ha : w[q0]? = some (a, .inl (cA, n, .inl (nA F)))) (ht : tys[t0]? = some (cA, .byte)) (hn : n < 2147483648) (hi : i < n) (hv : v < 128) (hw : w.set q0 (a, .inl (cA, n, .inl (nA (va_up F i v)))) = w') (hd : decode cc pc = .ok (.bastore, 1)) (kk : WW p l e R s m args below meth c Q D A nL ce sl w' (pc + 1) lv st) : WW p l e R s m args below meth c Q D A nL ce sl w pc lv (.int (nI v) :: .int (nI i) :: .ref a :: st) :=
  fun H locs ls hP hD hS hL => va_bast (D := D) hF.1 hF.2.1 hF.2.2.2.2.2.1 hP hD hS q0 t0 ha ht (vp_in_nI hi hn) hd (fun H1 locs1 hP1 hD1 hS1 => by
    rw [vp_nar_byte, byte_n v hv, nI_clamp (Nat.lt_trans hi hn), nA_upd, hw] at hP1 hD1
    exact kk H1 locs1 ls hP1 hD1 hS1 hL)
theorem x_newa (hF : FX p s m args c D A cc nL own tys) {atype : ArrayType} {ty : FieldType} (harr : Cond.arrayClass ty ∈ lw_all) (hty : newarray.typeOf atype = ty) {N' : Nat} (h0 : ∀ cA : ClassId, vp_cell cA (N', .inl (nA (fun _ => 0))) = arrV cA N' (fun _ => defaultValue ty)) (hN : N' < 2147483648) (hbytes : N' * componentBytes ty ≤ 536870912) (hcells : ce + 1 ≤ R.cells) (hslots : sl + N' ≤ R.slots) (hd : decode cc pc = .ok (.newarray atype, 2))
    (kk : ∀ (q : Nat) (cA : ClassId), FX p s m args c D A cc nL own (tys ++ [(cA, ty)]) → WW p l e R s m args below meth c Q D A nL (ce + 1) (sl + N') (w ++ [(q, .inl (cA, N', .inl (nA (fun _ => 0))))]) (pc + 2) lv (.ref q :: st)) : WW p l e R s m args below meth c Q D A nL ce sl w pc lv (.int (nI N') :: st) :=
  fun H locs ls hP hD hS hL => va_newa (D := D) hF.1 hF.2.1 (by rw [hty]; exact hF.2.2.2.2.1 _ harr) hty hF.2.2.2.2.2.1 hP hD hS hF.2.2.2.2.2.2 h0 (nI_pos hN) (nI_clamp hN) hbytes hcells hslots hd
    (fun q cA H1 hK1 hP1 hD1 hS1 => kk q cA ⟨hF.1, hF.2.1, hF.2.2.1, hF.2.2.2.1, hF.2.2.2.2.1, hK1, hF.2.2.2.2.2.2⟩ H1 locs ls hP1 hD1 hS1 hL)
theorem x_new (hF : FX p s m args c D A cc nL own tys) {C : String} {T : u_T} {N ci index : Nat} (hin : ∀ w ∈ u_ws C T N, w ∈ lw_all) (ty : Nat → FieldType) (hty : ∀ k, k < N → parseFieldDescriptor (T k).2.2.1 = some (ty k)) (hcl : Cond.classLink own index C ∈ lw_all) (hinst : Cond.instantiable C N ∈ lw_all) (hini : Cond.initialized C ∈ lw_all) (hc : vwCl[ci]? = some (C, T, N)) {fs : List Value} (hfs : ∀ j, j < N → defaultValue (ty j) = vp_V fs j) (hcells : ce + 1 ≤ R.cells) (hslots : sl + N ≤ R.slots) (hd : decode cc pc = .ok (.new index, 3))
    (kk : ∀ q : Nat, WW p l e R s m args below meth c Q D A nL (ce + 1) (sl + N) (w ++ [(q, .inr (ci, fs))]) (pc + 3) lv (.ref q :: st)) : WW p l e R s m args below meth c Q D A nL ce sl w pc lv st :=
  fun H locs ls hP hD hS hL => va_new (D := D) hF.1 hF.2.1 hF.2.2.2.2.1 hin ty hty hF.2.2.2.1 (hF.2.2.2.2.1 _ hcl) (hF.2.2.2.2.1 _ hinst) (hF.2.2.2.2.1 _ hini) hF.2.2.2.2.2.1 hP hD hS hF.2.2.2.2.2.2 hc hfs hcells hslots hd
    (fun q H1 hP1 hD1 hS1 => kk q H1 locs ls hP1 hD1 hS1 hL)
theorem x_objInit (hF : FX p s m args c D A cc nL own tys) {idx a : Nat} (h1 : Cond.methodLink own idx Lib.objectInit ∈ lw_all) (h2 : Cond.instanceMethod Lib.objectInit ∈ lw_all) (h3 : Cond.code Lib.objectInit ⟨#[0xb1]⟩ 1 none ∈ lw_all) (hd : decode cc pc = .ok (.invokespecial idx, 3)) (hfr : 1 ≤ R.frames) (hlo : 8 + 12 ≤ R.locals) (hst : (st.map fun v => v.category).sum ≤ 8) (kk : WW p l e R s m args below meth c Q D A nL ce sl w (pc + 3) lv st) : WW p l e R s m args below meth c Q D A nL ce sl w pc lv (.ref a :: st) :=
  fun H locs ls hP hD hS hL => by
    refine W.objInit hF.1 hF.2.1 hF.2.2.2.1 (hF.2.2.2.2.1 _ h1) (hF.2.2.2.2.1 _ h2) (hF.2.2.2.2.1 _ h3) rfl (by rw [hF.2.2.1]; exact hL.1) rfl hd hfr (Nat.le_trans (Nat.add_le_add_right (lv_room hst) 12) hlo) ?_
    exact kk H locs ls hP hD hS hL
end
-- ===== contracts =====
/-- a method that answers an int (boolean): from any heap with the picture w it returns r and leaves the picture w1, post r w1 -/
def MtI (l : Launch) (y : MethodName) (cy : ByteArray) (mL : Nat) (rt : FieldType) (rm : Room) (D : va_G) (tys : List (ClassId × FieldType)) (av : List Value) (w : va_W) (post : Int32 → va_W → Prop) : Prop :=
  ∀ sz : Nat, Met l y (ws_ y cy mL (some rt)) rm (va_Pc av (fun U => U.heap.size = sz ∧ va_P D vwCl w U.heap ∧ va_K D vwCl tys U ∧ va_D (fun _ => True) w)) (va_Qi post (fun (w1 : va_W) t => va_P D vwCl w1 t.heap ∧ va_D (va_A w sz) w1) (va_A w sz)) 0 0 (va_A w sz)
/-- a method without an answer -/
def MtV (l : Launch) (y : MethodName) (cy : ByteArray) (mL : Nat) (rm : Room) (D : va_G) (tys : List (ClassId × FieldType)) (av : List Value) (w : va_W) (post : va_W → Prop) : Prop :=
  ∀ sz : Nat, Met l y (ws_ y cy mL none) rm (va_Pc av (fun U => U.heap.size = sz ∧ va_P D vwCl w U.heap ∧ va_K D vwCl tys U ∧ va_D (fun _ => True) w)) (va_Qv post (fun (w1 : va_W) t => va_P D vwCl w1 t.heap ∧ va_D (va_A w sz) w1) (va_A w sz)) 0 0 (va_A w sz)
/-- a constructor: mc cells of ms slots are new -/
def MtC (l : Launch) (y : MethodName) (cy : ByteArray) (mL : Nat) (rm : Room) (D : va_G) (tys : List (ClassId × FieldType)) (av : List Value) (w : va_W) (mc ms : Nat) (post : va_W → List (ClassId × FieldType) → Prop) : Prop :=
  ∀ sz : Nat, Met l y (ws_ y cy mL none) rm (va_Pc av (fun U => U.heap.size = sz ∧ va_P D vwCl w U.heap ∧ va_K D vwCl tys U ∧ va_D (fun _ => True) w)) (va_Qv (fun u : va_W × List (ClassId × FieldType) => post u.1 u.2) (fun u t => va_P D vwCl u.1 t.heap ∧ va_K D vwCl u.2 t ∧ va_D (va_A w sz) u.1) (va_A w sz)) mc ms (va_A w sz)
theorem MtI.of {l : Launch} {y : MethodName} {cy : ByteArray} {mL : Nat} {rt : FieldType} {rm : Room} {D : va_G} {tys : List (ClassId × FieldType)} {av : List Value} {w : va_W} {post : Int32 → va_W → Prop} (hy : plainName y.cls = true) (hav : (lg_sl av).length ≤ mL)
    (body : ∀ (p : Program) (e : Env) (s : State) (m : MethodId) (args : Array Value) (below : List Frame) (meth : Method) (c : Code) (Q : State → Prop) (A : Nat → Prop), FX p s m args c D A cy mL y.cls tys → (∀ (r : Int32) (w1 : va_W) (pc : Nat) (lv : List (Nat × Value)), post r w1 → narrow rt (.int r) = .int r → decode cy pc = .ok (.ireturn, 1) → WW p l e rm s m args below meth c Q D A mL 0 0 w1 pc lv [.int r]) → WW p l e rm s m args below meth c Q D A mL 0 0 w 0 (lv_args 0 av) []) :
    MtI l y cy mL rt rm D tys av w post := by
  intro sz
  refine Met.ofW (cc := cy) (maxL := mL) (ret := some rt) hy rfl ?_
  intro p e s m args below meth c s₁ B hml hv
  obtain ⟨rfl, hsz, hP, hK, hD0⟩ := hv
  have hx := B.exec
  have hb := B.bytes
  have hr := B.returns
  have hts := atoms_spec (ws := ws_ y cy mL (some rt)) B.pre
  have hts : ∀ w ∈ lw_all, w.before _ s = true := fun w h => hts w (List.mem_cons_of_mem _ h)
  have hown : s.vm.findClass y.cls = some m.cls := findClass_of_methodNamed B.named
  have hlocks := B.notSynchronized
  subst hsz
  have hD := hD0.self (sz := s.heap.size)
  have hl := lv_entry av (n := mL) hav
  rw [lg_entry_eq]
  refine body p e s m _ below meth c _ (va_A w s.heap.size) ⟨hx, hb, hml, hown, hts, hK, fun q h => Or.inr h⟩ ?_ s.heap [] _ hP hD va_S.rf hl
  intro r w1 pc lv hpost hn hdg H locs ls hP1 hD1 hS1 hl1
  exact W.zret (v := r) hx hb hr hn (fun t ht hW => ⟨⟨r, w1, rfl, hpost, by rw [ht]; exact hP1, hD1⟩, hS1.F ht⟩) hS1.2.2 hdg hlocks
theorem MtV.of {l : Launch} {y : MethodName} {cy : ByteArray} {mL : Nat} {rm : Room} {D : va_G} {tys : List (ClassId × FieldType)} {av : List Value} {w : va_W} {post : va_W → Prop} (hy : plainName y.cls = true) (hav : (lg_sl av).length ≤ mL)
    (body : ∀ (p : Program) (e : Env) (s : State) (m : MethodId) (args : Array Value) (below : List Frame) (meth : Method) (c : Code) (Q : State → Prop) (A : Nat → Prop), FX p s m args c D A cy mL y.cls tys → (∀ (w1 : va_W) (pc : Nat) (lv : List (Nat × Value)), post w1 → decode cy pc = .ok (.return_, 1) → WW p l e rm s m args below meth c Q D A mL 0 0 w1 pc lv []) → WW p l e rm s m args below meth c Q D A mL 0 0 w 0 (lv_args 0 av) []) :
    MtV l y cy mL rm D tys av w post := by
  intro sz
  refine Met.ofW (cc := cy) (maxL := mL) (ret := none) hy rfl ?_
  intro p e s m args below meth c s₁ B hml hv
  obtain ⟨rfl, hsz, hP, hK, hD0⟩ := hv
  have hx := B.exec
  have hb := B.bytes
  have hr := B.returns
  have hts := atoms_spec (ws := ws_ y cy mL none) B.pre
  have hts : ∀ w ∈ lw_all, w.before _ s = true := fun w h => hts w (List.mem_cons_of_mem _ h)
  have hown : s.vm.findClass y.cls = some m.cls := findClass_of_methodNamed B.named
  have hlocks := B.notSynchronized
  subst hsz
  have hD := hD0.self (sz := s.heap.size)
  have hl := lv_entry av (n := mL) hav
  rw [lg_entry_eq]
  refine body p e s m _ below meth c _ (va_A w s.heap.size) ⟨hx, hb, hml, hown, hts, hK, fun q h => Or.inr h⟩ ?_ s.heap [] _ hP hD va_S.rf hl
  intro w1 pc lv hpost hdg H locs ls hP1 hD1 hS1 hl1
  exact W.vret hx hb hr (fun t ht hW => ⟨⟨w1, rfl, hpost, by rw [ht]; exact hP1, hD1⟩, hS1.F ht⟩) hS1.2.2 hdg hlocks
theorem MtC.of {l : Launch} {y : MethodName} {cy : ByteArray} {mL : Nat} {rm : Room} {D : va_G} {tys : List (ClassId × FieldType)} {av : List Value} {w : va_W} {mc ms : Nat} {post : va_W → List (ClassId × FieldType) → Prop} (hy : plainName y.cls = true) (hin : y.name = "<init>") (hav : (lg_sl av).length ≤ mL)
    (body : ∀ (p : Program) (e : Env) (s : State) (m : MethodId) (args : Array Value) (below : List Frame) (meth : Method) (c : Code) (Q : State → Prop) (A : Nat → Prop), meth.name = "<init>" → FX p s m args c D A cy mL y.cls tys → (∀ (w1 : va_W) (tys1 : List (ClassId × FieldType)) (pc : Nat) (lv : List (Nat × Value)), post w1 tys1 → FX p s m args c D A cy mL y.cls tys1 → decode cy pc = .ok (.return_, 1) → WW p l e rm s m args below meth c Q D A mL mc ms w1 pc lv []) → WW p l e rm s m args below meth c Q D A mL 0 0 w 0 (lv_args 0 av) []) :
    MtC l y cy mL rm D tys av w mc ms post := by
  intro sz
  refine Met.ofW (cc := cy) (maxL := mL) (ret := none) hy rfl ?_
  intro p e s m args below meth c s₁ B hml hv
  obtain ⟨rfl, hsz, hP, hK, hD0⟩ := hv
  have hx := B.exec
  have hb := B.bytes
  have hr := B.returns
  have hts := atoms_spec (ws := ws_ y cy mL none) B.pre
  have hts : ∀ w ∈ lw_all, w.before _ s = true := fun w h => hts w (List.mem_cons_of_mem _ h)
  have hown : s.vm.findClass y.cls = some m.cls := findClass_of_methodNamed B.named
  have hlocks := B.notSynchronized
  have hini : meth.name = "<init>" := by rw [← hin]; exact (name_of_methodNamed B.named B.method).1
  subst hsz
  have hD := hD0.self (sz := s.heap.size)
  have hl := lv_entry av (n := mL) hav
  rw [lg_entry_eq]
  refine body p e s m _ below meth c _ (va_A w s.heap.size) hini ⟨hx, hb, hml, hown, hts, hK, fun q h => Or.inr h⟩ ?_ s.heap [] _ hP hD va_S.rf hl
  intro w1 tys1 pc lv hpost hF1 hdg H locs ls hP1 hD1 hS1 hl1
  exact W.vret hx hb hr (fun t ht hW => ⟨⟨(w1, tys1), rfl, hpost, by rw [ht]; exact hP1, va_K.moved hW.alike hF1.2.2.2.2.2.1, hD1⟩, hS1.F ht⟩) hS1.2.2 hdg hlocks
section
variable {p : Program} {l : Launch} {e : Env} {R : Room} {s : State} {m : MethodId} {args : Array Value} {below : List Frame} {meth : Method} {c : Code} {Q : State → Prop} {D : va_G} {A : Nat → Prop} {nL ce sl : Nat} {w wc wr : va_W} {pc : Nat} {lv lv' : List (Nat × Value)} {st0 rest As : List Value} {cc : ByteArray} {own C : String} {tys tys' : List (ClassId × FieldType)} {y : MethodName} {cy : ByteArray} {mL idx b ci q0 : Nat} {rt : FieldType} {rm : Room} {T : u_T} {N : Nat} {fs : List Value}
/-- a call of a method of the whole picture's own object: nothing is beside it -/
theorem x_calli (hF : FX p s m args c D A cc nL own tys) {post : Int32 → va_W → Prop} (hM : MtI l y cy mL rt rm D tys (.ref b :: As) w post) (n : Nat) (hG : GoodIn lw_all (wsV own idx C y (ws_ y cy mL (some rt)))) (hrc : rm.cells = 0) (hrs : rm.slots = 0) (hdd : y.cls = C ∧ y.cls ≠ "java/lang/invoke/MethodHandle" ∧ y.cls ≠ "java/lang/invoke/VarHandle" ∧ (parseMethodDescriptor y.desc).map (fun d => d.parameters.length) = some n) (hR : rm.frames + 1 ≤ R.frames ∧ 8 + (mL + 11) + rm.locals ≤ R.locals) (he : w[q0]? = some (b, .inr (ci, fs))) (hc : vwCl[ci]? = some (C, T, N)) (hn : As.length = n) (hst : st0 = As.reverse ++ .ref b :: rest) (hro : (rest.map fun v => v.category).sum ≤ 8) (hd : decode cc pc = .ok (.invokevirtual idx, 3)) (hcs : ce ≤ R.cells ∧ sl ≤ R.slots)
    (kk : ∀ (r : Int32) (w1 : va_W), post r w1 → WW p l e R s m args below meth c Q D A nL ce sl w1 (pc + 3) lv (.int r :: rest)) : WW p l e R s m args below meth c Q D A nL ce sl w pc lv st0 := by
  intro H locs ls hP hD hS hL
  have hK := hF.2.2.2.2.2.1
  have hFc : ∀ q, va_A w H.size q → A q := by
    intro q h
    rcases h with ⟨k, e', h⟩ | h
    · exact hD.2 k _ h
    · exact hF.2.2.2.2.2.2 q (Nat.le_trans hS.1 h)
  refine va_calli (A1 := va_A w H.size) (va_runV (As := As) (rest := rest) (b := b) ⟨hF.1, hF.2.1, hF.2.2.1, hF.2.2.2.1, hF.2.2.2.2.1⟩ (hM H.size) (cwV n hF.2.2.2.2.1 hG rfl hrc hrs hdd hR) ⟨fun a U g mk q => by obtain ⟨q0, q1, qP, qK, qD⟩ := q; exact ⟨q0, q1, qP, va_K.moved (u := U) (U := U.calling g mk a) (Vm.Alike.refl U.vm) qK, qD⟩, va_recv hK hP hc he, fun U hU hW => ⟨rfl, by rw [hU], by rw [hU]; exact hP, va_K.moved hW.alike hK, hD.weaken (fun _ _ _ _ => trivial)⟩⟩ rfl hn hL.1 hst (lv_room hro) hd hcs) hS (fun q _ h => hFc q h) hFc (fun r u t H1 locs1 ht hvm hw1 hB hz1 hk1 hS1 => ?_)
  obtain ⟨hP1, hD1⟩ := hB
  rw [ht] at hP1
  exact kk r u hw1 H1 locs1 ls hP1 (hD1.weaken (fun _ q _ h => hFc q.1 h)) hS1 hL
theorem x_callv (hF : FX p s m args c D A cc nL own tys) {post : va_W → Prop} (hM : MtV l y cy mL rm D tys (.ref b :: As) w post) (n : Nat) (hG : GoodIn lw_all (wsV own idx C y (ws_ y cy mL none))) (hrc : rm.cells = 0) (hrs : rm.slots = 0) (hdd : y.cls = C ∧ y.cls ≠ "java/lang/invoke/MethodHandle" ∧ y.cls ≠ "java/lang/invoke/VarHandle" ∧ (parseMethodDescriptor y.desc).map (fun d => d.parameters.length) = some n) (hR : rm.frames + 1 ≤ R.frames ∧ 8 + (mL + 11) + rm.locals ≤ R.locals) (he : w[q0]? = some (b, .inr (ci, fs))) (hc : vwCl[ci]? = some (C, T, N)) (hn : As.length = n) (hst : st0 = As.reverse ++ .ref b :: rest) (hro : (rest.map fun v => v.category).sum ≤ 8) (hd : decode cc pc = .ok (.invokevirtual idx, 3)) (hcs : ce ≤ R.cells ∧ sl ≤ R.slots)
    (kk : ∀ (w1 : va_W), post w1 → WW p l e R s m args below meth c Q D A nL ce sl w1 (pc + 3) lv rest) : WW p l e R s m args below meth c Q D A nL ce sl w pc lv st0 := by
  intro H locs ls hP hD hS hL
  have hK := hF.2.2.2.2.2.1
  have hFc : ∀ q, va_A w H.size q → A q := by
    intro q h
    rcases h with ⟨k, e', h⟩ | h
    · exact hD.2 k _ h
    · exact hF.2.2.2.2.2.2 q (Nat.le_trans hS.1 h)
  refine va_callv (A1 := va_A w H.size) (va_runV (As := As) (rest := rest) (b := b) ⟨hF.1, hF.2.1, hF.2.2.1, hF.2.2.2.1, hF.2.2.2.2.1⟩ (hM H.size) (cwV n hF.2.2.2.2.1 hG rfl hrc hrs hdd hR) ⟨fun a U g mk q => by obtain ⟨q0, q1, qP, qK, qD⟩ := q; exact ⟨q0, q1, qP, va_K.moved (u := U) (U := U.calling g mk a) (Vm.Alike.refl U.vm) qK, qD⟩, va_recv hK hP hc he, fun U hU hW => ⟨rfl, by rw [hU], by rw [hU]; exact hP, va_K.moved hW.alike hK, hD.weaken (fun _ _ _ _ => trivial)⟩⟩ rfl hn hL.1 hst (lv_room hro) hd hcs) hS (fun q _ h => hFc q h) hFc (fun u t H1 locs1 ht hvm hw1 hB hz1 hk1 hS1 => ?_)
  obtain ⟨hP1, hD1⟩ := hB
  rw [ht] at hP1
  exact kk u hw1 H1 locs1 ls hP1 (hD1.weaken (fun _ q _ h => hFc q.1 h)) hS1 hL
/-- a call of an object's method, the cells isR are beside it and stay -/
theorem x_callF (hF : FX p s m args c D A cc nL own tys) {post : Int32 → va_W → Prop} (hM : MtI l y cy mL rt rm D tys' (.ref b :: As) wc post) (n : Nat) (hG : GoodIn lw_all (wsV own idx C y (ws_ y cy mL (some rt)))) (hrc : rm.cells = 0) (hrs : rm.slots = 0) (hdd : y.cls = C ∧ y.cls ≠ "java/lang/invoke/MethodHandle" ∧ y.cls ≠ "java/lang/invoke/VarHandle" ∧ (parseMethodDescriptor y.desc).map (fun d => d.parameters.length) = some n) (hR : rm.frames + 1 ≤ R.frames ∧ 8 + (mL + 11) + rm.locals ≤ R.locals) (isC isR isT : List Nat) (hCf : isC.filterMap (fun i => w[i]?) = wc) (hCm : isC.map (fun i => w[i]?) = wc.map some) (hCn : va_nd isC = true) (hRm : isR.map (fun i => w[i]?) = wr.map some) (hRn : va_nd isR = true) (hdis : ∀ i ∈ isR, i ∉ isC) (hT : isT.filterMap (fun i => tys[i]?) = tys') (he : wc[q0]? = some (b, .inr (ci, fs))) (hc : vwCl[ci]? = some (C, T, N)) (hn : As.length = n) (hst : st0 = As.reverse ++ .ref b :: rest) (hro : (rest.map fun v => v.category).sum ≤ 8) (hd : decode cc pc = .ok (.invokevirtual idx, 3)) (hcs : ce ≤ R.cells ∧ sl ≤ R.slots)
    (kk : ∀ (r : Int32) (w1 : va_W), post r w1 → WW p l e R s m args below meth c Q D A nL ce sl (wr ++ w1) (pc + 3) lv (.int r :: rest)) : WW p l e R s m args below meth c Q D A nL ce sl w pc lv st0 := by
  intro H locs ls hP hD hS hL
  have hK := hF.2.2.2.2.2.1
  have hPc := hP.sub (ws' := wc) isC hCf
  have hDc := hD.sub (ws' := wc) isC hCn hCm
  have hKc := hK.sub (tys' := tys') isT hT
  have hFc := va_free (wc := wc) hD hS hF.2.2.2.2.2.2 isC hCm
  refine va_calli (A1 := va_A wc H.size) (va_runV (As := As) (rest := rest) (b := b) ⟨hF.1, hF.2.1, hF.2.2.1, hF.2.2.2.1, hF.2.2.2.2.1⟩ (hM H.size) (cwV n hF.2.2.2.2.1 hG rfl hrc hrs hdd hR) ⟨fun a U g mk q => by obtain ⟨q0, q1, qP, qK, qD⟩ := q; exact ⟨q0, q1, qP, va_K.moved (u := U) (U := U.calling g mk a) (Vm.Alike.refl U.vm) qK, qD⟩, va_recv hKc hPc hc he, fun U hU hW => ⟨rfl, by rw [hU], by rw [hU]; exact hPc, va_K.moved hW.alike hKc, hDc.weaken (fun _ _ _ _ => trivial)⟩⟩ rfl hn hL.1 hst (lv_room hro) hd hcs) hS (fun q _ h => hFc q h) hFc (fun r u t H1 locs1 ht hvm hw1 hB hz1 hk1 hS1 => ?_)
  obtain ⟨hP1, hD1⟩ := hB
  rw [ht] at hP1
  obtain ⟨hP2, hD2⟩ := va_join (wr := wr) (w1 := u) hP hD isC isR hCm hRm hRn hdis hk1 hFc hP1 hD1
  exact kk r u hw1 H1 locs1 ls hP2 hD2 hS1 hL
/-- a constructor's call: the new object is the last cell of w -/
theorem x_callC (hF : FX p s m args c D A cc nL own tys) {mc ms : Nat} {post : va_W → List (ClassId × FieldType) → Prop} (hM : MtC l y cy mL rm D [] (.ref b :: As) wc mc ms post) (n : Nat) (hcode : Cond.code y cy mL none ∈ lw_all) (hini : Cond.initialized y.cls ∈ lw_all) (hlink : Cond.methodLink own idx y ∈ lw_all) (hinst : Cond.instanceMethod y ∈ lw_all) (hy : y.name = "<init>") (hrc : rm.cells = mc) (hrs : rm.slots = ms) (hdd : y.cls ≠ "java/lang/invoke/MethodHandle" ∧ y.cls ≠ "java/lang/invoke/VarHandle" ∧ (parseMethodDescriptor y.desc).map (fun d => d.parameters.length) = some n) (hR : rm.frames + 1 ≤ R.frames ∧ 8 + (mL + 11) + rm.locals ≤ R.locals) (isC isR : List Nat) (hCf : isC.filterMap (fun i => w[i]?) = wc) (hCm : isC.map (fun i => w[i]?) = wc.map some) (hCn : va_nd isC = true) (hRm : isR.map (fun i => w[i]?) = wr.map some) (hRn : va_nd isR = true) (hdis : ∀ i ∈ isR, i ∉ isC) (hn : As.length = n) (hst : st0 = As.reverse ++ .ref b :: rest) (hro : (rest.map fun v => v.category).sum ≤ 8) (hd : decode cc pc = .ok (.invokespecial idx, 3)) (hcs : ce + mc ≤ R.cells ∧ sl + ms ≤ R.slots)
    (kk : ∀ (w1 : va_W) (tys1 : List (ClassId × FieldType)), post w1 tys1 → FX p s m args c D A cc nL own (tys ++ tys1) → WW p l e R s m args below meth c Q D A nL (ce + mc) (sl + ms) (wr ++ w1) (pc + 3) lv rest) : WW p l e R s m args below meth c Q D A nL ce sl w pc lv st0 := by
  intro H locs ls hP hD hS hL
  have hK := hF.2.2.2.2.2.1
  have hPc := hP.sub (ws' := wc) isC hCf
  have hDc := hD.sub (ws' := wc) isC hCn hCm
  have hKc := hK.sub (tys' := []) [] rfl
  have hFc := va_free (wc := wc) hD hS hF.2.2.2.2.2.2 isC hCm
  refine va_callv (A1 := va_A wc H.size) (va_runI (As := As) (rest := rest) (b := b) ⟨hF.1, hF.2.1, hF.2.2.1, hF.2.2.2.1, hF.2.2.2.2.1⟩ (hM H.size) (cwI n hF.2.2.2.2.1 (lw_meth hcode) rfl hrc hrs (hF.2.2.2.2.1 _ hini) (hF.2.2.2.2.1 _ hlink) (hF.2.2.2.2.1 _ hinst) hy hdd hR) ⟨fun a U g mk q => by obtain ⟨q0, q1, qP, qK, qD⟩ := q; exact ⟨q0, q1, qP, va_K.moved (u := U) (U := U.calling g mk a) (Vm.Alike.refl U.vm) qK, qD⟩, fun U hU hW => ⟨rfl, by rw [hU], by rw [hU]; exact hPc, va_K.moved hW.alike hKc, hDc.weaken (fun _ _ _ _ => trivial)⟩⟩ rfl hn hL.1 hst (lv_room hro) hd hcs) hS (fun q _ h => hFc q h) hFc (fun u t H1 locs1 ht hvm hw1 hB hz1 hk1 hS1 => ?_)
  obtain ⟨hP1, hK1, hD1⟩ := hB
  rw [ht] at hP1
  have hK1 := va_K.moved hvm.symm hK1
  obtain ⟨hP2, hD2⟩ := va_join (wr := wr) (w1 := u.1) hP hD isC isR hCm hRm hRn hdis hk1 hFc hP1 hD1
  exact kk u.1 u.2 hw1 ⟨hF.1, hF.2.1, hF.2.2.1, hF.2.2.2.1, hF.2.2.2.2.1, hK.app hK1, hF.2.2.2.2.2.2⟩ H1 locs1 ls hP2 hD2 hS1 hL
end
end
section
/-! constants and bits -/
theorem kc_i0 : Int32.ofInt 0 = nI 0 := by decide +kernel
theorem kc_i1 : Int32.ofInt 1 = nI 1 := by decide +kernel
theorem kc_i2 : Int32.ofInt 2 = nI 2 := by decide +kernel
theorem kc_i3 : Int32.ofInt 3 = nI 3 := by decide +kernel
theorem kc_i4 : Int32.ofInt 4 = nI 4 := by decide +kernel
theorem kc_im1 : Int32.ofInt (-1) = -1 := by decide +kernel
theorem kc_b7 : (Int8.ofInt 7).toInt32 = nI 7 := by decide +kernel
theorem kc_b8 : (Int8.ofInt 8).toInt32 = nI 8 := by decide +kernel
theorem kc_b15 : (Int8.ofInt 15).toInt32 = nI 15 := by decide +kernel
theorem kc_b49 : (Int8.ofInt 49).toInt32 = nI 49 := by decide +kernel
theorem kc_b60 : (Int8.ofInt 60).toInt32 = nI 60 := by decide +kernel
theorem kc_bm60 : (Int8.ofInt (-60)).toInt32 = (-60) := by decide +kernel
theorem kc_s10000 : (Int16.ofInt 10000).toInt32 = nI 10000 := by decide +kernel
theorem kc_s5040 : (Int16.ofInt 5040).toInt32 = nI 5040 := by decide +kernel
theorem bt_sm : ∀ n, n < 32 → ((nI n &&& 31).toBitVec.smod 32).toNat = n := by decide +kernel
theorem bt_shl {y : Nat} (h : y < 31) : nI 1 <<< (nI y &&& 31) = nI (2 ^ y) := by
  have h2 : 2 ^ y < 2 ^ 32 := Nat.pow_lt_pow_right (by decide) (by omega)
  have := pk_shlN (n := 1) (nI y &&& 31) y (bt_sm y (by omega)) (by omega)
  rw [this, Nat.one_mul]
theorem bt_shr {a y : Nat} (ha : a < 2147483648) (h : y < 31) : nI a >>> (nI y &&& 31) = nI (a / 2 ^ y) :=
  pk_shrN ha (nI y &&& 31) y (bt_sm y (by omega))
theorem bt_and1 {a : Nat} (ha : a < 2147483648) : nI a &&& nI 1 = nI (a % 2) :=
  pk_andN (n := a) (by omega) (m := nI 1) 1 (by decide +kernel)
theorem bt_or (a b : Nat) : nI a ||| nI b = nI (a ||| b) := by
  apply Int32.toBitVec_inj.1
  show BitVec.ofNat 32 a ||| BitVec.ofNat 32 b = BitVec.ofNat 32 (a ||| b)
  apply BitVec.eq_of_getLsbD_eq
  intro i hi
  simp [hi]
/-- the set a without v -/
def clr (a v : Nat) : Nat := if a.testBit v then a - 2 ^ v else a
theorem bt_clr0 : ∀ a, a < 128 → ∀ v, v < 7 → nI a &&& (nI (2 ^ v) ^^^ -1) = nI (clr a v) := by decide +kernel
theorem bt_clr {a v : Nat} (ha : a < 128) (hv : v < 7) : nI a &&& (nI (2 ^ v) ^^^ -1) = nI (clr a v) := bt_clr0 a ha v hv
theorem clr_lt0 : ∀ a, a < 128 → ∀ v, v < 7 → clr a v < 128 := by decide +kernel
theorem clr_tb0 : ∀ a, a < 128 → ∀ v, v < 7 → ∀ x, x < 7 → (clr a v).testBit x = (a.testBit x && !(x == v)) := by decide +kernel
theorem clr_lt {a v : Nat} (ha : a < 128) (hv : v < 7) : clr a v < 128 := clr_lt0 a ha v hv
theorem clr_tb {a v x : Nat} (ha : a < 128) (hv : v < 7) (hx : x < 7) : (clr a v).testBit x = (a.testBit x && !(x == v)) := clr_tb0 a ha v hv x hx
theorem or_lt0 : ∀ a, a < 128 → ∀ v, v < 7 → a ||| 2 ^ v < 128 := by decide +kernel
theorem tb_div (a v : Nat) : a / 2 ^ v % 2 = 0 ↔ a.testBit v = false := by
  rw [Nat.testBit_eq_decide_div_mod_eq]
  simp
theorem tb_div1 (a v : Nat) : ¬ a / 2 ^ v % 2 = 0 ↔ a.testBit v = true := by
  rw [tb_div]
  simp
theorem tb_mod2 (a : Nat) : a % 2 < 2147483648 := by omega
theorem pw7 {v : Nat} (h : v < 7) : 2 ^ v < 128 := Nat.pow_lt_pow_right (a := 2) (by decide) h
theorem div_lt {a v : Nat} (h : a < 128) : a / 2 ^ v < 2147483648 := Nat.lt_of_le_of_lt (Nat.div_le_self _ _) (by omega)
/-! the two objects' pictures -/
abbrev wX (h : Nat → Nat) (d : Nat → ClassId) (n goal best bc : Nat) (L P pa la nt bp ne : Nat → Nat) : va_W :=
  [(h 0, .inr (0, [.int (nI n), .ref (h 1), .int (nI goal), .ref (h 2), .ref (h 3), .ref (h 4), .ref (h 5), .int (nI best), .int (nI bc), .ref (h 6), .ref (h 7)])),
   (h 1, .inl (d 1, 49, .inl (nA L))), (h 2, .inl (d 2, 49, .inl (nA P))), (h 3, .inl (d 3, 8, .inl (nA pa))), (h 4, .inl (d 4, 8, .inl (nA la))), (h 5, .inl (d 5, 8, .inl (nA nt))), (h 6, .inl (d 6, 8, .inl (nA bp))), (h 7, .inl (d 7, 7, .inl (nA ne)))]
abbrev tX (d : Nat → ClassId) : List (ClassId × FieldType) := [(d 1, .int), (d 2, .int), (d 3, .byte), (d 4, .int), (d 5, .byte), (d 6, .byte), (d 7, .int)]
abbrev wM (h : Nat → Nat) (d : Nat → ClassId) (n tr : Nat) (L T G pt : Nat → Nat) : va_W :=
  [(h 0, .inr (1, [.int (nI n), .ref (h 1), .int (nI tr), .ref (h 2), .ref (h 3), .ref (h 4)])),
   (h 1, .inl (d 1, 49, .inl (nA L))), (h 2, .inl (d 2, 5040, .inl (nA T))), (h 3, .inl (d 3, 5040, .inl (nA G))), (h 4, .inl (d 4, 7, .inl (nA pt)))]
abbrev tM (d : Nat → ClassId) : List (ClassId × FieldType) := [(d 1, .int), (d 2, .int), (d 3, .int), (d 4, .int)]
/-- the rooms: k frames below, their locals -/
abbrev rmr (k s : Nat) : Room := { frames := k, cells := 0, slots := 0, locals := s }
/-- u is a town -/
def twn (n : Nat) (u : Int32) : Prop := ∃ k : Nat, k < n ∧ u = nI k
def cpl (n : Nat) (u v : Int32) : Prop := twn n u ∧ twn n v ∧ ¬ u = v
theorem twn_iff {n : Nat} {u : Int32} (hn : n ≤ 7) : twn n u ↔ ¬ u < 0 ∧ ¬ nI n ≤ u := by
  constructor
  · rintro ⟨k, hk, rfl⟩
    exact ⟨nI_pos (by omega), fun q => by rw [nI_leI (by omega) (by omega)] at q; omega⟩
  · rintro ⟨h1, h2⟩
    rcases pk_ix u (n := n) (by omega) with q | q | q
    · exact absurd q h1
    · exact absurd q h2
    · obtain ⟨j, hj, e⟩ := q
      exact ⟨j, hj, e⟩
def up2 (L : Nat → Nat) (a b v : Nat) : Nat → Nat := va_up (va_up L (7 * a + b) v) (7 * b + a) v
end
section
/-! PURE: counting, nets (Prim), the parts that short pairs leave -/
/-- how many j < N have P -/
noncomputable def ctn (P : Nat → Prop) : Nat → Nat
  | 0 => 0
  | N + 1 => ctn P N + @ite Nat (P N) (Classical.propDecidable _) 1 0
theorem ctn_t {P : Nat → Prop} {N : Nat} (h : P N) : ctn P (N + 1) = ctn P N + 1 := by
  show ctn P N + @ite Nat (P N) (Classical.propDecidable _) 1 0 = _
  rw [if_pos h]
theorem ctn_f {P : Nat → Prop} {N : Nat} (h : ¬ P N) : ctn P (N + 1) = ctn P N := by
  show ctn P N + @ite Nat (P N) (Classical.propDecidable _) 1 0 = _
  rw [if_neg h]; rfl
theorem ctn_mono {P R : Nat → Prop} : ∀ {N : Nat}, (∀ x, x < N → P x → R x) → ctn P N ≤ ctn R N
  | 0, _ => Nat.le_refl _
  | N + 1, h => by
    have ih := ctn_mono (N := N) (fun x hx => h x (by omega))
    by_cases hp : P N
    · rw [ctn_t hp, ctn_t (h N (by omega) hp)]; omega
    · rw [ctn_f hp]
      by_cases hr : R N
      · rw [ctn_t hr]; omega
      · rw [ctn_f hr]; exact ih
theorem ctn_congr {P R : Nat → Prop} {N : Nat} (h : ∀ x, x < N → (P x ↔ R x)) : ctn P N = ctn R N :=
  Nat.le_antisymm (ctn_mono (fun x hx q => (h x hx).mp q)) (ctn_mono (fun x hx q => (h x hx).mpr q))
theorem ctn_le (P : Nat → Prop) : ∀ N, ctn P N ≤ N
  | 0 => Nat.le_refl _
  | N + 1 => by
    have ih := ctn_le P N
    by_cases hp : P N
    · rw [ctn_t hp]; omega
    · rw [ctn_f hp]; omega
theorem ctn_full {P : Nat → Prop} : ∀ {N : Nat}, (∀ x, x < N → P x) → ctn P N = N
  | 0, _ => rfl
  | N + 1, h => by rw [ctn_t (h N (by omega)), ctn_full (fun x hx => h x (by omega))]
theorem ctn_none {P : Nat → Prop} : ∀ {N : Nat}, (∀ x, x < N → ¬ P x) → ctn P N = 0
  | 0, _ => rfl
  | N + 1, h => by rw [ctn_f (h N (by omega)), ctn_none (fun x hx => h x (by omega))]
theorem ctn_zero {P : Nat → Prop} : ∀ {N : Nat}, ctn P N = 0 → ∀ x, x < N → ¬ P x
  | 0, _, x, hx => by omega
  | N + 1, h, x, hx => by
    by_cases hp : P N
    · rw [ctn_t hp] at h; omega
    · rw [ctn_f hp] at h
      by_cases e : x = N
      · rw [e]; exact hp
      · exact ctn_zero h x (by omega)
theorem ctn_del {P : Nat → Prop} {a : Nat} : ∀ {N : Nat}, a < N → P a → ctn P N = ctn (fun j => P j ∧ ¬ j = a) N + 1
  | 0, h, _ => by omega
  | N + 1, h, ha => by
    by_cases e : a = N
    · subst e
      rw [ctn_t ha, ctn_f (fun q => q.2 rfl)]
      rw [ctn_congr (P := P) (R := fun j => P j ∧ ¬ j = a) (N := a) (fun x hx => ⟨fun q => ⟨q, by omega⟩, fun q => q.1⟩)]
    · have ih := ctn_del (P := P) (a := a) (N := N) (by omega) ha
      by_cases hp : P N
      · rw [ctn_t hp, ctn_t (P := fun j => P j ∧ ¬ j = a) ⟨hp, by omega⟩, ih]
      · rw [ctn_f hp, ctn_f (P := fun j => P j ∧ ¬ j = a) (fun q => hp q.1), ih]
theorem ctn_lt {P R : Nat → Prop} {N y : Nat} (h : ∀ x, x < N → P x → R x) (hy : y < N) (h1 : ¬ P y) (h2 : R y) : ctn P N < ctn R N := by
  rw [ctn_del hy h2]
  refine Nat.lt_succ_of_le (ctn_mono (fun x hx q => ⟨h x hx q, fun e => ?_⟩))
  rw [e] at q
  exact h1 q
/-- the number of different values below N in a list -/
noncomputable def dis (N : Nat) (ls : List Nat) : Nat := ctn (fun j => j ∈ ls) N
theorem dis_in {N a : Nat} {ls : List Nat} (h : a ∈ ls) : dis N (a :: ls) = dis N ls :=
  ctn_congr (fun x _ => ⟨fun q => by
    rcases List.mem_cons.mp q with e | e
    · rw [e]; exact h
    · exact e, fun q => List.mem_cons_of_mem _ q⟩)
theorem dis_out {N a : Nat} {ls : List Nat} (ha : a < N) (h : ¬ a ∈ ls) : dis N (a :: ls) = dis N ls + 1 := by
  unfold dis
  rw [ctn_del (P := fun j => j ∈ a :: ls) ha List.mem_cons_self]
  congr 1
  exact ctn_congr (fun x _ => ⟨fun q => by
    rcases List.mem_cons.mp q.1 with e | e
    · exact absurd e q.2
    · exact e, fun q => ⟨List.mem_cons_of_mem _ q, fun e => h (by rw [← e]; exact q)⟩⟩)
theorem dis_le1 {N a : Nat} {ls : List Nat} : dis N (a :: ls) ≤ dis N ls + 1 := by
  by_cases h : a ∈ ls
  · rw [dis_in h]; omega
  · by_cases ha : a < N
    · rw [dis_out ha h]; omega
    · have : dis N (a :: ls) = dis N ls := ctn_congr (fun x hx => ⟨fun q => by
        rcases List.mem_cons.mp q with e | e
        · omega
        · exact e, fun q => List.mem_cons_of_mem _ q⟩)
      omega
-- sums over thresholds
def sumK (g : Nat → Nat) : Nat → Nat
  | 0 => 0
  | K + 1 => sumK g K + g K
theorem sumK_le {f g : Nat → Nat} : ∀ {K : Nat}, (∀ k, k < K → f k ≤ g k) → sumK f K ≤ sumK g K
  | 0, _ => Nat.le_refl _
  | K + 1, h => Nat.add_le_add (sumK_le (fun k hk => h k (by omega))) (h K (by omega))
theorem sumK_congr {f g : Nat → Nat} : ∀ {K : Nat}, (∀ k, k < K → f k = g k) → sumK f K = sumK g K
  | 0, _ => rfl
  | K + 1, h => by
    show sumK f K + f K = sumK g K + g K
    rw [sumK_congr (fun k hk => h k (by omega)), h K (by omega)]
theorem sumK_add {f g : Nat → Nat} : ∀ {K : Nat}, sumK (fun k => f k + g k) K = sumK f K + sumK g K
  | 0 => rfl
  | K + 1 => by
    show sumK (fun k => f k + g k) K + (f K + g K) = (sumK f K + f K) + (sumK g K + g K)
    rw [sumK_add]; omega
theorem sumK_zero : ∀ {K : Nat}, sumK (fun _ => 0) K = 0
  | 0 => rfl
  | K + 1 => by
    show sumK (fun _ => 0) K + 0 = 0
    rw [sumK_zero]
theorem sumK_ind (e : Nat) : ∀ K, sumK (fun k => if k < e then 1 else 0) K = min e K
  | 0 => by simp [sumK]
  | K + 1 => by
    show sumK (fun k => if k < e then 1 else 0) K + (if K < e then 1 else 0) = _
    rw [sumK_ind e K]
    by_cases h : K < e
    · rw [if_pos h]; omega
    · rw [if_neg h]; omega
-- nets grown by the nearest town: (town, its way), the last one first
def vis (s0 : Nat) (l : List (Nat × Nat)) : List Nat := l.map (fun q => q.1) ++ [s0]
def PR (w : Nat → Nat → Nat) (S : Nat → Prop) (s0 : Nat) : List (Nat × Nat) → Prop
  | [] => S s0
  | q :: l => PR w S s0 l ∧ S q.1 ∧ ¬ q.1 ∈ vis s0 l ∧ (∃ x, x ∈ vis s0 l ∧ w x q.1 = q.2) ∧ ∀ x, x ∈ vis s0 l → ∀ z, S z → ¬ z ∈ vis s0 l → q.2 ≤ w x z
def esum : List (Nat × Nat) → Nat
  | [] => 0
  | q :: l => q.2 + esum l
def emax : List (Nat × Nat) → Nat
  | [] => 0
  | q :: l => max q.2 (emax l)
def cnt (k : Nat) : List (Nat × Nat) → Nat
  | [] => 0
  | q :: l => (if k < q.2 then 1 else 0) + cnt k l
def lbl (k : Nat) : List (Nat × Nat) → Nat → Nat
  | [], _ => 0
  | q :: l, x => if x = q.1 then cnt k (q :: l) else lbl k l x
theorem vis_S {w : Nat → Nat → Nat} {S : Nat → Prop} {s0 : Nat} : ∀ {l : List (Nat × Nat)}, PR w S s0 l → ∀ x, x ∈ vis s0 l → S x
  | [], h, x, hx => by
    have : x = s0 := by simpa [vis] using hx
    rw [this]; exact h
  | q :: l, h, x, hx => by
    rcases List.mem_cons.mp (show x ∈ q.1 :: vis s0 l from hx) with e | e
    · rw [e]; exact h.2.1
    · exact vis_S h.1 x e
theorem lbl_le (k : Nat) : ∀ (l : List (Nat × Nat)) (x : Nat), lbl k l x ≤ cnt k l
  | [], _ => Nat.le_refl _
  | q :: l, x => by
    show (if x = q.1 then cnt k (q :: l) else lbl k l x) ≤ _
    by_cases h : x = q.1
    · rw [if_pos h]; omega
    · rw [if_neg h]
      have := lbl_le k l x
      show _ ≤ (if k < q.2 then 1 else 0) + cnt k l
      omega
theorem lbl_far {w : Nat → Nat → Nat} {S : Nat → Prop} {s0 k : Nat} : ∀ {l : List (Nat × Nat)}, PR w S s0 l → ∀ x, x ∈ vis s0 l → ∀ z, S z → ¬ z ∈ vis s0 l → lbl k l x < cnt k l → k < w x z
  | [], _, _, _, _, _, _, h => by
    have : (0 : Nat) < 0 := h
    omega
  | q :: l, h, x, hx, z, hz, hzn, hl => by
    have hzl : ¬ z ∈ vis s0 l := fun q9 => hzn (List.mem_cons_of_mem _ q9)
    have hl : (if x = q.1 then cnt k (q :: l) else lbl k l x) < cnt k (q :: l) := hl
    by_cases e : x = q.1
    · rw [if_pos e] at hl; omega
    · rw [if_neg e] at hl
      have hxl : x ∈ vis s0 l := by
        rcases List.mem_cons.mp (show x ∈ q.1 :: vis s0 l from hx) with e2 | e2
        · exact absurd e2 e
        · exact e2
      by_cases hk : k < q.2
      · exact Nat.lt_of_lt_of_le hk (h.2.2.2.2 x hxl z hz hzl)
      · have : cnt k (q :: l) = cnt k l := by
          show (if k < q.2 then 1 else 0) + cnt k l = _
          rw [if_neg hk]; omega
        rw [this] at hl
        exact lbl_far h.1 x hxl z hz hzl hl
theorem lbl_same {w : Nat → Nat → Nat} {S : Nat → Prop} {s0 k : Nat} (hw : ∀ x y, S x → S y → w x y = w y x) : ∀ {l : List (Nat × Nat)}, PR w S s0 l → ∀ x y, x ∈ vis s0 l → y ∈ vis s0 l → w x y ≤ k → lbl k l x = lbl k l y
  | [], _, _, _, _, _, _ => rfl
  | q :: l, h, x, y, hx, hy, hxy => by
    have key : ∀ z, z ∈ vis s0 l → w z q.1 ≤ k → lbl k l z = cnt k (q :: l) := by
      intro z hz hzk
      have h1 : q.2 ≤ w z q.1 := h.2.2.2.2 z hz q.1 h.2.1 h.2.2.1
      have h2 : cnt k (q :: l) = cnt k l := by
        show (if k < q.2 then 1 else 0) + cnt k l = _
        rw [if_neg (by omega)]; omega
      rw [h2]
      rcases Nat.lt_or_ge (lbl k l z) (cnt k l) with q9 | q9
      · have := lbl_far h.1 z hz q.1 h.2.1 h.2.2.1 q9
        omega
      · have := lbl_le k l z
        omega
    show (if x = q.1 then cnt k (q :: l) else lbl k l x) = (if y = q.1 then cnt k (q :: l) else lbl k l y)
    have inl : ∀ z, z ∈ vis s0 (q :: l) → ¬ z = q.1 → z ∈ vis s0 l := by
      intro z hz e
      rcases List.mem_cons.mp (show z ∈ q.1 :: vis s0 l from hz) with e2 | e2
      · exact absurd e2 e
      · exact e2
    by_cases ex : x = q.1
    · rw [if_pos ex]
      by_cases ey : y = q.1
      · rw [if_pos ey]
      · rw [if_neg ey, key y (inl y hy ey)]
        rw [hw y q.1 (vis_S h.1 y (inl y hy ey)) h.2.1, ← ex]
        exact hxy
    · rw [if_neg ex]
      by_cases ey : y = q.1
      · rw [if_pos ey, key x (inl x hx ex)]
        rw [← ey]; exact hxy
      · rw [if_neg ey]
        exact lbl_same hw h.1 x y (inl x hx ex) (inl y hy ey) hxy
theorem lbl_onto {w : Nat → Nat → Nat} {S : Nat → Prop} {s0 k : Nat} : ∀ {l : List (Nat × Nat)}, PR w S s0 l → ∀ j, j ≤ cnt k l → ∃ x, x ∈ vis s0 l ∧ lbl k l x = j
  | [], _, j, hj => ⟨s0, by simp [vis], by
      have : j ≤ 0 := hj
      show 0 = j
      omega⟩
  | q :: l, h, j, hj => by
    by_cases e : j = cnt k (q :: l)
    · exact ⟨q.1, List.mem_cons_self, by
        show (if q.1 = q.1 then cnt k (q :: l) else lbl k l q.1) = j
        rw [if_pos rfl]; exact e.symm⟩
    · have : cnt k (q :: l) ≤ cnt k l + 1 := by
        show (if k < q.2 then 1 else 0) + cnt k l ≤ _
        by_cases hk : k < q.2
        · rw [if_pos hk]; omega
        · rw [if_neg hk]; omega
      obtain ⟨x, hx, ex⟩ := lbl_onto (k := k) h.1 j (by omega)
      refine ⟨x, List.mem_cons_of_mem _ hx, ?_⟩
      show (if x = q.1 then cnt k (q :: l) else lbl k l x) = j
      rw [if_neg (fun e2 => h.2.2.1 (by rw [← e2]; exact hx))]
      exact ex
-- ways through a list of towns
def wsum (w : Nat → Nat → Nat) : List Nat → Nat
  | [] => 0
  | [_] => 0
  | a :: b :: r => w a b + wsum w (b :: r)
def ech (w : Nat → Nat → Nat) (k : Nat) : List Nat → Nat
  | [] => 0
  | [_] => 0
  | a :: b :: r => (if k < w a b then 1 else 0) + ech w k (b :: r)
theorem dis_ech {w : Nat → Nat → Nat} {k N : Nat} {f : Nat → Nat} : ∀ (r : List Nat) (a : Nat), (∀ x y, x ∈ a :: r → y ∈ a :: r → w x y ≤ k → f x = f y) → dis N ((a :: r).map f) ≤ ech w k (a :: r) + 1
  | [], a, _ => by
    have h1 : dis N [f a] ≤ dis N [] + 1 := dis_le1
    have h2 : dis N [] = 0 := ctn_none (fun x _ q => by cases q)
    show dis N [f a] ≤ 0 + 1
    omega
  | b :: r, a, h => by
    have ih := dis_ech (N := N) r b (fun x y hx hy => h x y (List.mem_cons_of_mem _ hx) (List.mem_cons_of_mem _ hy))
    show dis N (f a :: ((b :: r).map f)) ≤ (if k < w a b then 1 else 0) + ech w k (b :: r) + 1
    by_cases hk : k < w a b
    · rw [if_pos hk]
      have := dis_le1 (N := N) (a := f a) (ls := (b :: r).map f)
      omega
    · rw [if_neg hk]
      have e : f a = f b := h a b List.mem_cons_self (List.mem_cons_of_mem _ List.mem_cons_self) (by omega)
      rw [dis_in (by rw [e]; exact List.mem_cons_self)]
      omega
theorem sumK_cnt : ∀ (l : List (Nat × Nat)) (K : Nat), (∀ q, q ∈ l → q.2 ≤ K) → sumK (fun k => cnt k l) K = esum l
  | [], K, _ => sumK_zero
  | q :: l, K, h => by
    show sumK (fun k => (if k < q.2 then 1 else 0) + cnt k l) K = q.2 + esum l
    rw [sumK_add, sumK_ind, sumK_cnt l K (fun x hx => h x (List.mem_cons_of_mem _ hx))]
    have := h q List.mem_cons_self
    omega
theorem sumK_ech (w : Nat → Nat → Nat) (K : Nat) : ∀ (q : List Nat), sumK (fun k => ech w k q) K ≤ wsum w q
  | [] => by
    show sumK (fun _ => 0) K ≤ 0
    rw [sumK_zero]; exact Nat.le_refl _
  | [_] => by
    show sumK (fun _ => 0) K ≤ 0
    rw [sumK_zero]; exact Nat.le_refl _
  | a :: b :: r => by
    show sumK (fun k => (if k < w a b then 1 else 0) + ech w k (b :: r)) K ≤ w a b + wsum w (b :: r)
    rw [sumK_add, sumK_ind]
    have := sumK_ech w K (b :: r)
    omega
theorem le_esum : ∀ {l : List (Nat × Nat)} {q : Nat × Nat}, q ∈ l → q.2 ≤ esum l
  | [], _, h => by cases h
  | p :: l, q, h => by
    show q.2 ≤ p.2 + esum l
    rcases List.mem_cons.mp h with e | e
    · rw [e]; omega
    · have := le_esum e
      omega
/-- a net grown by the nearest town is at most as long as any way through its towns -/
theorem net_le_way {w : Nat → Nat → Nat} {S : Nat → Prop} {s0 : Nat} (hw : ∀ x y, S x → S y → w x y = w y x) {l : List (Nat × Nat)} (h : PR w S s0 l) (q : List Nat) (h1 : ∀ x, x ∈ vis s0 l → x ∈ q) (h2 : ∀ x, x ∈ q → x ∈ vis s0 l) : esum l ≤ wsum w q := by
  have e0 := sumK_cnt l (esum l) (fun x hx => le_esum hx)
  have e9 := sumK_ech w (esum l) q
  have e8 : sumK (fun k => cnt k l) (esum l) ≤ sumK (fun k => ech w k q) (esum l) := by
    refine sumK_le (fun k _ => ?_)
    show cnt k l ≤ ech w k q
    cases q with
    | nil =>
      have : s0 ∈ ([] : List Nat) := h1 s0 (by simp [vis])
      cases this
    | cons a r =>
      have e1 := dis_ech (w := w) (k := k) (N := cnt k l + 1) (f := lbl k l) r a (fun x y hx hy hxy => lbl_same hw h x y (h2 x hx) (h2 y hy) hxy)
      have e2 : dis (cnt k l + 1) ((a :: r).map (lbl k l)) = cnt k l + 1 := by
        refine ctn_full (fun j hj => ?_)
        obtain ⟨x, hx, ex⟩ := lbl_onto (k := k) h j (by omega)
        rw [← ex]
        exact List.mem_map_of_mem (h1 x hx)
      omega
  omega
-- the parts that short pairs leave
theorem pr_parts {w : Nat → Nat → Nat} {n k s0 : Nat} {f : Nat → Nat} (hf : ∀ x, x < n → f x < n) (h1 : ∀ x y, x < n → y < n → w x y ≤ k → f x = f y)
    (h2 : ∀ C : Nat → Prop, (∀ x z, x < n → z < n → C x → ¬ C z → k < w x z) → ∀ x z, x < n → z < n → f x = f z → C x → C z) :
    ∀ {l : List (Nat × Nat)}, PR w (fun x => x < n) s0 l → dis n ((vis s0 l).map f) = cnt k l + 1
  | [], h => by
    show dis n [f s0] = 0 + 1
    rw [dis_out (hf s0 h) (fun q => by cases q)]
    have : dis n [] = 0 := ctn_none (fun x _ q => by cases q)
    omega
  | q :: l, h => by
    have ih := pr_parts hf h1 h2 h.1
    show dis n (f q.1 :: (vis s0 l).map f) = (if k < q.2 then 1 else 0) + cnt k l + 1
    by_cases hk : k < q.2
    · rw [if_pos hk, dis_out (hf q.1 h.2.1), ih]
      · omega
      · intro hm
        obtain ⟨x, hx, ex⟩ := List.mem_map.mp hm
        refine h.2.2.1 (h2 (fun y => y ∈ vis s0 l) (fun x z hx hz cx cz => Nat.lt_of_lt_of_le hk (h.2.2.2.2 x cx z hz cz)) x q.1 (vis_S h.1 x hx) h.2.1 ex hx)
    · obtain ⟨x, hx, ex⟩ := h.2.2.2.1
      rw [if_neg hk, dis_in, ih]
      · omega
      · rw [← h1 x q.1 (vis_S h.1 x hx) h.2.1 (by omega)]
        exact List.mem_map_of_mem hx
theorem dis_same {N : Nat} {a b : List Nat} (h : ∀ x, x ∈ a ↔ x ∈ b) : dis N a = dis N b := ctn_congr (fun x _ => h x)
theorem cnt_zero : ∀ {l : List (Nat × Nat)} {k : Nat}, cnt k l = 0 ↔ emax l ≤ k
  | [], k => ⟨fun _ => Nat.zero_le _, fun _ => rfl⟩
  | q :: l, k => by
    have ih := cnt_zero (l := l) (k := k)
    show (if k < q.2 then 1 else 0) + cnt k l = 0 ↔ max q.2 (emax l) ≤ k
    by_cases hk : k < q.2
    · rw [if_pos hk]; omega
    · rw [if_neg hk]; omega
theorem emax_le : ∀ {l : List (Nat × Nat)} {K : Nat}, (∀ q, q ∈ l → q.2 ≤ K) → emax l ≤ K
  | [], _, _ => Nat.zero_le _
  | q :: l, K, h => by
    have := emax_le (l := l) (K := K) (fun x hx => h x (List.mem_cons_of_mem _ hx))
    have := h q List.mem_cons_self
    show max q.2 (emax l) ≤ K
    omega
theorem pr_edge {w : Nat → Nat → Nat} {S : Nat → Prop} {s0 B : Nat} (hB : ∀ x y, S x → S y → w x y ≤ B) : ∀ {l : List (Nat × Nat)}, PR w S s0 l → ∀ q, q ∈ l → q.2 ≤ B
  | [], _, _, h => by cases h
  | p :: l, h, q, hq => by
    rcases List.mem_cons.mp hq with e | e
    · obtain ⟨x, hx, ex⟩ := h.2.2.2.1
      rw [e, ← ex]
      exact hB x p.1 (vis_S h.1 x hx) h.2.1
    · exact pr_edge hB h.1 q e
-- least labels: what the rounds of 'parts' come to
def clo (w : Nat → Nat → Nat) (n k : Nat) (C : Nat → Prop) : Prop := ∀ x y, x < n → y < n → ¬ x = y → w x y ≤ k → (C x ↔ C y)
def cn (w : Nat → Nat → Nat) (n k : Nat) (x y : Nat) : Prop := ∀ C : Nat → Prop, clo w n k C → (C x ↔ C y)
theorem cn_rf (w : Nat → Nat → Nat) (n k x : Nat) : cn w n k x x := fun _ _ => Iff.rfl
theorem cn_sy {w : Nat → Nat → Nat} {n k x y : Nat} (h : cn w n k x y) : cn w n k y x := fun C hC => (h C hC).symm
theorem cn_tr {w : Nat → Nat → Nat} {n k x y z : Nat} (h : cn w n k x y) (h2 : cn w n k y z) : cn w n k x z := fun C hC => (h C hC).trans (h2 C hC)
theorem cn_ed {w : Nat → Nat → Nat} {n k x y : Nat} (hx : x < n) (hy : y < n) (hn : ¬ x = y) (h : w x y ≤ k) : cn w n k x y := fun _ hC => hC x y hx hy hn h
theorem least_ex (w : Nat → Nat → Nat) (n k u : Nat) : ∃ x, cn w n k x u ∧ ∀ j, j < x → ¬ cn w n k j u := pk_least (fun x => cn w n k x u) ⟨u, cn_rf w n k u⟩
noncomputable def mi (w : Nat → Nat → Nat) (n k u : Nat) : Nat := Classical.choose (least_ex w n k u)
theorem mi_cn (w : Nat → Nat → Nat) (n k u : Nat) : cn w n k (mi w n k u) u := (Classical.choose_spec (least_ex w n k u)).1
theorem mi_le {w : Nat → Nat → Nat} {n k u x : Nat} (h : cn w n k x u) : mi w n k u ≤ x := Nat.le_of_not_lt (fun q => (Classical.choose_spec (least_ex w n k u)).2 x q h)
theorem mi_eq {w : Nat → Nat → Nat} {n k u v : Nat} (h : cn w n k u v) : mi w n k u = mi w n k v :=
  Nat.le_antisymm (mi_le (cn_tr (mi_cn w n k v) (cn_sy h))) (mi_le (cn_tr (mi_cn w n k u) h))
/-- labels within their part -/
def lab (w : Nat → Nat → Nat) (n k : Nat) (f : Nat → Nat) : Prop := ∀ u, u < n → cn w n k (f u) u ∧ f u ≤ u
/-- g is f after a sweep over all pairs -/
def swp (w : Nat → Nat → Nat) (n k : Nat) (f g : Nat → Nat) : Prop := (∀ u, g u ≤ f u) ∧ ∀ y x, y < n → x < n → ¬ y = x → w y x ≤ k → g y ≤ f x
theorem lab_ge {w : Nat → Nat → Nat} {n k : Nat} {f : Nat → Nat} (h : lab w n k f) {u : Nat} (hu : u < n) : mi w n k u ≤ f u := mi_le (h u hu).1
theorem set_step {w : Nat → Nat → Nat} {n k : Nat} {f g : Nat → Nat} (hsym : ∀ x y, x < n → y < n → w x y = w y x) (hf : lab w n k f) (hg : lab w n k g) (hs : swp w n k f g) {r : Nat} (h : r + 1 ≤ ctn (fun u => f u = mi w n k u) n ∨ ∀ u, u < n → f u = mi w n k u) : r + 2 ≤ ctn (fun u => g u = mi w n k u) n ∨ ∀ u, u < n → g u = mi w n k u := by
  have keep : ∀ u, u < n → f u = mi w n k u → g u = mi w n k u := fun u hu e => Nat.le_antisymm (Nat.le_trans (hs.1 u) (Nat.le_of_eq e)) (lab_ge hg hu)
  by_cases all : ∀ u, u < n → f u = mi w n k u
  · exact Or.inr (fun u hu => keep u hu (all u hu))
  · rcases h with h | h
    · left
      have ⟨u, hu⟩ := Classical.not_forall.mp all
      have hun : u < n := Classical.byContradiction (fun q => hu (fun q2 => absurd q2 q))
      have hun2 : ¬ f u = mi w n k u := fun q => hu (fun _ => q)
      -- the settled ones of u's part aren't closed
      have hex : ∃ x y, x < n ∧ y < n ∧ ¬ x = y ∧ w x y ≤ k ∧ ((f x = mi w n k x ∧ ¬ f y = mi w n k y) ∨ (¬ f x = mi w n k x ∧ f y = mi w n k y)) := by
        refine Classical.byContradiction (fun no => ?_)
        have hc : clo w n k (fun x => f x = mi w n k x) := by
          intro x y hx hy hxy hw
          by_cases a : f x = mi w n k x
          · by_cases b : f y = mi w n k y
            · exact ⟨fun _ => b, fun _ => a⟩
            · exact absurd ⟨x, y, hx, hy, hxy, hw, Or.inl ⟨a, b⟩⟩ no
          · by_cases b : f y = mi w n k y
            · exact absurd ⟨x, y, hx, hy, hxy, hw, Or.inr ⟨a, b⟩⟩ no
            · exact ⟨fun q => absurd q a, fun q => absurd q b⟩
        have hm : mi w n k u < n := Nat.lt_of_le_of_lt (mi_le (cn_rf w n k u)) hun
        have e1 : f (mi w n k u) = mi w n k (mi w n k u) := by
          have e2 : mi w n k (mi w n k u) = mi w n k u := mi_eq (mi_cn w n k u)
          refine Nat.le_antisymm ?_ (lab_ge hf hm)
          rw [e2]
          exact (hf _ hm).2
        exact hun2 ((mi_cn w n k u _ hc).mp e1)
      obtain ⟨x, y, hx, hy, hxy, hw, hc⟩ := hex
      have exy : mi w n k x = mi w n k y := mi_eq (cn_ed hx hy hxy hw)
      refine Nat.lt_of_le_of_lt h ?_
      rcases hc with ⟨a, b⟩ | ⟨a, b⟩
      · refine ctn_lt keep hy b (Nat.le_antisymm ?_ (lab_ge hg hy))
        rw [← exy, ← a]
        exact hs.2 y x hy hx (fun q => hxy q.symm) (by rw [hsym y x hy hx]; exact hw)
      · refine ctn_lt keep hx a (Nat.le_antisymm ?_ (lab_ge hg hx))
        rw [exy, ← b]
        exact hs.2 x y hx hy hxy hw
    · exact absurd h all
theorem set_done {w : Nat → Nat → Nat} {n k : Nat} {f : Nat → Nat} (h : n + 1 ≤ ctn (fun u => f u = mi w n k u) n ∨ ∀ u, u < n → f u = mi w n k u) : ∀ u, u < n → f u = mi w n k u := by
  rcases h with h | h
  · have := ctn_le (fun u => f u = mi w n k u) n
    omega
  · exact h
/-- as many labels are their own as there are parts: one more than the net's ways longer than k -/
theorem parts_eq {w : Nat → Nat → Nat} {n k s0 : Nat} {f : Nat → Nat} (hsym : ∀ x y, x < n → y < n → w x y = w y x) (hf : lab w n k f) (hm : ∀ u, u < n → f u = mi w n k u) {l : List (Nat × Nat)} (h : PR w (fun x => x < n) s0 l) (hall : ∀ x, x < n → x ∈ vis s0 l) : ctn (fun u => f u = u) n = cnt k l + 1 := by
  have hlt : ∀ x, x < n → f x < n := fun x hx => Nat.lt_of_le_of_lt (hf x hx).2 hx
  rw [← pr_parts (f := f) (k := k) hlt ?_ ?_ h]
  · refine ctn_congr (fun x hx => ⟨fun q => ?_, fun q => ?_⟩)
    · exact List.mem_map.mpr ⟨x, hall x hx, q⟩
    · obtain ⟨u, hu, e⟩ := List.mem_map.mp q
      have hun : u < n := vis_S h u hu
      have e1 : f x = mi w n k x := hm x hx
      rw [e1, ← e, hm u hun]
      exact mi_eq (mi_cn w n k u)
  · intro x y hx hy hxy
    by_cases e : x = y
    · rw [e]
    · rw [hm x hx, hm y hy]
      exact mi_eq (cn_ed hx hy e hxy)
  · intro C hC x z hx hz e cx
    rw [hm x hx, hm z hz] at e
    have hc : clo w n k C := by
      intro a b ha hb hab hw
      by_cases ca : C a
      · by_cases cb : C b
        · exact ⟨fun _ => cb, fun _ => ca⟩
        · have := hC a b ha hb ca cb
          omega
      · by_cases cb : C b
        · have h1 := hC b a hb ha cb ca
          rw [hsym b a hb ha] at h1
          omega
        · exact ⟨fun q => absurd q ca, fun q => absurd q cb⟩
    have e1 := (mi_cn w n k x C hc).mpr cx
    rw [e] at e1
    exact (mi_cn w n k z C hc).mp e1
end
section
/-! PURE: ways and trips, in their order -/
/-- from a over q to g -/
def cst (w : Nat → Nat → Nat) (a : Nat) : List Nat → Nat → Nat
  | [], g => w a g
  | x :: r, g => w a x + cst w x r g
theorem cst_ge {w : Nat → Nat → Nat} {g fr : Nat} : ∀ (r : List Nat) (x : Nat), (∀ y, y ∈ x :: r → fr ≤ w y g) → wsum w (x :: r) + fr ≤ cst w x r g
  | [], x, h => by
    show 0 + fr ≤ w x g
    have := h x List.mem_cons_self
    omega
  | y :: r, x, h => by
    have := cst_ge r y (fun z hz => h z (List.mem_cons_of_mem _ hz))
    show w x y + wsum w (y :: r) + fr ≤ w x y + cst w y r g
    omega
/-- what is left costs at least: one way to it, its net, one way from it -/
theorem least_ok {w : Nat → Nat → Nat} {S : Nat → Prop} {s0 a g to fr : Nat} (hw : ∀ x y, S x → S y → w x y = w y x) {l : List (Nat × Nat)} (h : PR w S s0 l) (hall : ∀ x, S x → x ∈ vis s0 l) (hto : ∀ x, S x → to ≤ w a x) (hfr : ∀ x, S x → fr ≤ w x g) (q : List Nat) (hq : ∀ x, x ∈ q ↔ S x) : to + fr + esum l ≤ cst w a q g := by
  have hn := net_le_way hw h q (fun x hx => (hq x).mpr (vis_S h x hx)) (fun x hx => hall x ((hq x).mp hx))
  cases q with
  | nil =>
    have : s0 ∈ ([] : List Nat) := (hq s0).mpr (vis_S h s0 (by simp [vis]))
    cases this
  | cons x r =>
    have h1 := cst_ge (w := w) (g := g) (fr := fr) r x (fun y hy => hfr y ((hq y).mp hy))
    have h2 := hto x ((hq x).mp List.mem_cons_self)
    show to + fr + esum l ≤ w a x + cst w x r g
    omega
/-- a way p, and on to g -/
def tot (w : Nat → Nat → Nat) (g : Nat) : List Nat → Nat
  | [] => 0
  | [a] => w a g
  | a :: b :: r => w a b + tot w g (b :: r)
theorem tot_app {w : Nat → Nat → Nat} {g : Nat} : ∀ (p : List Nat) (v : Nat) (q : List Nat), tot w g (p ++ v :: q) = wsum w (p ++ [v]) + cst w v q g
  | [], v, [] => by
    show w v g = 0 + w v g
    omega
  | [], v, x :: r => by
    have := tot_app (w := w) (g := g) [] x r
    show w v x + tot w g (x :: r) = 0 + (w v x + cst w x r g)
    have e : wsum w ([] ++ [x]) = 0 := rfl
    rw [e] at this
    have e2 : tot w g ([] ++ x :: r) = tot w g (x :: r) := rfl
    omega
  | [a], v, q => by
    have := tot_app (w := w) (g := g) [] v q
    show w a v + tot w g (v :: q) = (w a v + 0) + cst w v q g
    have e : wsum w ([] ++ [v]) = 0 := rfl
    have e2 : tot w g ([] ++ v :: q) = tot w g (v :: q) := rfl
    omega
  | a :: b :: p, v, q => by
    have := tot_app (w := w) (g := g) (b :: p) v q
    show w a b + tot w g (b :: p ++ v :: q) = (w a b + wsum w (b :: p ++ [v])) + cst w v q g
    omega
theorem wsum_app2 {w : Nat → Nat → Nat} : ∀ (p : List Nat) (a v : Nat), wsum w (p ++ [a] ++ [v]) = wsum w (p ++ [a]) + w a v
  | [], a, v => by
    show w a v + 0 = 0 + w a v
    omega
  | [b], a, v => by
    show w b a + (w a v + 0) = (w b a + 0) + w a v
    omega
  | b :: c :: p, a, v => by
    have := wsum_app2 (w := w) (c :: p) a v
    show w b c + wsum w (c :: p ++ [a] ++ [v]) = (w b c + wsum w (c :: p ++ [a])) + w a v
    omega
/-- the towns that may come behind p on the way to g -/
def nxt (n g : Nat) (p : List Nat) : List Nat := (List.range n).filter (fun x => !(p.contains x) && !(x == g))
theorem mem_nxt {n g : Nat} {p : List Nat} {x : Nat} : x ∈ nxt n g p ↔ x < n ∧ ¬ x ∈ p ∧ ¬ x = g := by
  unfold nxt
  rw [List.mem_filter, List.mem_range]
  simp
/-- all ways that begin with p and have m towns more, in their order -/
def cmp (n g : Nat) : Nat → List Nat → List (List Nat)
  | 0, p => [p]
  | m + 1, p => (nxt n g p).flatMap (fun v => cmp n g m (p ++ [v]))
theorem cmp_app {n g : Nat} : ∀ {m : Nat} {p f : List Nat}, f ∈ cmp n g m p → ∃ q : List Nat, f = p ++ q ∧ q.length = m ∧ (∀ x, x ∈ q → x < n ∧ ¬ x ∈ p ∧ ¬ x = g) ∧ q.Nodup
  | 0, p, f, h => ⟨[], by simpa [cmp] using h, rfl, (fun x hx => absurd hx List.not_mem_nil), List.nodup_nil⟩
  | m + 1, p, f, h => by
    obtain ⟨v, hv, hf⟩ := List.mem_flatMap.mp (show f ∈ (nxt n g p).flatMap (fun v => cmp n g m (p ++ [v])) from h)
    obtain ⟨q, e, hl, hq, hn⟩ := cmp_app hf
    have hv := mem_nxt.mp hv
    refine ⟨v :: q, by rw [e]; simp, by simp [hl], ?_, ?_⟩
    · intro x hx
      rcases List.mem_cons.mp hx with e2 | e2
      · rw [e2]; exact hv
      · have := hq x e2
        exact ⟨this.1, fun q9 => this.2.1 (List.mem_append_left _ q9), this.2.2⟩
    · exact List.nodup_cons.mpr ⟨fun q9 => (hq v q9).2.1 (by simp), hn⟩
theorem cmp_mk {n g : Nat} : ∀ (q p : List Nat), (∀ x, x ∈ q → x < n ∧ ¬ x ∈ p ∧ ¬ x = g) → q.Nodup → p ++ q ∈ cmp n g q.length p
  | [], p, _, _ => by simp [cmp]
  | v :: q, p, h, hn => by
    have hn := List.nodup_cons.mp hn
    show p ++ v :: q ∈ (nxt n g p).flatMap (fun v => cmp n g q.length (p ++ [v]))
    refine List.mem_flatMap.mpr ⟨v, mem_nxt.mpr (h v List.mem_cons_self), ?_⟩
    have := cmp_mk (n := n) (g := g) q (p ++ [v]) (fun x hx => ⟨(h x (List.mem_cons_of_mem _ hx)).1, fun q9 => by
      rcases List.mem_append.mp q9 with e | e
      · exact (h x (List.mem_cons_of_mem _ hx)).2.1 e
      · have : x = v := by simpa using e
        exact hn.1 (by rw [← this]; exact hx), (h x (List.mem_cons_of_mem _ hx)).2.2⟩) hn.2
    simpa using this
/-- if m towns are left, a way has them all -/
theorem cmp_all {n g : Nat} : ∀ {m : Nat} {p f : List Nat}, ctn (fun x => ¬ x ∈ p ∧ ¬ x = g) n = m → f ∈ cmp n g m p → ∀ x, x < n → ¬ x = g → x ∈ f
  | 0, p, f, hc, h, x, hx, hg => by
    have e : f = p := by simpa [cmp] using h
    have := ctn_zero hc x hx
    rw [e]
    exact Classical.byContradiction (fun q => this ⟨q, hg⟩)
  | m + 1, p, f, hc, h, x, hx, hg => by
    obtain ⟨v, hv, hf⟩ := List.mem_flatMap.mp (show f ∈ (nxt n g p).flatMap (fun v => cmp n g m (p ++ [v])) from h)
    have hv := mem_nxt.mp hv
    have e1 := ctn_del (P := fun x => ¬ x ∈ p ∧ ¬ x = g) hv.1 ⟨hv.2.1, hv.2.2⟩
    refine cmp_all (m := m) (p := p ++ [v]) ?_ hf x hx hg
    have e2 : ctn (fun x => ¬ x ∈ p ++ [v] ∧ ¬ x = g) n = ctn (fun x => (¬ x ∈ p ∧ ¬ x = g) ∧ ¬ x = v) n := ctn_congr (fun y _ => by
      rw [List.mem_append]
      simp only [List.mem_singleton]
      constructor
      · rintro ⟨a, b⟩
        exact ⟨⟨fun q => a (Or.inl q), b⟩, fun q => a (Or.inr q)⟩
      · rintro ⟨⟨a, b⟩, c⟩
        exact ⟨fun q => by rcases q with q | q; exact a q; exact c q, b⟩)
    omega
/-- an offered way: the shortest length so far, how many have it, the first of them -/
def offr (w : Nat → Nat → Nat) (g : Nat) (b : Nat × Nat × List Nat) (p : List Nat) : Nat × Nat × List Nat :=
  if b.1 < tot w g p then b else if tot w g p < b.1 then (tot w g p, 1, p) else (b.1, b.2.1 + 1, b.2.2)
theorem offr_far {w : Nat → Nat → Nat} {g : Nat} {b : Nat × Nat × List Nat} : ∀ {l : List (List Nat)}, (∀ p, p ∈ l → b.1 < tot w g p) → l.foldl (offr w g) b = b
  | [], _ => rfl
  | p :: l, h => by
    show l.foldl (offr w g) (offr w g b p) = b
    have e : offr w g b p = b := by
      unfold offr
      rw [if_pos (h p List.mem_cons_self)]
    rw [e]
    exact offr_far (fun q hq => h q (List.mem_cons_of_mem _ hq))
/-- what the offers of all ways of l have come to: the least length, how many have it, the first one -/
def Res (w : Nat → Nat → Nat) (g : Nat) (l : List (List Nat)) (r : Nat × Nat × List Nat) : Prop :=
  ∃ i : Nat, l[i]? = some r.2.2 ∧ tot w g r.2.2 = r.1 ∧ (∀ (j : Nat) q, l[j]? = some q → r.1 ≤ tot w g q) ∧ (∀ (j : Nat) q, j < i → l[j]? = some q → r.1 < tot w g q) ∧ r.2.1 = l.countP (fun q => tot w g q == r.1)
theorem res_1 {w : Nat → Nat → Nat} {g : Nat} {b : Nat × Nat × List Nat} {p : List Nat} (h : tot w g p < b.1) : Res w g [p] (offr w g b p) := by
  have e : offr w g b p = (tot w g p, 1, p) := by
    unfold offr
    rw [if_neg (by omega), if_pos h]
  rw [e]
  refine ⟨0, rfl, rfl, ?_, ?_, ?_⟩
  · intro j q hq
    cases j with
    | zero => cases hq; exact Nat.le_refl _
    | succ j => simp at hq
  · intro j q hj; omega
  · simp
theorem res_s {w : Nat → Nat → Nat} {g : Nat} {l : List (List Nat)} {r : Nat × Nat × List Nat} (h : Res w g l r) (p : List Nat) : Res w g (l ++ [p]) (offr w g r p) := by
  obtain ⟨i, h1, h2, h3, h4, h5⟩ := h
  have hil : i < l.length := (List.getElem?_eq_some_iff.mp h1).1
  have get : ∀ (j : Nat) q, (l ++ [p])[j]? = some q → l[j]? = some q ∨ (j = l.length ∧ q = p) := by
    intro j q hq
    rcases Nat.lt_or_ge j l.length with hj | hj
    · left; rw [List.getElem?_append_left hj] at hq; exact hq
    · right
      rw [List.getElem?_append_right hj] at hq
      have e0 : j - l.length = 0 := by
        rcases Nat.eq_zero_or_pos (j - l.length) with e | e
        · exact e
        · rw [List.getElem?_eq_none (by simp; omega)] at hq; cases hq
      rw [e0] at hq
      exact ⟨by omega, by simpa using hq.symm⟩
  unfold offr
  by_cases a : r.1 < tot w g p
  · rw [if_pos a]
    refine ⟨i, by rw [List.getElem?_append_left hil]; exact h1, h2, ?_, ?_, ?_⟩
    · intro j q hq
      rcases get j q hq with e | e
      · exact h3 j q e
      · rw [e.2]; omega
    · intro j q hj hq
      rcases get j q hq with e | e
      · exact h4 j q hj e
      · omega
    · rw [List.countP_append, ← h5]
      have : (tot w g p == r.1) = false := by simp; omega
      simp [this]
  · rw [if_neg a]
    by_cases b : tot w g p < r.1
    · rw [if_pos b]
      refine ⟨l.length, by simp, rfl, ?_, ?_, ?_⟩
      · intro j q hq
        rcases get j q hq with e | e
        · have := h3 j q e
          show tot w g p ≤ _
          omega
        · rw [e.2]; exact Nat.le_refl _
      · intro j q hj hq
        rcases get j q hq with e | e
        · have := h3 j q e
          show tot w g p < _
          omega
        · omega
      · show 1 = _
        have : l.countP (fun q => tot w g q == tot w g p) = 0 := by
          rw [List.countP_eq_zero]
          intro q hq
          obtain ⟨j, hj⟩ := List.getElem?_of_mem hq
          have := h3 j q hj
          simp
          omega
        rw [List.countP_append, this]
        simp
    · rw [if_neg b]
      have e : tot w g p = r.1 := by omega
      refine ⟨i, by rw [List.getElem?_append_left hil]; exact h1, h2, ?_, ?_, ?_⟩
      · intro j q hq
        rcases get j q hq with e2 | e2
        · exact h3 j q e2
        · rw [e2.2]; show r.1 ≤ _; omega
      · intro j q hj hq
        rcases get j q hq with e2 | e2
        · exact h4 j q hj e2
        · omega
      · show r.2.1 + 1 = _
        rw [List.countP_append, ← h5]
        simp [e]
theorem res_fold {w : Nat → Nat → Nat} {g : Nat} : ∀ (l2 l1 : List (List Nat)) (r : Nat × Nat × List Nat), Res w g l1 r → Res w g (l1 ++ l2) (l2.foldl (offr w g) r)
  | [], l1, r, h => by simpa using h
  | p :: l2, l1, r, h => by
    have := res_fold l2 (l1 ++ [p]) (offr w g r p) (res_s h p)
    simpa using this
theorem res_all {w : Nat → Nat → Nat} {g : Nat} {b : Nat × Nat × List Nat} {l : List (List Nat)} (hl : ¬ l = []) (h : ∀ p, p ∈ l → tot w g p < b.1) : Res w g l (l.foldl (offr w g) b) := by
  cases l with
  | nil => exact absurd rfl hl
  | cons p l => exact res_fold l [p] _ (res_1 (h p List.mem_cons_self))
end
section
/-! TourSolver: its small methods (printed by a program, wip/D-64046w/src) -/
set_option maxRecDepth 100000
section
variable {l : Launch} {D : va_G} {h : Nat → Nat} {d : Nat → ClassId} {n goal best bc : Nat} {L P pa la nt bp ne : Nat → Nat}
theorem m1_isTown (hn : n ≤ 7) (u : Int32) : MtI l yX1_isTown cX1_isTown 2 .boolean (rmr 0 0) D (tX d) [.ref (h 0), .int u] (wX h d n goal best bc L P pa la nt bp ne) (fun r w1 => w1 = wX h d n goal best bc L P pa la nt bp ne ∧ (r = nI 1 ∧ twn n u ∨ r = nI 0 ∧ ¬ twn n u)) := by
  refine MtI.of rfl (Nat.le_of_ble_eq_true rfl) ?_
  intro p e s m args below meth c Q A hF hret
  refine WW.cw (lv2 := [(0, .ref (h 0)), (1, .int u)]) rfl rfl rfl ?_
  refine x_iload_n hF 1 dX1_isTown_0 rfl rfl ?_
  refine x_if_ltR hF 16 dX1_isTown_1 (by decide) (fun c_1 => ?_) (fun c_1 => ?_)
  · refine x_iconst hF dX1_isTown_16 kc_i0 ?_
    exact hret _ _ _ _ ⟨rfl, Or.inr ⟨rfl, fun q => by have q2 := (twn_iff hn).mp q; first | exact q2.1 c_1 | exact q2.2 c_9⟩⟩ rfl dX1_isTown_17
  · refine x_iload_n hF 1 dX1_isTown_4 rfl rfl ?_
    refine x_aload_n hF 0 dX1_isTown_5 rfl rfl ?_
    refine x_get (ci := 0) (C := RX1) (T := TX1) (N := 11) (v := .int (nI n)) hF in_X1 0 rfl rfl 0 (by decide) q32 rfl rfl dX1_isTown_6 ?_
    refine x_icmp_geR hF 16 dX1_isTown_9 (by decide) (fun c_9 => ?_) (fun c_9 => ?_)
    · refine x_iconst hF dX1_isTown_16 kc_i0 ?_
      exact hret _ _ _ _ ⟨rfl, Or.inr ⟨rfl, fun q => by have q2 := (twn_iff hn).mp q; first | exact q2.1 c_1 | exact q2.2 c_9⟩⟩ rfl dX1_isTown_17
    · refine x_iconst hF dX1_isTown_12 kc_i1 ?_
      refine x_goto hF 17 dX1_isTown_13 (by decide) ?_
      exact hret _ _ _ _ ⟨rfl, Or.inl ⟨rfl, (twn_iff hn).mpr ⟨c_1, c_9⟩⟩⟩ rfl dX1_isTown_17
theorem m1_isCouple (hn : n ≤ 7) (u v : Int32) : MtI l yX1_isCouple cX1_isCouple 3 .boolean (rmr 1 21) D (tX d) [.ref (h 0), .int u, .int v] (wX h d n goal best bc L P pa la nt bp ne) (fun r w1 => w1 = wX h d n goal best bc L P pa la nt bp ne ∧ (r = nI 1 ∧ cpl n u v ∨ r = nI 0 ∧ ¬ cpl n u v)) := by
  refine MtI.of rfl (Nat.le_of_ble_eq_true rfl) ?_
  intro p e s m args below meth c Q A hF hret
  refine WW.cw (lv2 := [(0, .ref (h 0)), (1, .int u), (2, .int v)]) rfl rfl rfl ?_
  refine x_aload_n hF 0 dX1_isCouple_0 rfl rfl ?_
  refine x_iload_n hF 1 dX1_isCouple_1 rfl rfl ?_
  refine x_calli (C := RX1) (T := TX1) (N := 11) (ci := 0) (q0 := 0) (b := h 0) (As := [.int u]) (rest := []) hF (m1_isTown hn u) 1 (lw_V q76 q78 qs1 q22 q79) rfl rfl (by decide +kernel) ⟨by decide, by decide⟩ rfl rfl rfl rfl (Nat.le_of_ble_eq_true rfl) dX1_isCouple_2 ⟨Nat.zero_le _, Nat.zero_le _⟩ (fun r_2 w_2 hp_2 => ?_)
  obtain ⟨rfl, hp_2⟩ := hp_2
  rcases hp_2 with ⟨rfl, t_2⟩ | ⟨rfl, t_2⟩
  · refine x_if_eq hF 25 dX1_isCouple_5 (by decide) (by omega) (fun c_5 => ?_) (fun c_5 => ?_)
    · omega
    · refine x_aload_n hF 0 dX1_isCouple_8 rfl rfl ?_
      refine x_iload_n hF 2 dX1_isCouple_9 rfl rfl ?_
      refine x_calli (C := RX1) (T := TX1) (N := 11) (ci := 0) (q0 := 0) (b := h 0) (As := [.int v]) (rest := []) hF (m1_isTown hn v) 1 (lw_V q76 q78 qs1 q22 q79) rfl rfl (by decide +kernel) ⟨by decide, by decide⟩ rfl rfl rfl rfl (Nat.le_of_ble_eq_true rfl) dX1_isCouple_10 ⟨Nat.zero_le _, Nat.zero_le _⟩ (fun r_10 w_10 hp_10 => ?_)
      obtain ⟨rfl, hp_10⟩ := hp_10
      rcases hp_10 with ⟨rfl, t_10⟩ | ⟨rfl, t_10⟩
      · refine x_if_eq hF 25 dX1_isCouple_13 (by decide) (by omega) (fun c_13 => ?_) (fun c_13 => ?_)
        · omega
        · refine x_iload_n hF 1 dX1_isCouple_16 rfl rfl ?_
          refine x_iload_n hF 2 dX1_isCouple_17 rfl rfl ?_
          refine x_icmp_eqR hF 25 dX1_isCouple_18 (by decide) (fun c_18 => ?_) (fun c_18 => ?_)
          · refine x_iconst hF dX1_isCouple_25 kc_i0 ?_
            exact hret _ _ _ _ ⟨rfl, Or.inr ⟨rfl, fun q => by first | exact t_2 q.1 | exact t_10 q.2.1 | exact q.2.2 c_18⟩⟩ rfl dX1_isCouple_26
          · refine x_iconst hF dX1_isCouple_21 kc_i1 ?_
            refine x_goto hF 26 dX1_isCouple_22 (by decide) ?_
            exact hret _ _ _ _ ⟨rfl, Or.inl ⟨rfl, t_2, t_10, c_18⟩⟩ rfl dX1_isCouple_26
      · refine x_if_eq hF 25 dX1_isCouple_13 (by decide) (by omega) (fun c_13 => ?_) (fun c_13 => ?_)
        · refine x_iconst hF dX1_isCouple_25 kc_i0 ?_
          exact hret _ _ _ _ ⟨rfl, Or.inr ⟨rfl, fun q => by first | exact t_2 q.1 | exact t_10 q.2.1 | exact q.2.2 c_18⟩⟩ rfl dX1_isCouple_26
        · omega
  · refine x_if_eq hF 25 dX1_isCouple_5 (by decide) (by omega) (fun c_5 => ?_) (fun c_5 => ?_)
    · refine x_iconst hF dX1_isCouple_25 kc_i0 ?_
      exact hret _ _ _ _ ⟨rfl, Or.inr ⟨rfl, fun q => by first | exact t_2 q.1 | exact t_10 q.2.1 | exact q.2.2 c_18⟩⟩ rfl dX1_isCouple_26
    · omega
theorem m1_road (hn : n ≤ 7) (u v x : Int32) : MtI l yX1_road cX1_road 4 .boolean (rmr 2 43) D (tX d) [.ref (h 0), .int u, .int v, .int x] (wX h d n goal best bc L P pa la nt bp ne) (fun r w1 => (r = nI 0 ∧ ¬ (cpl n u v ∧ ¬ x < 0 ∧ x ≤ nI 60) ∧ w1 = wX h d n goal best bc L P pa la nt bp ne) ∨ (∃ a b k : Nat, a < n ∧ b < n ∧ ¬ a = b ∧ k ≤ 60 ∧ u = nI a ∧ v = nI b ∧ x = nI k ∧ r = nI 1 ∧ w1 = wX h d n goal best bc (up2 L a b k) P pa la nt bp ne)) := by
  refine MtI.of rfl (Nat.le_of_ble_eq_true rfl) ?_
  intro p e s m args below meth c Q A hF hret
  refine WW.cw (lv2 := [(0, .ref (h 0)), (1, .int u), (2, .int v), (3, .int x)]) rfl rfl rfl ?_
  refine x_aload_n hF 0 dX1_road_0 rfl rfl ?_
  refine x_iload_n hF 1 dX1_road_1 rfl rfl ?_
  refine x_iload_n hF 2 dX1_road_2 rfl rfl ?_
  refine x_calli (C := RX1) (T := TX1) (N := 11) (ci := 0) (q0 := 0) (b := h 0) (As := [.int u, .int v]) (rest := []) hF (m1_isCouple hn u v) 2 (lw_V q72 q74 qs0 q22 q75) rfl rfl (by decide +kernel) ⟨by decide, by decide⟩ rfl rfl rfl rfl (Nat.le_of_ble_eq_true rfl) dX1_road_3 ⟨Nat.zero_le _, Nat.zero_le _⟩ (fun r_3 w_3 hp_3 => ?_)
  obtain ⟨rfl, hp_3⟩ := hp_3
  rcases hp_3 with ⟨rfl, t_3⟩ | ⟨rfl, t_3⟩
  · refine x_if_eq hF 19 dX1_road_6 (by decide) (by omega) (fun c_6 => ?_) (fun c_6 => ?_)
    · omega
    · refine x_iload_n hF 3 dX1_road_9 rfl rfl ?_
      refine x_if_ltR hF 19 dX1_road_10 (by decide) (fun c_10 => ?_) (fun c_10 => ?_)
      · refine x_iconst hF dX1_road_19 kc_i0 ?_
        exact hret _ _ _ _ (Or.inl ⟨rfl, fun q => by first | exact t_3 q.1 | exact q.2.1 c_10 | exact c_16 q.2.2, rfl⟩) rfl dX1_road_20
      · refine x_iload_n hF 3 dX1_road_13 rfl rfl ?_
        refine x_bipush hF dX1_road_14 kc_b60 ?_
        refine x_icmp_leR hF 21 dX1_road_16 (by decide) (fun c_16 => ?_) (fun c_16 => ?_)
        · obtain ⟨⟨a_, ha_, rfl⟩, ⟨b_, hb_, rfl⟩, hab⟩ := t_3
          have hab_ : ¬ a_ = b_ := fun q => hab (by rw [q])
          obtain ⟨k_, hk0_, rfl⟩ := nI_of c_10
          have hk_ : k_ ≤ 60 := (nI_leI hk0_ (by decide)).mp c_16
          refine x_aload_n hF 0 dX1_road_21 rfl rfl ?_
          refine x_get (ci := 0) (C := RX1) (T := TX1) (N := 11) (v := .ref (h 1)) hF in_X1 0 rfl rfl 1 (by decide) q33 rfl rfl dX1_road_22 ?_
          refine x_bipush hF dX1_road_25 kc_b7 ?_
          refine x_iload_n hF 1 dX1_road_27 rfl rfl ?_
          refine x_imul hF dX1_road_28 ?_
          refine x_iload_n hF 2 dX1_road_29 rfl rfl ?_
          refine x_iadd hF dX1_road_30 ?_
          refine x_iload_n hF 3 dX1_road_31 rfl rfl ?_
          refine x_iast (w' := wX h d n goal best bc (va_up L ((7 * a_) + b_) k_) P pa la nt bp ne) hF 1 0 rfl rfl (by decide) (by omega) rfl dX1_road_32 ?_
          refine x_aload_n hF 0 dX1_road_33 rfl rfl ?_
          refine x_get (ci := 0) (C := RX1) (T := TX1) (N := 11) (v := .ref (h 1)) hF in_X1 0 rfl rfl 1 (by decide) q33 rfl rfl dX1_road_34 ?_
          refine x_bipush hF dX1_road_37 kc_b7 ?_
          refine x_iload_n hF 2 dX1_road_39 rfl rfl ?_
          refine x_imul hF dX1_road_40 ?_
          refine x_iload_n hF 1 dX1_road_41 rfl rfl ?_
          refine x_iadd hF dX1_road_42 ?_
          refine x_iload_n hF 3 dX1_road_43 rfl rfl ?_
          refine x_iast (w' := wX h d n goal best bc (va_up (va_up L ((7 * a_) + b_) k_) ((7 * b_) + a_) k_) P pa la nt bp ne) hF 1 0 rfl rfl (by decide) (by omega) rfl dX1_road_44 ?_
          refine x_iconst hF dX1_road_45 kc_i1 ?_
          exact hret _ _ _ _ (Or.inr ⟨a_, b_, k_, ha_, hb_, hab_, hk_, rfl, rfl, rfl, rfl, rfl⟩) rfl dX1_road_46
        · refine x_iconst hF dX1_road_19 kc_i0 ?_
          exact hret _ _ _ _ (Or.inl ⟨rfl, fun q => by first | exact t_3 q.1 | exact q.2.1 c_10 | exact c_16 q.2.2, rfl⟩) rfl dX1_road_20
  · refine x_if_eq hF 19 dX1_road_6 (by decide) (by omega) (fun c_6 => ?_) (fun c_6 => ?_)
    · refine x_iconst hF dX1_road_19 kc_i0 ?_
      exact hret _ _ _ _ (Or.inl ⟨rfl, fun q => by first | exact t_3 q.1 | exact q.2.1 c_10 | exact c_16 q.2.2, rfl⟩) rfl dX1_road_20
    · omega
theorem m1_loadPrices  : MtV l yX1_loadPrices cX1_loadPrices 2 (rmr 0 0) D (tX d) [.ref (h 0)] (wX h d n goal best bc L P pa la nt bp ne) (fun w1 => ∃ P' : Nat → Nat, (∀ j, j < 49 → P' j = L j) ∧ w1 = wX h d n goal best bc L P' pa la nt bp ne) := by
  refine MtV.of rfl (Nat.le_of_ble_eq_true rfl) ?_
  intro p e s m args below meth c Q A hF hret
  refine WW.cw (lv2 := [(0, .ref (h 0))]) rfl rfl rfl ?_
  have loop : ∀ (k i : Nat) (P' : Nat → Nat), i ≤ 49 → 50 ≤ i + k → (∀ j, j < i → P' j = L j) → WW p l e (rmr 0 0) s m args below meth c Q D A 2 0 0 (wX h d n goal best bc L P' pa la nt bp ne) 2 [(0, .ref (h 0)), (1, .int (nI i))] [] := by
    intro k
    induction k with
    | zero =>
      intro i P' hi hk hP
      exact absurd (show False by omega) id
    | succ k ih =>
      intro i P' hi hk hP
      refine x_iload_n hF 1 dX1_loadPrices_2 rfl rfl ?_
      refine x_bipush hF dX1_loadPrices_3 kc_b49 ?_
      refine x_icmp_ge hF 26 dX1_loadPrices_5 (by decide) (by omega) (by omega) (fun c_5 => ?_) (fun c_5 => ?_)
      · exact hret _ _ _ ⟨P', fun j hj => hP j (by omega), rfl⟩ dX1_loadPrices_26
      · refine x_aload_n hF 0 dX1_loadPrices_8 rfl rfl ?_
        refine x_get (ci := 0) (C := RX1) (T := TX1) (N := 11) (v := .ref (h 2)) hF in_X1 0 rfl rfl 3 (by decide) q35 rfl rfl dX1_loadPrices_9 ?_
        refine x_iload_n hF 1 dX1_loadPrices_12 rfl rfl ?_
        refine x_aload_n hF 0 dX1_loadPrices_13 rfl rfl ?_
        refine x_get (ci := 0) (C := RX1) (T := TX1) (N := 11) (v := .ref (h 1)) hF in_X1 0 rfl rfl 1 (by decide) q33 rfl rfl dX1_loadPrices_14 ?_
        refine x_iload_n hF 1 dX1_loadPrices_17 rfl rfl ?_
        refine x_iald hF 1 0 rfl rfl (by decide) (by omega) dX1_loadPrices_18 ?_
        refine x_iast (w' := wX h d n goal best bc L (va_up P' i (L i)) pa la nt bp ne) hF 2 1 rfl rfl (by decide) (by omega) rfl dX1_loadPrices_19 ?_
        refine x_iinc (v := (nI (i + 1))) (lv' := [(0, .ref (h 0)), (1, .int (nI (i + 1)))]) hF 1 dX1_loadPrices_20 rfl (ii_1 _) (by decide) rfl ?_
        refine x_goto hF 2 dX1_loadPrices_23 (by decide) ?_
        exact ih (i + 1) (va_up P' i (L i)) (by omega) (by omega) (lt_s (fun j hj => by rw [va_up_ne _ _ (by omega)]; exact hP j hj) (va_up_self _ _ _))
  refine x_iconst hF dX1_loadPrices_0 kc_i0 ?_
  refine x_istore_n (lv' := [(0, .ref (h 0)), (1, .int (nI 0))]) hF dX1_loadPrices_1 rfl (by decide) rfl ?_
  exact loop 50 0 P (by omega) (by omega) lt_0
theorem m1_price {a b k : Nat} (ha : a < 7) (hb : b < 7) : MtV l yX1_price cX1_price 4 (rmr 0 0) D (tX d) [.ref (h 0), .int (nI a), .int (nI b), .int (nI k)] (wX h d n goal best bc L P pa la nt bp ne) (fun w1 => w1 = wX h d n goal best bc L (up2 P a b k) pa la nt bp ne) := by
  refine MtV.of rfl (Nat.le_of_ble_eq_true rfl) ?_
  intro p e s m args below meth c Q A hF hret
  refine WW.cw (lv2 := [(0, .ref (h 0)), (1, .int (nI a)), (2, .int (nI b)), (3, .int (nI k))]) rfl rfl rfl ?_
  refine x_aload_n hF 0 dX1_price_0 rfl rfl ?_
  refine x_get (ci := 0) (C := RX1) (T := TX1) (N := 11) (v := .ref (h 2)) hF in_X1 0 rfl rfl 3 (by decide) q35 rfl rfl dX1_price_1 ?_
  refine x_bipush hF dX1_price_4 kc_b7 ?_
  refine x_iload_n hF 1 dX1_price_6 rfl rfl ?_
  refine x_imul hF dX1_price_7 ?_
  refine x_iload_n hF 2 dX1_price_8 rfl rfl ?_
  refine x_iadd hF dX1_price_9 ?_
  refine x_iload_n hF 3 dX1_price_10 rfl rfl ?_
  refine x_iast (w' := wX h d n goal best bc L (va_up P ((7 * a) + b) k) pa la nt bp ne) hF 2 1 rfl rfl (by decide) (by omega) rfl dX1_price_11 ?_
  refine x_aload_n hF 0 dX1_price_12 rfl rfl ?_
  refine x_get (ci := 0) (C := RX1) (T := TX1) (N := 11) (v := .ref (h 2)) hF in_X1 0 rfl rfl 3 (by decide) q35 rfl rfl dX1_price_13 ?_
  refine x_bipush hF dX1_price_16 kc_b7 ?_
  refine x_iload_n hF 2 dX1_price_18 rfl rfl ?_
  refine x_imul hF dX1_price_19 ?_
  refine x_iload_n hF 1 dX1_price_20 rfl rfl ?_
  refine x_iadd hF dX1_price_21 ?_
  refine x_iload_n hF 3 dX1_price_22 rfl rfl ?_
  refine x_iast (w' := wX h d n goal best bc L (va_up (va_up P ((7 * a) + b) k) ((7 * b) + a) k) pa la nt bp ne) hF 2 1 rfl rfl (by decide) (by omega) rfl dX1_price_23 ?_
  exact hret _ _ _ rfl dX1_price_24
theorem m1_freed {k : Nat} (hk : k < 8) (hp : pa k < 7) : MtI l yX1_freed cX1_freed 2 .int (rmr 0 0) D (tX d) [.ref (h 0), .int (nI k)] (wX h d n goal best bc L P pa la nt bp ne) (fun r w1 => r = nI (if k = 0 then 0 else 2 ^ pa k) ∧ w1 = wX h d n goal best bc L P pa la nt bp ne) := by
  refine MtI.of rfl (Nat.le_of_ble_eq_true rfl) ?_
  intro p e s m args below meth c Q A hF hret
  refine WW.cw (lv2 := [(0, .ref (h 0)), (1, .int (nI k))]) rfl rfl rfl ?_
  refine x_iload_n hF 1 dX1_freed_0 rfl rfl ?_
  refine x_if_ne hF 8 dX1_freed_1 (by decide) (by omega) (fun c_1 => ?_) (fun c_1 => ?_)
  · refine x_iconst hF dX1_freed_8 kc_i1 ?_
    refine x_aload_n hF 0 dX1_freed_9 rfl rfl ?_
    refine x_get (ci := 0) (C := RX1) (T := TX1) (N := 11) (v := .ref (h 3)) hF in_X1 0 rfl rfl 4 (by decide) q36 rfl rfl dX1_freed_10 ?_
    refine x_iload_n hF 1 dX1_freed_13 rfl rfl ?_
    refine x_bald hF 3 2 rfl rfl (by decide) (by omega) dX1_freed_14 ?_
    refine x_ishl (v := nI (2 ^ (pa k))) hF dX1_freed_15 (bt_shl (by omega)) ?_
    exact hret _ _ _ _ ⟨by rw [if_neg c_1], rfl⟩ rfl dX1_freed_16
  · refine x_iconst hF dX1_freed_4 kc_i0 ?_
    refine x_goto hF 16 dX1_freed_5 (by decide) ?_
    exact hret _ _ _ _ ⟨by rw [if_pos c_1], rfl⟩ rfl dX1_freed_16
theorem m1_nextTown {k lf : Nat} (hn : n ≤ 7) (hk : k < 8) (hl : lf < 128) (ht : nt k ≤ 7) : MtI l yX1_nextTown cX1_nextTown 4 .int (rmr 0 0) D (tX d) [.ref (h 0), .int (nI k), .int (nI lf)] (wX h d n goal best bc L P pa la nt bp ne) (fun r w1 => w1 = wX h d n goal best bc L P pa la nt bp ne ∧ ((∃ v, r = nI v ∧ nt k ≤ v ∧ v < n ∧ lf.testBit v = true ∧ ∀ x, nt k ≤ x → x < v → lf.testBit x = false) ∨ (r = -1 ∧ ∀ x, nt k ≤ x → x < n → lf.testBit x = false))) := by
  refine MtI.of rfl (Nat.le_of_ble_eq_true rfl) ?_
  intro p e s m args below meth c Q A hF hret
  refine WW.cw (lv2 := [(0, .ref (h 0)), (1, .int (nI k)), (2, .int (nI lf))]) rfl rfl rfl ?_
  have loop : ∀ (f i : Nat), i ≤ 7 → nt k ≤ i → 8 ≤ i + f → (∀ x, nt k ≤ x → x < i → lf.testBit x = false) → WW p l e (rmr 0 0) s m args below meth c Q D A 4 0 0 (wX h d n goal best bc L P pa la nt bp ne) 7 [(0, .ref (h 0)), (1, .int (nI k)), (2, .int (nI lf)), (3, .int (nI i))] [] := by
    intro f
    induction f with
    | zero =>
      intro i hi hi2 hf hx
      exact absurd (show False by omega) id
    | succ f ih =>
      intro i hi hi2 hf hx
      refine x_iload_n hF 3 dX1_nextTown_7 rfl rfl ?_
      refine x_aload_n hF 0 dX1_nextTown_8 rfl rfl ?_
      refine x_get (ci := 0) (C := RX1) (T := TX1) (N := 11) (v := .int (nI n)) hF in_X1 0 rfl rfl 0 (by decide) q32 rfl rfl dX1_nextTown_9 ?_
      refine x_icmp_ge hF 31 dX1_nextTown_12 (by decide) (by omega) (by omega) (fun c_12 => ?_) (fun c_12 => ?_)
      · refine x_iconst hF dX1_nextTown_31 kc_im1 ?_
        exact hret _ _ _ _ ⟨rfl, Or.inr ⟨rfl, fun x h1 h2 => hx x h1 (by omega)⟩⟩ rfl dX1_nextTown_32
      · refine x_iload_n hF 2 dX1_nextTown_15 rfl rfl ?_
        refine x_iload_n hF 3 dX1_nextTown_16 rfl rfl ?_
        refine x_ishr (v := nI (lf / 2 ^ i)) hF dX1_nextTown_17 (bt_shr (by omega) (by omega)) ?_
        refine x_iconst hF dX1_nextTown_18 kc_i1 ?_
        refine x_iand (v := nI ((lf / 2 ^ i) % 2)) hF dX1_nextTown_19 (bt_and1 (by exact div_lt hl)) ?_
        refine x_if_eq hF 25 dX1_nextTown_20 (by decide) (by omega) (fun c_20 => ?_) (fun c_20 => ?_)
        · refine x_iinc (v := (nI (i + 1))) (lv' := [(0, .ref (h 0)), (1, .int (nI k)), (2, .int (nI lf)), (3, .int (nI (i + 1)))]) hF 3 dX1_nextTown_25 rfl (ii_1 _) (by decide) rfl ?_
          refine x_goto hF 7 dX1_nextTown_28 (by decide) ?_
          refine ih (i + 1) (by omega) (by omega) (by omega) (fun x h1 h2 => ?_)
          by_cases e : x = i
          · rw [e]; exact (tb_div lf i).mp c_20
          · exact hx x h1 (by omega)
        · refine x_iload_n hF 3 dX1_nextTown_23 rfl rfl ?_
          exact hret _ _ _ _ ⟨rfl, Or.inl ⟨i, rfl, hi2, by omega, (tb_div1 lf i).mp c_20, hx⟩⟩ rfl dX1_nextTown_24
  refine x_aload_n hF 0 dX1_nextTown_0 rfl rfl ?_
  refine x_get (ci := 0) (C := RX1) (T := TX1) (N := 11) (v := .ref (h 5)) hF in_X1 0 rfl rfl 6 (by decide) q38 rfl rfl dX1_nextTown_1 ?_
  refine x_iload_n hF 1 dX1_nextTown_4 rfl rfl ?_
  refine x_bald hF 5 4 rfl rfl (by decide) (by omega) dX1_nextTown_5 ?_
  refine x_istore_n (lv' := [(0, .ref (h 0)), (1, .int (nI k)), (2, .int (nI lf)), (3, .int (nI (nt k)))]) hF dX1_nextTown_6 rfl (by decide) rfl ?_
  exact loop 8 (nt k) ht (by omega) (by omega) (fun x h1 h2 => by omega)
theorem m1_nearestOf {sT : Nat} (hn : n ≤ 7) (hs : sT < 128) (hne : ∀ j, j < n → ne j ≤ 10000) (hx : ∃ x, x < n ∧ sT.testBit x = true) : MtI l yX1_nearestOf cX1_nearestOf 4 .int (rmr 0 0) D (tX d) [.ref (h 0), .int (nI sT)] (wX h d n goal best bc L P pa la nt bp ne) (fun r w1 => w1 = wX h d n goal best bc L P pa la nt bp ne ∧ ∃ v, r = nI v ∧ v < n ∧ sT.testBit v = true ∧ ∀ x, x < n → sT.testBit x = true → ne v ≤ ne x) := by
  refine MtI.of rfl (Nat.le_of_ble_eq_true rfl) ?_
  intro p e s m args below meth c Q A hF hret
  refine WW.cw (lv2 := [(0, .ref (h 0)), (1, .int (nI sT))]) rfl rfl rfl ?_
  have loop : ∀ (f i : Nat) (b : Int32), i ≤ n → n + 1 ≤ i + f → ((b = -1 ∧ ∀ x, x < i → sT.testBit x = false) ∨ ∃ v, b = nI v ∧ v < i ∧ v < n ∧ sT.testBit v = true ∧ ∀ x, x < i → sT.testBit x = true → ne v ≤ ne x) → WW p l e (rmr 0 0) s m args below meth c Q D A 4 0 0 (wX h d n goal best bc L P pa la nt bp ne) 4 [(0, .ref (h 0)), (1, .int (nI sT)), (2, .int b), (3, .int (nI i))] [] := by
    intro f
    induction f with
    | zero =>
      intro i b hi hf hb
      exact absurd (show False by omega) id
    | succ f ih =>
      intro i b hi hf hb
      refine x_iload_n hF 3 dX1_nearestOf_4 rfl rfl ?_
      refine x_aload_n hF 0 dX1_nearestOf_5 rfl rfl ?_
      refine x_get (ci := 0) (C := RX1) (T := TX1) (N := 11) (v := .int (nI n)) hF in_X1 0 rfl rfl 0 (by decide) q32 rfl rfl dX1_nearestOf_6 ?_
      refine x_icmp_ge hF 47 dX1_nearestOf_9 (by decide) (by omega) (by omega) (fun c_9 => ?_) (fun c_9 => ?_)
      · refine x_iload_n hF 2 dX1_nearestOf_47 rfl rfl ?_
        rcases hb with ⟨e, hb⟩ | ⟨v, rfl, h1, h2, h3, h4⟩
        · obtain ⟨x, x1, x2⟩ := hx
          rw [hb x (by omega)] at x2; cases x2
        · exact hret _ _ _ _ ⟨rfl, v, rfl, h2, h3, fun x hx q => h4 x (by omega) q⟩ rfl dX1_nearestOf_48
      · refine x_iload_n hF 1 dX1_nearestOf_12 rfl rfl ?_
        refine x_iload_n hF 3 dX1_nearestOf_13 rfl rfl ?_
        refine x_ishr (v := nI (sT / 2 ^ i)) hF dX1_nearestOf_14 (bt_shr (by omega) (by omega)) ?_
        refine x_iconst hF dX1_nearestOf_15 kc_i1 ?_
        refine x_iand (v := nI ((sT / 2 ^ i) % 2)) hF dX1_nearestOf_16 (bt_and1 (by exact div_lt hs)) ?_
        refine x_if_eq hF 41 dX1_nearestOf_17 (by decide) (by omega) (fun c_17 => ?_) (fun c_17 => ?_)
        · refine x_iinc (v := (nI (i + 1))) (lv' := [(0, .ref (h 0)), (1, .int (nI sT)), (2, .int b), (3, .int (nI (i + 1)))]) hF 3 dX1_nearestOf_41 rfl (ii_1 _) (by decide) rfl ?_
          refine x_goto hF 4 dX1_nearestOf_44 (by decide) ?_
          refine ih (i + 1) b (by omega) (by omega) ?_
          rcases hb with ⟨e, hb⟩ | ⟨v, e, h1, h2, h3, h4⟩
          · exact Or.inl ⟨e, lt_s hb ((tb_div sT i).mp c_17)⟩
          · exact Or.inr ⟨v, e, by omega, h2, h3, lt_s h4 (fun q => by rw [(tb_div sT i).mp c_17] at q; cases q)⟩
        · rcases hb with ⟨rfl, hb⟩ | ⟨v, rfl, h1, h2, h3, h4⟩
          · refine x_iload_n hF 2 dX1_nearestOf_20 rfl rfl ?_
            refine x_if_ltR hF 39 dX1_nearestOf_21 (by decide) (fun c_21 => ?_) (fun c_21 => ?_)
            · refine x_iload_n hF 3 dX1_nearestOf_39 rfl rfl ?_
              refine x_istore_n (lv' := [(0, .ref (h 0)), (1, .int (nI sT)), (2, .int (nI i)), (3, .int (nI i))]) hF dX1_nearestOf_40 rfl (by decide) rfl ?_
              refine x_iinc (v := (nI (i + 1))) (lv' := [(0, .ref (h 0)), (1, .int (nI sT)), (2, .int (nI i)), (3, .int (nI (i + 1)))]) hF 3 dX1_nearestOf_41 rfl (ii_1 _) (by decide) rfl ?_
              refine x_goto hF 4 dX1_nearestOf_44 (by decide) ?_
              refine ih (i + 1) (nI i) (by omega) (by omega) (Or.inr ⟨i, rfl, by omega, by omega, (tb_div1 sT i).mp c_17, ?_⟩)
              exact lt_s (fun x hx q => by rw [hb x hx] at q; cases q) (fun _ => Nat.le_refl _)
            · exact absurd (by decide) c_21
          · refine x_iload_n hF 2 dX1_nearestOf_20 rfl rfl ?_
            refine x_if_lt hF 39 dX1_nearestOf_21 (by decide) (by omega) ?_
            refine x_aload_n hF 0 dX1_nearestOf_24 rfl rfl ?_
            refine x_get (ci := 0) (C := RX1) (T := TX1) (N := 11) (v := .ref (h 7)) hF in_X1 0 rfl rfl 10 (by decide) q42 rfl rfl dX1_nearestOf_25 ?_
            refine x_iload_n hF 3 dX1_nearestOf_28 rfl rfl ?_
            refine x_iald hF 7 6 rfl rfl (by decide) (by omega) dX1_nearestOf_29 ?_
            have hb_29 := hne i (by omega)
            refine x_aload_n hF 0 dX1_nearestOf_30 rfl rfl ?_
            refine x_get (ci := 0) (C := RX1) (T := TX1) (N := 11) (v := .ref (h 7)) hF in_X1 0 rfl rfl 10 (by decide) q42 rfl rfl dX1_nearestOf_31 ?_
            refine x_iload_n hF 2 dX1_nearestOf_34 rfl rfl ?_
            refine x_iald hF 7 6 rfl rfl (by decide) (by omega) dX1_nearestOf_35 ?_
            have hb_35 := hne v (by omega)
            refine x_icmp_ge hF 41 dX1_nearestOf_36 (by decide) (by omega) (by omega) (fun c_36 => ?_) (fun c_36 => ?_)
            · refine x_iinc (v := (nI (i + 1))) (lv' := [(0, .ref (h 0)), (1, .int (nI sT)), (2, .int (nI v)), (3, .int (nI (i + 1)))]) hF 3 dX1_nearestOf_41 rfl (ii_1 _) (by decide) rfl ?_
              refine x_goto hF 4 dX1_nearestOf_44 (by decide) ?_
              exact ih (i + 1) (nI v) (by omega) (by omega) (Or.inr ⟨v, rfl, by omega, h2, h3, lt_s h4 (fun _ => c_36)⟩)
            · refine x_iload_n hF 3 dX1_nearestOf_39 rfl rfl ?_
              refine x_istore_n (lv' := [(0, .ref (h 0)), (1, .int (nI sT)), (2, .int (nI i)), (3, .int (nI i))]) hF dX1_nearestOf_40 rfl (by decide) rfl ?_
              refine x_iinc (v := (nI (i + 1))) (lv' := [(0, .ref (h 0)), (1, .int (nI sT)), (2, .int (nI i)), (3, .int (nI (i + 1)))]) hF 3 dX1_nearestOf_41 rfl (ii_1 _) (by decide) rfl ?_
              refine x_goto hF 4 dX1_nearestOf_44 (by decide) ?_
              refine ih (i + 1) (nI i) (by omega) (by omega) (Or.inr ⟨i, rfl, by omega, by omega, (tb_div1 sT i).mp c_17, ?_⟩)
              exact lt_s (fun x hx q => by have := h4 x hx q; omega) (fun _ => Nat.le_refl _)
  refine x_iconst hF dX1_nearestOf_0 kc_im1 ?_
  refine x_istore_n (lv' := [(0, .ref (h 0)), (1, .int (nI sT)), (2, .int (-1))]) hF dX1_nearestOf_1 rfl (by decide) rfl ?_
  refine x_iconst hF dX1_nearestOf_2 kc_i0 ?_
  refine x_istore_n (lv' := [(0, .ref (h 0)), (1, .int (nI sT)), (2, .int (-1)), (3, .int (nI 0))]) hF dX1_nearestOf_3 rfl (by decide) rfl ?_
  exact loop (n + 1) 0 (-1) (by omega) (by omega) (Or.inl ⟨rfl, lt_0⟩)
theorem m1_offer {wh pl : Nat} (hw : wh < 2147483648) (hbst : best < 2147483648) (hpl : pl ≤ 7) (hpa : ∀ j, j < pl → pa j < 7) : MtV l yX1_offer cX1_offer 4 (rmr 0 0) D (tX d) [.ref (h 0), .int (nI wh), .int (nI pl)] (wX h d n goal best bc L P pa la nt bp ne) (fun w1 => (best < wh ∧ w1 = wX h d n goal best bc L P pa la nt bp ne) ∨ (wh < best ∧ ∃ bp' : Nat → Nat, (∀ j, j < pl → bp' j = pa j) ∧ w1 = wX h d n goal wh 1 L P pa la nt bp' ne) ∨ (wh = best ∧ w1 = wX h d n goal best (bc + 1) L P pa la nt bp ne)) := by
  refine MtV.of rfl (Nat.le_of_ble_eq_true rfl) ?_
  intro p e s m args below meth c Q A hF hret
  refine WW.cw (lv2 := [(0, .ref (h 0)), (1, .int (nI wh)), (2, .int (nI pl))]) rfl rfl rfl ?_
  have loop : wh < best → ∀ (f i : Nat) (bp' : Nat → Nat), i ≤ pl → pl + 1 ≤ i + f → (∀ j, j < i → bp' j = pa j) → WW p l e (rmr 0 0) s m args below meth c Q D A 4 0 0 (wX h d n goal wh 0 L P pa la nt bp' ne) 29 [(0, .ref (h 0)), (1, .int (nI wh)), (2, .int (nI pl)), (3, .int (nI i))] [] := by
    intro hwb
    intro f
    induction f with
    | zero =>
      intro i bp' hi hf hb
      exact absurd (show False by omega) id
    | succ f ih =>
      intro i bp' hi hf hb
      refine x_iload_n hF 3 dX1_offer_29 rfl rfl ?_
      refine x_iload_n hF 2 dX1_offer_30 rfl rfl ?_
      refine x_icmp_ge hF 52 dX1_offer_31 (by decide) (by omega) (by omega) (fun c_31 => ?_) (fun c_31 => ?_)
      · refine x_aload_n hF 0 dX1_offer_52 rfl rfl ?_
        refine x_dup hF dX1_offer_53 rfl ?_
        refine x_get (ci := 0) (C := RX1) (T := TX1) (N := 11) (v := .int (nI 0)) hF in_X1 0 rfl rfl 8 (by decide) q40 rfl rfl dX1_offer_54 ?_
        refine x_iconst hF dX1_offer_57 kc_i1 ?_
        refine x_iadd hF dX1_offer_58 ?_
        refine x_put (ci := 0) (C := RX1) (T := TX1) (N := 11) (w' := wX h d n goal wh (0 + 1) L P pa la nt bp' ne) hF in_X1 tyX1 tyX1_ok nmX1 0 rfl rfl 8 (by decide) q40 rfl rfl rfl rfl (Nat.le_of_ble_eq_true rfl) rfl dX1_offer_59 ?_
        exact hret _ _ _ (Or.inr (Or.inl ⟨hwb, bp', fun j hj => hb j (by omega), rfl⟩)) dX1_offer_62
      · refine x_aload_n hF 0 dX1_offer_34 rfl rfl ?_
        refine x_get (ci := 0) (C := RX1) (T := TX1) (N := 11) (v := .ref (h 6)) hF in_X1 0 rfl rfl 9 (by decide) q41 rfl rfl dX1_offer_35 ?_
        refine x_iload_n hF 3 dX1_offer_38 rfl rfl ?_
        refine x_aload_n hF 0 dX1_offer_39 rfl rfl ?_
        refine x_get (ci := 0) (C := RX1) (T := TX1) (N := 11) (v := .ref (h 3)) hF in_X1 0 rfl rfl 4 (by decide) q36 rfl rfl dX1_offer_40 ?_
        refine x_iload_n hF 3 dX1_offer_43 rfl rfl ?_
        refine x_bald hF 3 2 rfl rfl (by decide) (by omega) dX1_offer_44 ?_
        have hb_44 := hpa i (by omega)
        refine x_bast (w' := wX h d n goal wh 0 L P pa la nt (va_up bp' i (pa i)) ne) hF 6 5 rfl rfl (by decide) (by omega) (by omega) rfl dX1_offer_45 ?_
        refine x_iinc (v := (nI (i + 1))) (lv' := [(0, .ref (h 0)), (1, .int (nI wh)), (2, .int (nI pl)), (3, .int (nI (i + 1)))]) hF 3 dX1_offer_46 rfl (ii_1 _) (by decide) rfl ?_
        refine x_goto hF 29 dX1_offer_49 (by decide) ?_
        exact ih (i + 1) (va_up bp' i (pa i)) (by omega) (by omega) (lt_s (fun j hj => by rw [va_up_ne _ _ (by omega)]; exact hb j hj) (va_up_self _ _ _))
  refine x_iload_n hF 1 dX1_offer_0 rfl rfl ?_
  refine x_aload_n hF 0 dX1_offer_1 rfl rfl ?_
  refine x_get (ci := 0) (C := RX1) (T := TX1) (N := 11) (v := .int (nI best)) hF in_X1 0 rfl rfl 7 (by decide) q39 rfl rfl dX1_offer_2 ?_
  refine x_icmp_le hF 9 dX1_offer_5 (by decide) (by omega) (by omega) (fun c_5 => ?_) (fun c_5 => ?_)
  · refine x_iload_n hF 1 dX1_offer_9 rfl rfl ?_
    refine x_aload_n hF 0 dX1_offer_10 rfl rfl ?_
    refine x_get (ci := 0) (C := RX1) (T := TX1) (N := 11) (v := .int (nI best)) hF in_X1 0 rfl rfl 7 (by decide) q39 rfl rfl dX1_offer_11 ?_
    refine x_icmp_ge hF 52 dX1_offer_14 (by decide) (by omega) (by omega) (fun c_14 => ?_) (fun c_14 => ?_)
    · refine x_aload_n hF 0 dX1_offer_52 rfl rfl ?_
      refine x_dup hF dX1_offer_53 rfl ?_
      refine x_get (ci := 0) (C := RX1) (T := TX1) (N := 11) (v := .int (nI bc)) hF in_X1 0 rfl rfl 8 (by decide) q40 rfl rfl dX1_offer_54 ?_
      refine x_iconst hF dX1_offer_57 kc_i1 ?_
      refine x_iadd hF dX1_offer_58 ?_
      refine x_put (ci := 0) (C := RX1) (T := TX1) (N := 11) (w' := wX h d n goal best (bc + 1) L P pa la nt bp ne) hF in_X1 tyX1 tyX1_ok nmX1 0 rfl rfl 8 (by decide) q40 rfl rfl rfl rfl (Nat.le_of_ble_eq_true rfl) rfl dX1_offer_59 ?_
      exact hret _ _ _ (Or.inr (Or.inr ⟨by omega, rfl⟩)) dX1_offer_62
    · refine x_aload_n hF 0 dX1_offer_17 rfl rfl ?_
      refine x_iload_n hF 1 dX1_offer_18 rfl rfl ?_
      refine x_put (ci := 0) (C := RX1) (T := TX1) (N := 11) (w' := wX h d n goal wh bc L P pa la nt bp ne) hF in_X1 tyX1 tyX1_ok nmX1 0 rfl rfl 7 (by decide) q39 rfl rfl rfl rfl (Nat.le_of_ble_eq_true rfl) rfl dX1_offer_19 ?_
      refine x_aload_n hF 0 dX1_offer_22 rfl rfl ?_
      refine x_iconst hF dX1_offer_23 kc_i0 ?_
      refine x_put (ci := 0) (C := RX1) (T := TX1) (N := 11) (w' := wX h d n goal wh 0 L P pa la nt bp ne) hF in_X1 tyX1 tyX1_ok nmX1 0 rfl rfl 8 (by decide) q40 rfl rfl rfl rfl (Nat.le_of_ble_eq_true rfl) rfl dX1_offer_24 ?_
      refine x_iconst hF dX1_offer_27 kc_i0 ?_
      refine x_istore_n (lv' := [(0, .ref (h 0)), (1, .int (nI wh)), (2, .int (nI pl)), (3, .int (nI 0))]) hF dX1_offer_28 rfl (by decide) rfl ?_
      exact loop (by omega) (pl + 1) 0 bp (by omega) (by omega) lt_0
  · exact hret _ _ _ (Or.inl ⟨by omega, rfl⟩) dX1_offer_8
end
end
section
/-! PURE: what growNet keeps -/
def mx (P : Nat → Nat) (x y : Nat) : Nat := P (7 * x + y)
def inT (n T x : Nat) : Prop := x < n ∧ T.testBit x = true
def GN (P : Nat → Nat) (n T fr R : Nat) (lst : List (Nat × Nat)) (ne : Nat → Nat) : Prop :=
  PR (mx P) (inT n T) fr lst ∧ (∀ x, x < 7 → (R.testBit x = true ↔ inT n T x ∧ ¬ x ∈ vis fr lst)) ∧ ∀ j, j < n → (∃ x, x ∈ vis fr lst ∧ ne j = mx P x j) ∧ ∀ x, x ∈ vis fr lst → ne j ≤ mx P x j
theorem bit_ex : ∀ R, R < 128 → ¬ R = 0 → ∃ x, x < 7 ∧ R.testBit x = true := by decide +kernel
theorem gn_0 {P : Nat → Nat} {n T fr : Nat} {ne : Nat → Nat} (hn : n ≤ 7) (hT : T < 128) (hTn : ∀ x, x < 7 → T.testBit x = true → x < n) (hf : fr < n) (hb : T.testBit fr = true) (hne : ∀ j, j < n → ne j = P (7 * fr + j)) : GN P n T fr (clr T fr) [] ne := by
  refine ⟨⟨hf, hb⟩, ?_, ?_⟩
  · intro x hx
    rw [clr_tb hT (by omega) hx]
    simp only [Bool.and_eq_true, Bool.not_eq_true', beq_eq_false_iff_ne, ne_eq, vis, List.map_nil, List.nil_append, List.mem_singleton]
    exact ⟨fun q => ⟨⟨hTn x hx q.1, q.1⟩, q.2⟩, fun q => ⟨q.1.2, q.2⟩⟩
  · intro j hj
    refine ⟨⟨fr, by simp [vis], hne j hj⟩, fun x hx => ?_⟩
    have : x = fr := by simpa [vis] using hx
    rw [this, hne j hj]
    exact Nat.le_refl _
theorem gn_s {P : Nat → Nat} {n T fr R v : Nat} {lst : List (Nat × Nat)} {ne ne2 : Nat → Nat} (hn : n ≤ 7) (h : GN P n T fr R lst ne) (hR : R < 128) (hv : v < n) (hb : R.testBit v = true) (hm : ∀ x, x < n → R.testBit x = true → ne v ≤ ne x) (h2 : ∀ j, j < n → ne2 j = min (P (7 * v + j)) (ne j)) : GN P n T fr (clr R v) ((v, ne v) :: lst) ne2 := by
  obtain ⟨g1, g2, g3⟩ := h
  have hvv := (g2 v (by omega)).mp hb
  refine ⟨⟨g1, hvv.1, hvv.2, ?_, ?_⟩, ?_, ?_⟩
  · obtain ⟨x, hx, ex⟩ := (g3 v hv).1
    exact ⟨x, hx, ex.symm⟩
  · intro x hx z hz hzn
    have h5 := hm z hz.1 ((g2 z (by have := hz.1; omega)).mpr ⟨hz, hzn⟩)
    exact Nat.le_trans h5 ((g3 z hz.1).2 x hx)
  · intro x hx
    rw [clr_tb hR (by omega) hx]
    simp only [Bool.and_eq_true, Bool.not_eq_true', beq_eq_false_iff_ne, ne_eq]
    rw [g2 x hx]
    constructor
    · rintro ⟨⟨a, b⟩, c⟩
      exact ⟨a, fun q => by
        rcases List.mem_cons.mp (show x ∈ v :: vis fr lst from q) with e | e
        · exact c e
        · exact b e⟩
    · rintro ⟨a, b⟩
      exact ⟨⟨a, fun q => b (List.mem_cons_of_mem _ q)⟩, fun q => b (by rw [q]; exact List.mem_cons_self)⟩
  · intro j hj
    obtain ⟨⟨x, hx, ex⟩, h6⟩ := g3 j hj
    rw [h2 j hj]
    constructor
    · rcases Nat.le_total (P (7 * v + j)) (ne j) with e | e
      · exact ⟨v, List.mem_cons_self, by rw [Nat.min_eq_left e]; rfl⟩
      · exact ⟨x, List.mem_cons_of_mem _ hx, by rw [Nat.min_eq_right e]; exact ex⟩
    · intro y hy
      rcases List.mem_cons.mp (show y ∈ v :: vis fr lst from hy) with e | e
      · rw [e]; exact Nat.min_le_left _ _
      · exact Nat.le_trans (Nat.min_le_right _ _) (h6 y e)
theorem gn_e {P : Nat → Nat} {n T fr : Nat} {lst : List (Nat × Nat)} {ne : Nat → Nat} (hn : n ≤ 7) (h : GN P n T fr 0 lst ne) : ∀ x, inT n T x → x ∈ vis fr lst := by
  intro x hx
  refine Classical.byContradiction (fun q => ?_)
  have := (h.2.1 x (by have := hx.1; omega)).mpr ⟨hx, q⟩
  simp at this
theorem gn_ne {P : Nat → Nat} {n T fr R : Nat} {lst : List (Nat × Nat)} {ne : Nat → Nat} (hn : n ≤ 7) (hP : ∀ j, j < 49 → P j ≤ 10000) (h : GN P n T fr R lst ne) : ∀ j, j < n → ne j ≤ 10000 := by
  intro j hj
  obtain ⟨x, hx, ex⟩ := (h.2.2 j hj).1
  have := vis_S h.1 x hx
  rw [ex]
  exact hP _ (by have := this.1; omega)
theorem gn_mo {P : Nat → Nat} {n T fr R : Nat} {lst : List (Nat × Nat)} {ne : Nat → Nat} (hn : n ≤ 7) (hP : ∀ j, j < 49 → P j ≤ 10000) (h : GN P n T fr R lst ne) : emax lst ≤ 10000 :=
  emax_le (pr_edge (B := 10000) (fun x y hx hy => hP _ (by have := hx.1; have := hy.1; omega)) h.1)
theorem gn_fuel {R v : Nat} (hR : R < 128) (hv : v < 7) (hb : R.testBit v = true) : ctn (fun x => (clr R v).testBit x = true) 7 + 1 = ctn (fun x => R.testBit x = true) 7 := by
  rw [ctn_del (P := fun x => R.testBit x = true) hv hb]
  congr 1
  exact ctn_congr (fun x hx => by rw [clr_tb hR hv hx]; simp)
theorem esum_le {B : Nat} : ∀ {l : List (Nat × Nat)}, (∀ q, q ∈ l → q.2 ≤ B) → esum l ≤ B * l.length
  | [], _ => Nat.le_refl _
  | q :: l, h => by
    have := esum_le (l := l) (fun x hx => h x (List.mem_cons_of_mem _ hx))
    have := h q List.mem_cons_self
    show q.2 + esum l ≤ B * (l.length + 1)
    rw [Nat.mul_add]
    omega
theorem vis_nodup {w : Nat → Nat → Nat} {S : Nat → Prop} {s0 : Nat} : ∀ {l : List (Nat × Nat)}, PR w S s0 l → (vis s0 l).Nodup
  | [], _ => by simp [vis]
  | q :: l, h => List.nodup_cons.mpr ⟨h.2.2.1, vis_nodup h.1⟩
theorem nodup_len : ∀ {N : Nat} {l : List Nat}, l.Nodup → (∀ x, x ∈ l → x < N) → l.length ≤ ctn (fun x => x ∈ l) N
  | N, [], _, _ => Nat.zero_le _
  | N, a :: l, h, hN => by
    have h2 := List.nodup_cons.mp h
    have ih := nodup_len (N := N) h2.2 (fun x hx => hN x (List.mem_cons_of_mem _ hx))
    have e : ctn (fun x => x ∈ a :: l) N = ctn (fun x => x ∈ l) N + 1 := dis_out (hN a List.mem_cons_self) h2.1
    rw [e]
    show l.length + 1 ≤ _
    omega
theorem gn_sum {P : Nat → Nat} {n T fr R : Nat} {lst : List (Nat × Nat)} {ne : Nat → Nat} (hn : n ≤ 7) (hP : ∀ j, j < 49 → P j ≤ 10000) (h : GN P n T fr R lst ne) : esum lst ≤ 70000 := by
  have h1 := esum_le (B := 10000) (pr_edge (B := 10000) (fun x y hx hy => hP _ (by have := hx.1; have := hy.1; omega)) h.1)
  have h2 := nodup_len (N := 7) (vis_nodup h.1) (fun x hx => by have := (vis_S h.1 x hx).1; omega)
  have h3 := ctn_le (fun x => x ∈ vis fr lst) 7
  have h4 : (vis fr lst).length = lst.length + 1 := by simp [vis]
  omega
end
section
/-! TourSolver: growNet, atLeast (printed by a program, wip/D-64046w/src) -/
set_option maxRecDepth 100000
section
variable {l : Launch} {D : va_G} {h : Nat → Nat} {d : Nat → ClassId} {n goal best bc : Nat} {L P pa la nt bp ne : Nat → Nat}
theorem m1_growNet {T fr lo : Nat} (hn : n ≤ 7) (hT : T < 128) (hTn : ∀ x, x < 7 → T.testBit x = true → x < n) (hfr : fr < n) (hb : T.testBit fr = true) (hlo : lo ≤ 1) (hP : ∀ j, j < 49 → P j ≤ 10000) : MtI l yX1_growNet cX1_growNet 9 .int (rmr 1 23) D (tX d) [.ref (h 0), .int (nI T), .int (nI fr), .int (nI lo)] (wX h d n goal best bc L P pa la nt bp ne) (fun r w1 => ∃ (lst : List (Nat × Nat)) (ne' : Nat → Nat), PR (mx P) (inT n T) fr lst ∧ (∀ x, inT n T x → x ∈ vis fr lst) ∧ esum lst ≤ 70000 ∧ r = nI (if lo = 0 then esum lst else emax lst) ∧ w1 = wX h d n goal best bc L P pa la nt bp ne') := by
  refine MtI.of rfl (Nat.le_of_ble_eq_true rfl) ?_
  intro p e s m args below meth c Q A hF hret
  refine WW.cw (lv2 := [(0, .ref (h 0)), (1, .int (nI T)), (2, .int (nI fr)), (3, .int (nI lo))]) rfl rfl rfl ?_
  have loop3 : ∀ (v R tt mo : Nat) (ne1 : Nat → Nat), v < n → (∀ j, j < n → ne1 j ≤ 10000) → (∀ ne2 : Nat → Nat, (∀ j, j < n → ne2 j = min (P (7 * v + j)) (ne1 j)) → WW p l e (rmr 1 23) s m args below meth c Q D A 9 0 0 (wX h d n goal best bc L P pa la nt bp ne2) 52 [(0, .ref (h 0)), (1, .int (nI T)), (2, .int (nI fr)), (3, .int (nI lo)), (4, .int (nI R)), (5, .int (nI tt)), (6, .int (nI mo))] []) → ∀ (f i : Nat) (ne2 : Nat → Nat), i ≤ n → n + 1 ≤ i + f → (∀ j, j < i → ne2 j = min (P (7 * v + j)) (ne1 j)) → (∀ j, i ≤ j → j < n → ne2 j = ne1 j) → WW p l e (rmr 1 23) s m args below meth c Q D A 9 0 0 (wX h d n goal best bc L P pa la nt bp ne2) 112 [(0, .ref (h 0)), (1, .int (nI T)), (2, .int (nI fr)), (3, .int (nI lo)), (4, .int (nI R)), (5, .int (nI tt)), (6, .int (nI mo)), (7, .int (nI v)), (8, .int (nI i))] [] := by
    intro v R tt mo ne1 hv hne1 K
    intro f
    induction f with
    | zero =>
      intro i ne2 hi hf h1 h2
      exact absurd (show False by omega) id
    | succ f ih =>
      intro i ne2 hi hf h1 h2
      refine x_iload hF 8 dX1_growNet_112 rfl ?_
      refine x_aload_n hF 0 dX1_growNet_114 rfl rfl ?_
      refine x_get (ci := 0) (C := RX1) (T := TX1) (N := 11) (v := .int (nI n)) hF in_X1 0 rfl rfl 0 (by decide) q32 rfl rfl dX1_growNet_115 ?_
      refine x_icmp_ge hF 170 dX1_growNet_118 (by decide) (by omega) (by omega) (fun c_118 => ?_) (fun c_118 => ?_)
      · refine x_goto hF 52 dX1_growNet_170 (by decide) ?_
        refine WW.lvs [0, 1, 2, 3, 4, 5, 6] rfl ?_
        exact K ne2 (fun j hj => h1 j (by omega))
      · have e2 : ne2 i = ne1 i := h2 i (Nat.le_refl _) (by omega)
        have e3 := hne1 i (by omega)
        refine x_aload_n hF 0 dX1_growNet_121 rfl rfl ?_
        refine x_get (ci := 0) (C := RX1) (T := TX1) (N := 11) (v := .ref (h 2)) hF in_X1 0 rfl rfl 3 (by decide) q35 rfl rfl dX1_growNet_122 ?_
        refine x_bipush hF dX1_growNet_125 kc_b7 ?_
        refine x_iload hF 7 dX1_growNet_127 rfl ?_
        refine x_imul hF dX1_growNet_129 ?_
        refine x_iload hF 8 dX1_growNet_130 rfl ?_
        refine x_iadd hF dX1_growNet_132 ?_
        refine x_iald hF 2 1 rfl rfl (by decide) (by omega) dX1_growNet_133 ?_
        have hb_133 := hP ((7 * v) + i) (by omega)
        refine x_aload_n hF 0 dX1_growNet_134 rfl rfl ?_
        refine x_get (ci := 0) (C := RX1) (T := TX1) (N := 11) (v := .ref (h 7)) hF in_X1 0 rfl rfl 10 (by decide) q42 rfl rfl dX1_growNet_135 ?_
        refine x_iload hF 8 dX1_growNet_138 rfl ?_
        refine x_iald hF 7 6 rfl rfl (by decide) (by omega) dX1_growNet_140 ?_
        refine x_icmp_ge hF 164 dX1_growNet_141 (by decide) (by omega) (by omega) (fun c_141 => ?_) (fun c_141 => ?_)
        · refine x_iinc (v := (nI (i + 1))) (lv' := [(0, .ref (h 0)), (1, .int (nI T)), (2, .int (nI fr)), (3, .int (nI lo)), (4, .int (nI R)), (5, .int (nI tt)), (6, .int (nI mo)), (7, .int (nI v)), (8, .int (nI (i + 1)))]) hF 8 dX1_growNet_164 rfl (ii_1 _) (by decide) rfl ?_
          refine x_goto hF 112 dX1_growNet_167 (by decide) ?_
          refine ih (i + 1) ne2 (by omega) (by omega) (lt_s h1 ?_) (fun j hj hj2 => h2 j (by omega) hj2)
          rw [e2, Nat.min_eq_right (by omega)]
        · refine x_aload_n hF 0 dX1_growNet_144 rfl rfl ?_
          refine x_get (ci := 0) (C := RX1) (T := TX1) (N := 11) (v := .ref (h 7)) hF in_X1 0 rfl rfl 10 (by decide) q42 rfl rfl dX1_growNet_145 ?_
          refine x_iload hF 8 dX1_growNet_148 rfl ?_
          refine x_aload_n hF 0 dX1_growNet_150 rfl rfl ?_
          refine x_get (ci := 0) (C := RX1) (T := TX1) (N := 11) (v := .ref (h 2)) hF in_X1 0 rfl rfl 3 (by decide) q35 rfl rfl dX1_growNet_151 ?_
          refine x_bipush hF dX1_growNet_154 kc_b7 ?_
          refine x_iload hF 7 dX1_growNet_156 rfl ?_
          refine x_imul hF dX1_growNet_158 ?_
          refine x_iload hF 8 dX1_growNet_159 rfl ?_
          refine x_iadd hF dX1_growNet_161 ?_
          refine x_iald hF 2 1 rfl rfl (by decide) (by omega) dX1_growNet_162 ?_
          have hb_162 := hP ((7 * v) + i) (by omega)
          refine x_iast (w' := wX h d n goal best bc L P pa la nt bp (va_up ne2 i (P ((7 * v) + i)))) hF 7 6 rfl rfl (by decide) (by omega) rfl dX1_growNet_163 ?_
          refine x_iinc (v := (nI (i + 1))) (lv' := [(0, .ref (h 0)), (1, .int (nI T)), (2, .int (nI fr)), (3, .int (nI lo)), (4, .int (nI R)), (5, .int (nI tt)), (6, .int (nI mo)), (7, .int (nI v)), (8, .int (nI (i + 1)))]) hF 8 dX1_growNet_164 rfl (ii_1 _) (by decide) rfl ?_
          refine x_goto hF 112 dX1_growNet_167 (by decide) ?_
          refine ih (i + 1) _ (by omega) (by omega) (lt_s (fun j hj => by rw [va_up_ne _ _ (by omega)]; exact h1 j hj) ?_) (fun j hj hj2 => by rw [va_up_ne _ _ (by omega)]; exact h2 j (by omega) hj2)
          rw [va_up_self, Nat.min_eq_left (by omega)]
  have loop2 : ∀ (f R tt mo : Nat) (lst : List (Nat × Nat)) (ne1 : Nat → Nat), R < 128 → ctn (fun x => R.testBit x = true) 7 < f → GN P n T fr R lst ne1 → tt = esum lst → mo = emax lst → WW p l e (rmr 1 23) s m args below meth c Q D A 9 0 0 (wX h d n goal best bc L P pa la nt bp ne1) 52 [(0, .ref (h 0)), (1, .int (nI T)), (2, .int (nI fr)), (3, .int (nI lo)), (4, .int (nI R)), (5, .int (nI tt)), (6, .int (nI mo))] [] := by
    intro f
    induction f with
    | zero =>
      intro R tt mo lst ne1 hR hf hG ht hm
      exact absurd (show False by omega) id
    | succ f ih =>
      intro R tt mo lst ne1 hR hf hG ht hm
      refine x_iload hF 4 dX1_growNet_52 rfl ?_
      refine x_if_eq hF 173 dX1_growNet_54 (by decide) (by omega) (fun c_54 => ?_) (fun c_54 => ?_)
      · refine x_iload_n hF 3 dX1_growNet_173 rfl rfl ?_
        refine x_if_eq hF 182 dX1_growNet_174 (by decide) (by omega) (fun c_174 => ?_) (fun c_174 => ?_)
        · refine x_iload hF 5 dX1_growNet_182 rfl ?_
          exact hret _ _ _ _ ⟨lst, ne1, hG.1, gn_e hn (c_54 ▸ hG), gn_sum hn hP hG, by rw [if_pos c_174, ht], rfl⟩ rfl dX1_growNet_184
        · refine x_iload hF 6 dX1_growNet_177 rfl ?_
          refine x_goto hF 184 dX1_growNet_179 (by decide) ?_
          exact hret _ _ _ _ ⟨lst, ne1, hG.1, gn_e hn (c_54 ▸ hG), gn_sum hn hP hG, by rw [if_neg c_174, hm], rfl⟩ rfl dX1_growNet_184
      · have hne := gn_ne hn hP hG
        have hmo := gn_mo hn hP hG
        refine x_aload_n hF 0 dX1_growNet_57 rfl rfl ?_
        refine x_iload hF 4 dX1_growNet_58 rfl ?_
        refine x_calli (C := RX1) (T := TX1) (N := 11) (ci := 0) (q0 := 0) (b := h 0) (As := [.int (nI R)]) (rest := []) hF (m1_nearestOf hn hR hne (by obtain ⟨x, x1, x2⟩ := bit_ex R hR c_54; exact ⟨x, ((hG.2.1 x x1).mp x2).1.1, x2⟩)) 1 (lw_V q113 q115 qs9 q22 q116) rfl rfl (by decide +kernel) ⟨by decide, by decide⟩ rfl rfl rfl rfl (Nat.le_of_ble_eq_true rfl) dX1_growNet_60 ⟨Nat.zero_le _, Nat.zero_le _⟩ (fun r_60 w_60 hp_60 => ?_)
        obtain ⟨rfl, v, rfl, hv, hvb, hvm⟩ := hp_60
        have hv7 : v < 7 := by omega
        refine x_istore (lv' := [(0, .ref (h 0)), (1, .int (nI T)), (2, .int (nI fr)), (3, .int (nI lo)), (4, .int (nI R)), (5, .int (nI tt)), (6, .int (nI mo)), (7, .int (nI v))]) hF dX1_growNet_63 (by decide) rfl ?_
        refine x_iload hF 5 dX1_growNet_65 rfl ?_
        refine x_aload_n hF 0 dX1_growNet_67 rfl rfl ?_
        refine x_get (ci := 0) (C := RX1) (T := TX1) (N := 11) (v := .ref (h 7)) hF in_X1 0 rfl rfl 10 (by decide) q42 rfl rfl dX1_growNet_68 ?_
        refine x_iload hF 7 dX1_growNet_71 rfl ?_
        refine x_iald hF 7 6 rfl rfl (by decide) (by omega) dX1_growNet_73 ?_
        have hb_73 := hne v (by omega)
        refine x_iadd hF dX1_growNet_74 ?_
        refine x_istore (lv' := [(0, .ref (h 0)), (1, .int (nI T)), (2, .int (nI fr)), (3, .int (nI lo)), (4, .int (nI R)), (5, .int (nI (tt + (ne1 v)))), (6, .int (nI mo)), (7, .int (nI v))]) hF dX1_growNet_75 (by decide) rfl ?_
        refine x_aload_n hF 0 dX1_growNet_77 rfl rfl ?_
        refine x_get (ci := 0) (C := RX1) (T := TX1) (N := 11) (v := .ref (h 7)) hF in_X1 0 rfl rfl 10 (by decide) q42 rfl rfl dX1_growNet_78 ?_
        refine x_iload hF 7 dX1_growNet_81 rfl ?_
        refine x_iald hF 7 6 rfl rfl (by decide) (by omega) dX1_growNet_83 ?_
        have hb_83 := hne v (by omega)
        refine x_iload hF 6 dX1_growNet_84 rfl ?_
        refine x_icmp_le hF 98 dX1_growNet_86 (by decide) (by omega) (by omega) (fun c_86 => ?_) (fun c_86 => ?_)
        · refine x_iload hF 4 dX1_growNet_98 rfl ?_
          refine x_iconst hF dX1_growNet_100 kc_i1 ?_
          refine x_iload hF 7 dX1_growNet_101 rfl ?_
          refine x_ishl (v := nI (2 ^ v)) hF dX1_growNet_103 (bt_shl (by omega)) ?_
          refine x_iconst hF dX1_growNet_104 kc_im1 ?_
          refine x_ixor hF dX1_growNet_105 rfl ?_
          refine x_iand (v := nI (clr R v)) hF dX1_growNet_106 (bt_clr (by exact hR) (by exact hv7)) ?_
          refine x_istore (lv' := [(0, .ref (h 0)), (1, .int (nI T)), (2, .int (nI fr)), (3, .int (nI lo)), (4, .int (nI (clr R v))), (5, .int (nI (tt + (ne1 v)))), (6, .int (nI mo)), (7, .int (nI v))]) hF dX1_growNet_107 (by decide) rfl ?_
          refine x_iconst hF dX1_growNet_109 kc_i0 ?_
          refine x_istore (lv' := [(0, .ref (h 0)), (1, .int (nI T)), (2, .int (nI fr)), (3, .int (nI lo)), (4, .int (nI (clr R v))), (5, .int (nI (tt + (ne1 v)))), (6, .int (nI mo)), (7, .int (nI v)), (8, .int (nI 0))]) hF dX1_growNet_110 (by decide) rfl ?_
          refine loop3 v (clr R v) (tt + ne1 v) mo ne1 hv hne (fun ne2 h2 => ?_) (n + 1) 0 ne1 (by omega) (by omega) lt_0 (fun j _ _ => rfl)
          refine ih (clr R v) (tt + ne1 v) mo ((v, ne1 v) :: lst) ne2 (clr_lt hR hv7) (by have := gn_fuel hR hv7 hvb; omega) (gn_s hn hG hR hv hvb hvm h2) (by rw [ht]; exact Nat.add_comm _ _) ?_
          show _ = max (ne1 v) (emax lst)
          omega
        · refine x_aload_n hF 0 dX1_growNet_89 rfl rfl ?_
          refine x_get (ci := 0) (C := RX1) (T := TX1) (N := 11) (v := .ref (h 7)) hF in_X1 0 rfl rfl 10 (by decide) q42 rfl rfl dX1_growNet_90 ?_
          refine x_iload hF 7 dX1_growNet_93 rfl ?_
          refine x_iald hF 7 6 rfl rfl (by decide) (by omega) dX1_growNet_95 ?_
          have hb_95 := hne v (by omega)
          refine x_istore (lv' := [(0, .ref (h 0)), (1, .int (nI T)), (2, .int (nI fr)), (3, .int (nI lo)), (4, .int (nI R)), (5, .int (nI (tt + (ne1 v)))), (6, .int (nI (ne1 v))), (7, .int (nI v))]) hF dX1_growNet_96 (by decide) rfl ?_
          refine x_iload hF 4 dX1_growNet_98 rfl ?_
          refine x_iconst hF dX1_growNet_100 kc_i1 ?_
          refine x_iload hF 7 dX1_growNet_101 rfl ?_
          refine x_ishl (v := nI (2 ^ v)) hF dX1_growNet_103 (bt_shl (by omega)) ?_
          refine x_iconst hF dX1_growNet_104 kc_im1 ?_
          refine x_ixor hF dX1_growNet_105 rfl ?_
          refine x_iand (v := nI (clr R v)) hF dX1_growNet_106 (bt_clr (by exact hR) (by exact hv7)) ?_
          refine x_istore (lv' := [(0, .ref (h 0)), (1, .int (nI T)), (2, .int (nI fr)), (3, .int (nI lo)), (4, .int (nI (clr R v))), (5, .int (nI (tt + (ne1 v)))), (6, .int (nI (ne1 v))), (7, .int (nI v))]) hF dX1_growNet_107 (by decide) rfl ?_
          refine x_iconst hF dX1_growNet_109 kc_i0 ?_
          refine x_istore (lv' := [(0, .ref (h 0)), (1, .int (nI T)), (2, .int (nI fr)), (3, .int (nI lo)), (4, .int (nI (clr R v))), (5, .int (nI (tt + (ne1 v)))), (6, .int (nI (ne1 v))), (7, .int (nI v)), (8, .int (nI 0))]) hF dX1_growNet_110 (by decide) rfl ?_
          refine loop3 v (clr R v) (tt + ne1 v) (ne1 v) ne1 hv hne (fun ne2 h2 => ?_) (n + 1) 0 ne1 (by omega) (by omega) lt_0 (fun j _ _ => rfl)
          refine ih (clr R v) (tt + ne1 v) (ne1 v) ((v, ne1 v) :: lst) ne2 (clr_lt hR hv7) (by have := gn_fuel hR hv7 hvb; omega) (gn_s hn hG hR hv hvb hvm h2) (by rw [ht]; exact Nat.add_comm _ _) ?_
          show _ = max (ne1 v) (emax lst)
          omega
  have loop1 : ∀ (f i : Nat) (ne1 : Nat → Nat), i ≤ n → n + 1 ≤ i + f → (∀ j, j < i → ne1 j = P (7 * fr + j)) → WW p l e (rmr 1 23) s m args below meth c Q D A 9 0 0 (wX h d n goal best bc L P pa la nt bp ne1) 18 [(0, .ref (h 0)), (1, .int (nI T)), (2, .int (nI fr)), (3, .int (nI lo)), (4, .int (nI (clr T fr))), (5, .int (nI 0)), (6, .int (nI 0)), (7, .int (nI i))] [] := by
    intro f
    induction f with
    | zero =>
      intro i ne1 hi hf h1
      exact absurd (show False by omega) id
    | succ f ih =>
      intro i ne1 hi hf h1
      refine x_iload hF 7 dX1_growNet_18 rfl ?_
      refine x_aload_n hF 0 dX1_growNet_20 rfl rfl ?_
      refine x_get (ci := 0) (C := RX1) (T := TX1) (N := 11) (v := .int (nI n)) hF in_X1 0 rfl rfl 0 (by decide) q32 rfl rfl dX1_growNet_21 ?_
      refine x_icmp_ge hF 52 dX1_growNet_24 (by decide) (by omega) (by omega) (fun c_24 => ?_) (fun c_24 => ?_)
      · refine WW.lvs [0, 1, 2, 3, 4, 5, 6] rfl ?_
        exact loop2 8 (clr T fr) 0 0 [] ne1 (clr_lt hT (by omega)) (Nat.lt_succ_of_le (ctn_le _ 7)) (gn_0 hn hT hTn hfr hb (fun j hj => h1 j (by omega))) rfl rfl
      · refine x_aload_n hF 0 dX1_growNet_27 rfl rfl ?_
        refine x_get (ci := 0) (C := RX1) (T := TX1) (N := 11) (v := .ref (h 7)) hF in_X1 0 rfl rfl 10 (by decide) q42 rfl rfl dX1_growNet_28 ?_
        refine x_iload hF 7 dX1_growNet_31 rfl ?_
        refine x_aload_n hF 0 dX1_growNet_33 rfl rfl ?_
        refine x_get (ci := 0) (C := RX1) (T := TX1) (N := 11) (v := .ref (h 2)) hF in_X1 0 rfl rfl 3 (by decide) q35 rfl rfl dX1_growNet_34 ?_
        refine x_bipush hF dX1_growNet_37 kc_b7 ?_
        refine x_iload_n hF 2 dX1_growNet_39 rfl rfl ?_
        refine x_imul hF dX1_growNet_40 ?_
        refine x_iload hF 7 dX1_growNet_41 rfl ?_
        refine x_iadd hF dX1_growNet_43 ?_
        refine x_iald hF 2 1 rfl rfl (by decide) (by omega) dX1_growNet_44 ?_
        refine x_iast (w' := wX h d n goal best bc L P pa la nt bp (va_up ne1 i (P ((7 * fr) + i)))) hF 7 6 rfl rfl (by decide) (by omega) rfl dX1_growNet_45 ?_
        refine x_iinc (v := (nI (i + 1))) (lv' := [(0, .ref (h 0)), (1, .int (nI T)), (2, .int (nI fr)), (3, .int (nI lo)), (4, .int (nI (clr T fr))), (5, .int (nI 0)), (6, .int (nI 0)), (7, .int (nI (i + 1)))]) hF 7 dX1_growNet_46 rfl (ii_1 _) (by decide) rfl ?_
        refine x_goto hF 18 dX1_growNet_49 (by decide) ?_
        exact ih (i + 1) _ (by omega) (by omega) (lt_s (fun j hj => by rw [va_up_ne _ _ (by omega)]; exact h1 j hj) (va_up_self _ _ _))
  refine x_iload_n hF 1 dX1_growNet_0 rfl rfl ?_
  refine x_iconst hF dX1_growNet_1 kc_i1 ?_
  refine x_iload_n hF 2 dX1_growNet_2 rfl rfl ?_
  refine x_ishl (v := nI (2 ^ fr)) hF dX1_growNet_3 (bt_shl (by omega)) ?_
  refine x_iconst hF dX1_growNet_4 kc_im1 ?_
  refine x_ixor hF dX1_growNet_5 rfl ?_
  refine x_iand (v := nI (clr T fr)) hF dX1_growNet_6 (bt_clr (by exact hT) (by omega)) ?_
  refine x_istore (lv' := [(0, .ref (h 0)), (1, .int (nI T)), (2, .int (nI fr)), (3, .int (nI lo)), (4, .int (nI (clr T fr)))]) hF dX1_growNet_7 (by decide) rfl ?_
  refine x_iconst hF dX1_growNet_9 kc_i0 ?_
  refine x_istore (lv' := [(0, .ref (h 0)), (1, .int (nI T)), (2, .int (nI fr)), (3, .int (nI lo)), (4, .int (nI (clr T fr))), (5, .int (nI 0))]) hF dX1_growNet_10 (by decide) rfl ?_
  refine x_iconst hF dX1_growNet_12 kc_i0 ?_
  refine x_istore (lv' := [(0, .ref (h 0)), (1, .int (nI T)), (2, .int (nI fr)), (3, .int (nI lo)), (4, .int (nI (clr T fr))), (5, .int (nI 0)), (6, .int (nI 0))]) hF dX1_growNet_13 (by decide) rfl ?_
  refine x_iconst hF dX1_growNet_15 kc_i0 ?_
  refine x_istore (lv' := [(0, .ref (h 0)), (1, .int (nI T)), (2, .int (nI fr)), (3, .int (nI lo)), (4, .int (nI (clr T fr))), (5, .int (nI 0)), (6, .int (nI 0)), (7, .int (nI 0))]) hF dX1_growNet_16 (by decide) rfl ?_
  exact loop1 (n + 1) 0 ne (by omega) (by omega) lt_0
theorem m1_atLeast {a R : Nat} (hn : n ≤ 7) (ha : a < n) (hg : goal < n) (hR : R < 128) (hRn : ∀ x, x < 7 → R.testBit x = true → x < n) (hP : ∀ j, j < 49 → P j ≤ 10000) (hsym : ∀ x y, x < n → y < n → mx P x y = mx P y x) : MtI l yX1_atLeast cX1_atLeast 7 .int (rmr 2 51) D (tX d) [.ref (h 0), .int (nI a), .int (nI R)] (wX h d n goal best bc L P pa la nt bp ne) (fun r w1 => ∃ (b : Nat) (ne' : Nat → Nat), r = nI b ∧ b ≤ 90000 ∧ (∀ q : List Nat, (∀ x, x ∈ q ↔ inT n R x) → b ≤ cst (mx P) a q goal) ∧ w1 = wX h d n goal best bc L P pa la nt bp ne') := by
  refine MtI.of rfl (Nat.le_of_ble_eq_true rfl) ?_
  intro p e s m args below meth c Q A hF hret
  refine WW.cw (lv2 := [(0, .ref (h 0)), (1, .int (nI a)), (2, .int (nI R))]) rfl rfl rfl ?_
  have loop : ¬ R = 0 → ∀ (f i to fo an : Nat), i ≤ n → n + 1 ≤ i + f → to ≤ 10000 → fo ≤ 10000 → (∀ x, x < i → R.testBit x = true → to ≤ P (7 * a + x)) → (∀ x, x < i → R.testBit x = true → fo ≤ P (7 * goal + x)) → ((∀ x, x < i → R.testBit x = false) ∨ (an < n ∧ R.testBit an = true)) → WW p l e (rmr 2 51) s m args below meth c Q D A 7 0 0 (wX h d n goal best bc L P pa la nt bp ne) 34 [(0, .ref (h 0)), (1, .int (nI a)), (2, .int (nI R)), (3, .int (nI to)), (4, .int (nI fo)), (5, .int (nI an)), (6, .int (nI i))] [] := by
    intro hR0
    intro f
    induction f with
    | zero =>
      intro i to fo an hi hf hto hfo h1 h2 h3
      exact absurd (show False by omega) id
    | succ f ih =>
      intro i to fo an hi hf hto hfo h1 h2 h3
      refine x_iload hF 6 dX1_atLeast_34 rfl ?_
      refine x_aload_n hF 0 dX1_atLeast_36 rfl rfl ?_
      refine x_get (ci := 0) (C := RX1) (T := TX1) (N := 11) (v := .int (nI n)) hF in_X1 0 rfl rfl 0 (by decide) q32 rfl rfl dX1_atLeast_37 ?_
      refine x_icmp_ge hF 131 dX1_atLeast_40 (by decide) (by omega) (by omega) (fun c_40 => ?_) (fun c_40 => ?_)
      · have h3 : an < n ∧ R.testBit an = true := by
          rcases h3 with h3 | h3
          · obtain ⟨x, x1, x2⟩ := bit_ex R hR hR0
            rw [h3 x (by have := hRn x x1 x2; omega)] at x2; cases x2
          · exact h3
        refine x_iload_n hF 3 dX1_atLeast_131 rfl rfl ?_
        refine x_iload hF 4 dX1_atLeast_132 rfl ?_
        refine x_iadd hF dX1_atLeast_134 ?_
        refine x_aload_n hF 0 dX1_atLeast_135 rfl rfl ?_
        refine x_iload_n hF 2 dX1_atLeast_136 rfl rfl ?_
        refine x_iload hF 5 dX1_atLeast_137 rfl ?_
        refine x_iconst hF dX1_atLeast_139 kc_i0 ?_
        refine x_calli (C := RX1) (T := TX1) (N := 11) (ci := 0) (q0 := 0) (b := h 0) (As := [.int (nI R), .int (nI an), .int (nI 0)]) (rest := [.int (nI (to + fo))]) hF (m1_growNet hn hR hRn h3.1 h3.2 (Nat.zero_le 1) hP) 3 (lw_V q109 q111 qs8 q22 q112) rfl rfl (by decide +kernel) ⟨by decide, by decide⟩ rfl rfl rfl rfl (Nat.le_of_ble_eq_true rfl) dX1_atLeast_140 ⟨Nat.zero_le _, Nat.zero_le _⟩ (fun r_140 w_140 hp_140 => ?_)
        obtain ⟨lst, ne', g1, g2, g4, rfl, rfl⟩ := hp_140
        rw [if_pos rfl]
        refine x_iadd hF dX1_atLeast_143 ?_
        refine hret _ _ _ _ ⟨_, ne', rfl, by omega, fun q hq => ?_, rfl⟩ rfl dX1_atLeast_144
        exact least_ok (fun x y hx hy => hsym x y hx.1 hy.1) g1 g2 (fun x hx => h1 x (by have := hx.1; omega) hx.2) (fun x hx => by rw [hsym x goal hx.1 hg]; exact h2 x (by have := hx.1; omega) hx.2) q hq
      · refine x_iload_n hF 2 dX1_atLeast_43 rfl rfl ?_
        refine x_iload hF 6 dX1_atLeast_44 rfl ?_
        refine x_ishr (v := nI (R / 2 ^ i)) hF dX1_atLeast_46 (bt_shr (by omega) (by omega)) ?_
        refine x_iconst hF dX1_atLeast_47 kc_i1 ?_
        refine x_iand (v := nI ((R / 2 ^ i) % 2)) hF dX1_atLeast_48 (bt_and1 (by exact div_lt hR)) ?_
        refine x_if_ne hF 55 dX1_atLeast_49 (by decide) (by omega) (fun c_49 => ?_) (fun c_49 => ?_)
        · refine x_iload hF 6 dX1_atLeast_55 rfl ?_
          refine x_istore (lv' := [(0, .ref (h 0)), (1, .int (nI a)), (2, .int (nI R)), (3, .int (nI to)), (4, .int (nI fo)), (5, .int (nI i)), (6, .int (nI i))]) hF dX1_atLeast_57 (by decide) rfl ?_
          refine x_aload_n hF 0 dX1_atLeast_59 rfl rfl ?_
          refine x_get (ci := 0) (C := RX1) (T := TX1) (N := 11) (v := .ref (h 2)) hF in_X1 0 rfl rfl 3 (by decide) q35 rfl rfl dX1_atLeast_60 ?_
          refine x_bipush hF dX1_atLeast_63 kc_b7 ?_
          refine x_iload_n hF 1 dX1_atLeast_65 rfl rfl ?_
          refine x_imul hF dX1_atLeast_66 ?_
          refine x_iload hF 6 dX1_atLeast_67 rfl ?_
          refine x_iadd hF dX1_atLeast_69 ?_
          refine x_iald hF 2 1 rfl rfl (by decide) (by omega) dX1_atLeast_70 ?_
          have hb_70 := hP ((7 * a) + i) (by omega)
          refine x_iload_n hF 3 dX1_atLeast_71 rfl rfl ?_
          refine x_icmp_ge hF 88 dX1_atLeast_72 (by decide) (by omega) (by omega) (fun c_72 => ?_) (fun c_72 => ?_)
          · refine x_aload_n hF 0 dX1_atLeast_88 rfl rfl ?_
            refine x_get (ci := 0) (C := RX1) (T := TX1) (N := 11) (v := .ref (h 2)) hF in_X1 0 rfl rfl 3 (by decide) q35 rfl rfl dX1_atLeast_89 ?_
            refine x_bipush hF dX1_atLeast_92 kc_b7 ?_
            refine x_aload_n hF 0 dX1_atLeast_94 rfl rfl ?_
            refine x_get (ci := 0) (C := RX1) (T := TX1) (N := 11) (v := .int (nI goal)) hF in_X1 0 rfl rfl 2 (by decide) q34 rfl rfl dX1_atLeast_95 ?_
            refine x_imul hF dX1_atLeast_98 ?_
            refine x_iload hF 6 dX1_atLeast_99 rfl ?_
            refine x_iadd hF dX1_atLeast_101 ?_
            refine x_iald hF 2 1 rfl rfl (by decide) (by omega) dX1_atLeast_102 ?_
            have hb_102 := hP ((7 * goal) + i) (by omega)
            refine x_iload hF 4 dX1_atLeast_103 rfl ?_
            refine x_icmp_ge hF 125 dX1_atLeast_105 (by decide) (by omega) (by omega) (fun c_105 => ?_) (fun c_105 => ?_)
            · refine x_iinc (v := (nI (i + 1))) (lv' := [(0, .ref (h 0)), (1, .int (nI a)), (2, .int (nI R)), (3, .int (nI to)), (4, .int (nI fo)), (5, .int (nI i)), (6, .int (nI (i + 1)))]) hF 6 dX1_atLeast_125 rfl (ii_1 _) (by decide) rfl ?_
              refine x_goto hF 34 dX1_atLeast_128 (by decide) ?_
              exact ih (i + 1) to fo i (by omega) (by omega) (by omega) (by omega) (lt_s (fun x hx q => by have := h1 x hx q; omega) (fun _ => by omega)) (lt_s (fun x hx q => by have := h2 x hx q; omega) (fun _ => by omega)) (Or.inr ⟨by omega, (tb_div1 R i).mp c_49⟩)
            · refine x_aload_n hF 0 dX1_atLeast_108 rfl rfl ?_
              refine x_get (ci := 0) (C := RX1) (T := TX1) (N := 11) (v := .ref (h 2)) hF in_X1 0 rfl rfl 3 (by decide) q35 rfl rfl dX1_atLeast_109 ?_
              refine x_bipush hF dX1_atLeast_112 kc_b7 ?_
              refine x_aload_n hF 0 dX1_atLeast_114 rfl rfl ?_
              refine x_get (ci := 0) (C := RX1) (T := TX1) (N := 11) (v := .int (nI goal)) hF in_X1 0 rfl rfl 2 (by decide) q34 rfl rfl dX1_atLeast_115 ?_
              refine x_imul hF dX1_atLeast_118 ?_
              refine x_iload hF 6 dX1_atLeast_119 rfl ?_
              refine x_iadd hF dX1_atLeast_121 ?_
              refine x_iald hF 2 1 rfl rfl (by decide) (by omega) dX1_atLeast_122 ?_
              have hb_122 := hP ((7 * goal) + i) (by omega)
              refine x_istore (lv' := [(0, .ref (h 0)), (1, .int (nI a)), (2, .int (nI R)), (3, .int (nI to)), (4, .int (nI (P ((7 * goal) + i)))), (5, .int (nI i)), (6, .int (nI i))]) hF dX1_atLeast_123 (by decide) rfl ?_
              refine x_iinc (v := (nI (i + 1))) (lv' := [(0, .ref (h 0)), (1, .int (nI a)), (2, .int (nI R)), (3, .int (nI to)), (4, .int (nI (P ((7 * goal) + i)))), (5, .int (nI i)), (6, .int (nI (i + 1)))]) hF 6 dX1_atLeast_125 rfl (ii_1 _) (by decide) rfl ?_
              refine x_goto hF 34 dX1_atLeast_128 (by decide) ?_
              exact ih (i + 1) to (P ((7 * goal) + i)) i (by omega) (by omega) (by omega) (by omega) (lt_s (fun x hx q => by have := h1 x hx q; omega) (fun _ => by omega)) (lt_s (fun x hx q => by have := h2 x hx q; omega) (fun _ => by omega)) (Or.inr ⟨by omega, (tb_div1 R i).mp c_49⟩)
          · refine x_aload_n hF 0 dX1_atLeast_75 rfl rfl ?_
            refine x_get (ci := 0) (C := RX1) (T := TX1) (N := 11) (v := .ref (h 2)) hF in_X1 0 rfl rfl 3 (by decide) q35 rfl rfl dX1_atLeast_76 ?_
            refine x_bipush hF dX1_atLeast_79 kc_b7 ?_
            refine x_iload_n hF 1 dX1_atLeast_81 rfl rfl ?_
            refine x_imul hF dX1_atLeast_82 ?_
            refine x_iload hF 6 dX1_atLeast_83 rfl ?_
            refine x_iadd hF dX1_atLeast_85 ?_
            refine x_iald hF 2 1 rfl rfl (by decide) (by omega) dX1_atLeast_86 ?_
            have hb_86 := hP ((7 * a) + i) (by omega)
            refine x_istore_n (lv' := [(0, .ref (h 0)), (1, .int (nI a)), (2, .int (nI R)), (3, .int (nI (P ((7 * a) + i)))), (4, .int (nI fo)), (5, .int (nI i)), (6, .int (nI i))]) hF dX1_atLeast_87 rfl (by decide) rfl ?_
            refine x_aload_n hF 0 dX1_atLeast_88 rfl rfl ?_
            refine x_get (ci := 0) (C := RX1) (T := TX1) (N := 11) (v := .ref (h 2)) hF in_X1 0 rfl rfl 3 (by decide) q35 rfl rfl dX1_atLeast_89 ?_
            refine x_bipush hF dX1_atLeast_92 kc_b7 ?_
            refine x_aload_n hF 0 dX1_atLeast_94 rfl rfl ?_
            refine x_get (ci := 0) (C := RX1) (T := TX1) (N := 11) (v := .int (nI goal)) hF in_X1 0 rfl rfl 2 (by decide) q34 rfl rfl dX1_atLeast_95 ?_
            refine x_imul hF dX1_atLeast_98 ?_
            refine x_iload hF 6 dX1_atLeast_99 rfl ?_
            refine x_iadd hF dX1_atLeast_101 ?_
            refine x_iald hF 2 1 rfl rfl (by decide) (by omega) dX1_atLeast_102 ?_
            have hb_102 := hP ((7 * goal) + i) (by omega)
            refine x_iload hF 4 dX1_atLeast_103 rfl ?_
            refine x_icmp_ge hF 125 dX1_atLeast_105 (by decide) (by omega) (by omega) (fun c_105 => ?_) (fun c_105 => ?_)
            · refine x_iinc (v := (nI (i + 1))) (lv' := [(0, .ref (h 0)), (1, .int (nI a)), (2, .int (nI R)), (3, .int (nI (P ((7 * a) + i)))), (4, .int (nI fo)), (5, .int (nI i)), (6, .int (nI (i + 1)))]) hF 6 dX1_atLeast_125 rfl (ii_1 _) (by decide) rfl ?_
              refine x_goto hF 34 dX1_atLeast_128 (by decide) ?_
              exact ih (i + 1) (P ((7 * a) + i)) fo i (by omega) (by omega) (by omega) (by omega) (lt_s (fun x hx q => by have := h1 x hx q; omega) (fun _ => by omega)) (lt_s (fun x hx q => by have := h2 x hx q; omega) (fun _ => by omega)) (Or.inr ⟨by omega, (tb_div1 R i).mp c_49⟩)
            · refine x_aload_n hF 0 dX1_atLeast_108 rfl rfl ?_
              refine x_get (ci := 0) (C := RX1) (T := TX1) (N := 11) (v := .ref (h 2)) hF in_X1 0 rfl rfl 3 (by decide) q35 rfl rfl dX1_atLeast_109 ?_
              refine x_bipush hF dX1_atLeast_112 kc_b7 ?_
              refine x_aload_n hF 0 dX1_atLeast_114 rfl rfl ?_
              refine x_get (ci := 0) (C := RX1) (T := TX1) (N := 11) (v := .int (nI goal)) hF in_X1 0 rfl rfl 2 (by decide) q34 rfl rfl dX1_atLeast_115 ?_
              refine x_imul hF dX1_atLeast_118 ?_
              refine x_iload hF 6 dX1_atLeast_119 rfl ?_
              refine x_iadd hF dX1_atLeast_121 ?_
              refine x_iald hF 2 1 rfl rfl (by decide) (by omega) dX1_atLeast_122 ?_
              have hb_122 := hP ((7 * goal) + i) (by omega)
              refine x_istore (lv' := [(0, .ref (h 0)), (1, .int (nI a)), (2, .int (nI R)), (3, .int (nI (P ((7 * a) + i)))), (4, .int (nI (P ((7 * goal) + i)))), (5, .int (nI i)), (6, .int (nI i))]) hF dX1_atLeast_123 (by decide) rfl ?_
              refine x_iinc (v := (nI (i + 1))) (lv' := [(0, .ref (h 0)), (1, .int (nI a)), (2, .int (nI R)), (3, .int (nI (P ((7 * a) + i)))), (4, .int (nI (P ((7 * goal) + i)))), (5, .int (nI i)), (6, .int (nI (i + 1)))]) hF 6 dX1_atLeast_125 rfl (ii_1 _) (by decide) rfl ?_
              refine x_goto hF 34 dX1_atLeast_128 (by decide) ?_
              exact ih (i + 1) (P ((7 * a) + i)) (P ((7 * goal) + i)) i (by omega) (by omega) (by omega) (by omega) (lt_s (fun x hx q => by have := h1 x hx q; omega) (fun _ => by omega)) (lt_s (fun x hx q => by have := h2 x hx q; omega) (fun _ => by omega)) (Or.inr ⟨by omega, (tb_div1 R i).mp c_49⟩)
        · refine x_goto hF 125 dX1_atLeast_52 (by decide) ?_
          refine x_iinc (v := (nI (i + 1))) (lv' := [(0, .ref (h 0)), (1, .int (nI a)), (2, .int (nI R)), (3, .int (nI to)), (4, .int (nI fo)), (5, .int (nI an)), (6, .int (nI (i + 1)))]) hF 6 dX1_atLeast_125 rfl (ii_1 _) (by decide) rfl ?_
          refine x_goto hF 34 dX1_atLeast_128 (by decide) ?_
          exact ih (i + 1) to fo an (by omega) (by omega) hto hfo (lt_s h1 (fun q => by rw [(tb_div R i).mp c_49] at q; cases q)) (lt_s h2 (fun q => by rw [(tb_div R i).mp c_49] at q; cases q)) (h3.elim (fun q => Or.inl (lt_s q ((tb_div R i).mp c_49))) Or.inr)
  refine x_iload_n hF 2 dX1_atLeast_0 rfl rfl ?_
  refine x_if_ne hF 19 dX1_atLeast_1 (by decide) (by omega) (fun c_1 => ?_) (fun c_1 => ?_)
  · refine x_sipush hF dX1_atLeast_19 kc_s10000 ?_
    refine x_istore_n (lv' := [(0, .ref (h 0)), (1, .int (nI a)), (2, .int (nI R)), (3, .int (nI 10000))]) hF dX1_atLeast_22 rfl (by decide) rfl ?_
    refine x_sipush hF dX1_atLeast_23 kc_s10000 ?_
    refine x_istore (lv' := [(0, .ref (h 0)), (1, .int (nI a)), (2, .int (nI R)), (3, .int (nI 10000)), (4, .int (nI 10000))]) hF dX1_atLeast_26 (by decide) rfl ?_
    refine x_iconst hF dX1_atLeast_28 kc_i0 ?_
    refine x_istore (lv' := [(0, .ref (h 0)), (1, .int (nI a)), (2, .int (nI R)), (3, .int (nI 10000)), (4, .int (nI 10000)), (5, .int (nI 0))]) hF dX1_atLeast_29 (by decide) rfl ?_
    refine x_iconst hF dX1_atLeast_31 kc_i0 ?_
    refine x_istore (lv' := [(0, .ref (h 0)), (1, .int (nI a)), (2, .int (nI R)), (3, .int (nI 10000)), (4, .int (nI 10000)), (5, .int (nI 0)), (6, .int (nI 0))]) hF dX1_atLeast_32 (by decide) rfl ?_
    exact loop c_1 (n + 1) 0 10000 10000 0 (by omega) (by omega) (by omega) (by omega) (fun x hx => by omega) (fun x hx => by omega) (Or.inl lt_0)
  · refine x_aload_n hF 0 dX1_atLeast_4 rfl rfl ?_
    refine x_get (ci := 0) (C := RX1) (T := TX1) (N := 11) (v := .ref (h 2)) hF in_X1 0 rfl rfl 3 (by decide) q35 rfl rfl dX1_atLeast_5 ?_
    refine x_bipush hF dX1_atLeast_8 kc_b7 ?_
    refine x_iload_n hF 1 dX1_atLeast_10 rfl rfl ?_
    refine x_imul hF dX1_atLeast_11 ?_
    refine x_aload_n hF 0 dX1_atLeast_12 rfl rfl ?_
    refine x_get (ci := 0) (C := RX1) (T := TX1) (N := 11) (v := .int (nI goal)) hF in_X1 0 rfl rfl 2 (by decide) q34 rfl rfl dX1_atLeast_13 ?_
    refine x_iadd hF dX1_atLeast_16 ?_
    refine x_iald hF 2 1 rfl rfl (by decide) (by omega) dX1_atLeast_17 ?_
    have hb_17 := hP ((7 * a) + goal) (by omega)
    refine hret _ _ _ _ ⟨_, ne, rfl, by omega, fun q hq => ?_, rfl⟩ rfl dX1_atLeast_18
    subst c_1
    cases q with
    | nil => exact Nat.le_refl _
    | cons x r =>
      have := ((hq x).mp List.mem_cons_self).2
      simp at this
end
end
section
/-! PURE: what the search keeps -/
def dm : Nat → Int32
  | 0 => -1
  | k + 1 => nI k
def pth (pa : Nat → Nat) (dp : Nat) : List Nat := (List.range (dp + 1)).map pa
theorem pth_congr {pa pb : Nat → Nat} {dp : Nat} (h : ∀ j, j ≤ dp → pb j = pa j) : pth pb dp = pth pa dp := by
  unfold pth
  refine List.map_congr_left (fun j hj => h j ?_)
  have := List.mem_range.mp hj
  omega
theorem pth_succ (pa : Nat → Nat) (dp : Nat) : pth pa (dp + 1) = pth pa dp ++ [pa (dp + 1)] := by
  unfold pth
  rw [List.range_succ (n := dp + 1), List.map_append]
  rfl
theorem pth_up (pa : Nat → Nat) (dp v : Nat) : pth (va_up pa (dp + 1) v) (dp + 1) = pth pa dp ++ [v] := by
  rw [pth_succ, va_up_self, pth_congr (pa := pa) (fun j hj => va_up_ne _ _ (by omega))]
theorem pth_last (pa : Nat → Nat) (dp : Nat) : ∃ p0 : List Nat, pth pa dp = p0 ++ [pa dp] := by
  refine ⟨(List.range dp).map pa, ?_⟩
  unfold pth
  rw [List.range_succ, List.map_append]
  rfl
/-- the ways behind p whose next town is t or later -/
def cmf (n g t : Nat) : Nat → List Nat → List (List Nat)
  | 0, p => [p]
  | m + 1, p => ((nxt n g p).filter (fun v => decide (t ≤ v))).flatMap (fun v => cmp n g m (p ++ [v]))
theorem cmf_0 (n g : Nat) : ∀ (m : Nat) (p : List Nat), cmf n g 0 m p = cmp n g m p
  | 0, _ => rfl
  | m + 1, p => by
    show ((nxt n g p).filter (fun v => decide (0 ≤ v))).flatMap (fun v => cmp n g m (p ++ [v])) = (nxt n g p).flatMap (fun v => cmp n g m (p ++ [v]))
    rw [List.filter_eq_self.mpr (fun a _ => by simp)]
theorem fil_next {q : Nat → Bool} {t v : Nat} (hq : q v = true) (ht : t ≤ v) (hx : ∀ x, t ≤ x → x < v → q x = false) : ∀ N, v < N → (List.range N).filter (fun x => decide (t ≤ x) && q x) = v :: (List.range N).filter (fun x => decide (v + 1 ≤ x) && q x)
  | 0, h => by omega
  | N + 1, h => by
    rw [List.range_succ, List.filter_append, List.filter_append]
    by_cases e : v = N
    · subst e
      have e1 : (List.range v).filter (fun x => decide (t ≤ x) && q x) = [] := by
        rw [List.filter_eq_nil_iff]
        intro a ha
        have ha := List.mem_range.mp ha
        by_cases hta : t ≤ a
        · rw [hx a hta ha]; simp
        · simp [hta]
      have e2 : (List.range v).filter (fun x => decide (v + 1 ≤ x) && q x) = [] := by
        rw [List.filter_eq_nil_iff]
        intro a ha
        have ha := List.mem_range.mp ha
        have : ¬ v + 1 ≤ a := by omega
        simp [this]
      rw [e1, e2]
      simp [hq, ht]
    · rw [fil_next hq ht hx N (by omega)]
      have e1 : decide (t ≤ N) = true := by simp; omega
      have e2 : decide (v + 1 ≤ N) = true := by simp; omega
      simp only [List.filter_cons, List.filter_nil, e1, e2, List.cons_append]
theorem cmf_next {n g t v m : Nat} {p : List Nat} (hv : v ∈ nxt n g p) (ht : t ≤ v) (hx : ∀ x, t ≤ x → x < v → ¬ x ∈ nxt n g p) : cmf n g t (m + 1) p = cmp n g m (p ++ [v]) ++ cmf n g (v + 1) (m + 1) p := by
  have hv2 := mem_nxt.mp hv
  have e := fil_next (q := fun x => !(p.contains x) && !(x == g)) (t := t) (v := v) (by simp [hv2.2.1, hv2.2.2]) ht (fun x h1 h2 => by
    have := hx x h1 h2
    rw [mem_nxt] at this
    by_cases a : x ∈ p
    · simp [a]
    · by_cases b : x = g
      · simp [b]
      · exact absurd ⟨by omega, a, b⟩ this) n hv2.1
  show ((nxt n g p).filter (fun v => decide (t ≤ v))).flatMap (fun v => cmp n g m (p ++ [v])) = cmp n g m (p ++ [v]) ++ ((nxt n g p).filter (fun x => decide (v + 1 ≤ x))).flatMap (fun v => cmp n g m (p ++ [v]))
  unfold nxt
  rw [List.filter_filter, List.filter_filter, e]
  rfl
theorem cmf_none {n g t m : Nat} {p : List Nat} (hx : ∀ x, t ≤ x → x < n → ¬ x ∈ nxt n g p) : cmf n g t (m + 1) p = [] := by
  show ((nxt n g p).filter (fun v => decide (t ≤ v))).flatMap (fun v => cmp n g m (p ++ [v])) = []
  have : (nxt n g p).filter (fun v => decide (t ≤ v)) = [] := by
    rw [List.filter_eq_nil_iff]
    intro a ha q
    exact hx a (by simpa using q) (mem_nxt.mp ha).1 ha
  rw [this]
  rfl
/-- the search at the depth dp with m towns to come -/
def DI (P : Nat → Nat) (n g pl m dp left best : Nat) (pa la nt : Nat → Nat) : Prop :=
  dp + 1 + m = pl ∧ (∀ j, j ≤ dp → pa j < n) ∧ la dp = wsum (mx P) (pth pa dp) ∧ la dp ≤ 10000 * dp ∧ left < 128 ∧ (∀ x, x < 7 → (left.testBit x = true ↔ x ∈ nxt n g (pth pa dp))) ∧ ctn (fun x => ¬ x ∈ pth pa dp ∧ ¬ x = g) n = m ∧ nt dp ≤ 7 ∧ best ≤ 80000
def RS (P : Nat → Nat) (g pl : Nat) (best bc : Nat) (bp : Nat → Nat) (l : List (List Nat)) (best' bc' : Nat) (bp' : Nat → Nat) : Prop :=
  (best', bc', (List.range pl).map bp') = l.foldl (offr (mx P) g) (best, bc, (List.range pl).map bp)
theorem rs_nil {P : Nat → Nat} {g pl best bc : Nat} {bp : Nat → Nat} : RS P g pl best bc bp [] best bc bp := rfl
theorem rs_app {P : Nat → Nat} {g pl b1 c1 b2 c2 b3 c3 : Nat} {p1 p2 p3 : Nat → Nat} {l1 l2 : List (List Nat)} (h1 : RS P g pl b1 c1 p1 l1 b2 c2 p2) (h2 : RS P g pl b2 c2 p2 l2 b3 c3 p3) : RS P g pl b1 c1 p1 (l1 ++ l2) b3 c3 p3 := by
  unfold RS at *
  rw [List.foldl_append, ← h1]
  exact h2
theorem offr_le (w : Nat → Nat → Nat) (g : Nat) (b : Nat × Nat × List Nat) (p : List Nat) : (offr w g b p).1 ≤ b.1 := by
  unfold offr
  by_cases h : b.1 < tot w g p
  · rw [if_pos h]; exact Nat.le_refl _
  · rw [if_neg h]
    by_cases h2 : tot w g p < b.1
    · rw [if_pos h2]; show tot w g p ≤ b.1; omega
    · rw [if_neg h2]; exact Nat.le_refl _
theorem fold_le (w : Nat → Nat → Nat) (g : Nat) : ∀ (l : List (List Nat)) (b : Nat × Nat × List Nat), (l.foldl (offr w g) b).1 ≤ b.1
  | [], b => Nat.le_refl _
  | p :: l, b => Nat.le_trans (fold_le w g l (offr w g b p)) (offr_le w g b p)
theorem rs_le {P : Nat → Nat} {g pl b1 c1 b2 c2 : Nat} {p1 p2 : Nat → Nat} {l1 : List (List Nat)} (h1 : RS P g pl b1 c1 p1 l1 b2 c2 p2) : b2 ≤ b1 := by
  have := fold_le (mx P) g l1 (b1, c1, (List.range pl).map p1)
  rw [← h1] at this
  exact this
theorem di_child {P : Nat → Nat} {n g pl m dp left best v : Nat} {pa la nt : Nat → Nat} (hn : n ≤ 7) (hP : ∀ j, j < 49 → P j ≤ 10000) (h : DI P n g pl (m + 1) dp left best pa la nt) (hv : v < n) (hb : left.testBit v = true) :
    DI P n g pl m (dp + 1) (clr left v) best (va_up pa (dp + 1) v) (va_up la (dp + 1) (la dp + P (7 * pa dp + v))) (va_up (va_up nt dp (v + 1)) (dp + 1) 0) := by
  obtain ⟨h1, h2, h3, h4, h5, h6, h7, h8, h9⟩ := h
  have hvn := (h6 v (by omega)).mp hb
  have hvn2 := mem_nxt.mp hvn
  have hpd := h2 dp (Nat.le_refl _)
  have hPv := hP (7 * pa dp + v) (by omega)
  refine ⟨by omega, ?_, ?_, ?_, clr_lt h5 (by omega), ?_, ?_, ?_, h9⟩
  · intro j hj
    by_cases e : j = dp + 1
    · rw [e, va_up_self]; exact hv
    · rw [va_up_ne _ _ e]; exact h2 j (by omega)
  · rw [va_up_self, pth_up, h3]
    obtain ⟨p0, e⟩ := pth_last pa dp
    rw [e, wsum_app2]
    rfl
  · rw [va_up_self]; omega
  · intro x hx
    rw [clr_tb h5 (by omega) hx, pth_up, mem_nxt]
    simp only [Bool.and_eq_true, Bool.not_eq_true', beq_eq_false_iff_ne, ne_eq]
    rw [h6 x hx, mem_nxt, List.mem_append]
    simp only [List.mem_singleton]
    constructor
    · rintro ⟨⟨a, b, c⟩, e⟩
      exact ⟨a, fun q => by rcases q with q | q; exact b q; exact e q, c⟩
    · rintro ⟨a, b, c⟩
      exact ⟨⟨a, fun q => b (Or.inl q), c⟩, fun q => b (Or.inr q)⟩
  · have e := ctn_del (P := fun x => ¬ x ∈ pth pa dp ∧ ¬ x = g) hv ⟨hvn2.2.1, hvn2.2.2⟩
    rw [h7] at e
    rw [pth_up]
    have e2 : ctn (fun x => ¬ x ∈ pth pa dp ++ [v] ∧ ¬ x = g) n = ctn (fun x => (¬ x ∈ pth pa dp ∧ ¬ x = g) ∧ ¬ x = v) n := ctn_congr (fun y _ => by
      rw [List.mem_append]
      simp only [List.mem_singleton]
      constructor
      · rintro ⟨a, b⟩
        exact ⟨⟨fun q => a (Or.inl q), b⟩, fun q => a (Or.inr q)⟩
      · rintro ⟨⟨a, b⟩, c⟩
        exact ⟨fun q => by rcases q with q | q; exact a q; exact c q, b⟩)
    omega
  · rw [va_up_self]; omega
theorem di_back {P : Nat → Nat} {n g pl m dp left best best' v : Nat} {pa la nt pa' la' nt' : Nat → Nat} (h : DI P n g pl m dp left best pa la nt) (hb : best' ≤ 80000) (hp : ∀ j, j < dp + 1 → pa' j = pa j ∧ la' j = la j) (ht : nt' dp ≤ 7) : DI P n g pl m dp left best' pa' la' nt' := by
  obtain ⟨h1, h2, h3, h4, h5, h6, h7, h8, h9⟩ := h
  have e : pth pa' dp = pth pa dp := pth_congr (fun j hj => (hp j (by omega)).1)
  have e2 := (hp dp (by omega)).2
  exact ⟨h1, fun j hj => by rw [(hp j (by omega)).1]; exact h2 j hj, by rw [e2, e]; exact h3, by rw [e2]; exact h4, h5, by rw [e]; exact h6, by rw [e]; exact h7, ht, hb⟩
/-- a bound on what is left: its ways are all too long -/
theorem rs_far {P : Nat → Nat} {n g pl m dp left best bc v b : Nat} {pa la nt bp : Nat → Nat} (hn : n ≤ 7) (hP : ∀ j, j < 49 → P j ≤ 10000) (h : DI P n g pl (m + 1) dp left best pa la nt) (hv : v < n) (hb : left.testBit v = true) (hq : ∀ q : List Nat, (∀ x, x ∈ q ↔ inT n (clr left v) x) → b ≤ cst (mx P) v q g) (hf : best < la dp + P (7 * pa dp + v) + b) : RS P g pl best bc bp (cmp n g m (pth pa dp ++ [v])) best bc bp := by
  have hc := di_child hn hP h hv hb
  obtain ⟨h1, h2, h3, h4, h5, h6, h7, h8, h9⟩ := hc
  rw [va_up_self, pth_up] at h3
  rw [pth_up] at h6 h7
  unfold RS
  refine (offr_far (fun f hf2 => ?_)).symm
  obtain ⟨q, e, e1, e2, e3⟩ := cmp_app hf2
  have e4 := cmp_all h7 hf2
  have e5 : f = pth pa dp ++ v :: q := by rw [e]; simp
  rw [e5, tot_app, ← h3]
  have := hq q (fun x => ⟨fun hx => by
    have h10 := e2 x hx
    exact ⟨h10.1, (h6 x (by have := h10.1; omega)).mpr (mem_nxt.mpr h10)⟩, fun hx => by
    have h10 := mem_nxt.mp ((h6 x (by have := hx.1; omega)).mp hx.2)
    have h11 := e4 x h10.1 h10.2.2
    rw [e] at h11
    rcases List.mem_append.mp h11 with q9 | q9
    · exact absurd q9 h10.2.1
    · exact q9⟩)
  show best < _
  omega
theorem rs_offer {P : Nat → Nat} {n g pl dp left best bc best' bc' : Nat} {pa la nt bp bp' : Nat → Nat} (h : DI P n g pl 0 dp left best pa la nt)
    (ho : (best < la dp + P (7 * pa dp + g) ∧ best' = best ∧ bc' = bc ∧ bp' = bp) ∨ (la dp + P (7 * pa dp + g) < best ∧ best' = la dp + P (7 * pa dp + g) ∧ bc' = 1 ∧ ∀ j, j < pl → bp' j = pa j) ∨ (la dp + P (7 * pa dp + g) = best ∧ best' = best ∧ bc' = bc + 1 ∧ bp' = bp)) : RS P g pl best bc bp [pth pa dp] best' bc' bp' := by
  obtain ⟨h1, h2, h3, h4, h5, h6, h7, h8, h9⟩ := h
  have et : tot (mx P) g (pth pa dp) = la dp + P (7 * pa dp + g) := by
    obtain ⟨p0, e⟩ := pth_last pa dp
    rw [h3, e, tot_app]
    rfl
  show (best', bc', (List.range pl).map bp') = offr (mx P) g (best, bc, (List.range pl).map bp) (pth pa dp)
  unfold offr
  rw [et]
  rcases ho with ⟨a, rfl, rfl, rfl⟩ | ⟨a, rfl, rfl, hb⟩ | ⟨a, rfl, rfl, rfl⟩
  · rw [if_pos a]
  · rw [if_neg (show ¬ best < _ by omega), if_pos a]
    have : (List.range pl).map bp' = pth pa dp := by
      unfold pth
      rw [show dp + 1 = pl by omega]
      exact List.map_congr_left (fun j hj => hb j (List.mem_range.mp hj))
    rw [this]
  · rw [if_neg (show ¬ best' < _ by omega), if_neg (show ¬ _ < best' by omega)]
theorem or_back {left v : Nat} (hl : left < 128) (hv : v < 7) (hb : left.testBit v = true) : clr left v ||| 2 ^ v = left := by
  have : ∀ left, left < 128 → ∀ v, v < 7 → left.testBit v = true → clr left v ||| 2 ^ v = left := by decide +kernel
  exact this left hl v hv hb
theorem dm_dec : ∀ dp : Nat, nI dp + Int32.ofInt (-1) = dm dp
  | 0 => ii_m0
  | k + 1 => ii_m1 k
def plc (n fr to : Nat) : Nat := if fr = to then n else n - 1
theorem two_n {n : Nat} (hn : n ≤ 7) : 2 ^ n ≤ 128 ∧ 1 ≤ 2 ^ n := ⟨Nat.pow_le_pow_right (n := 2) (by decide) hn, Nat.one_le_two_pow⟩
theorem ctn_in {P : Nat → Prop} {a N : Nat} (ha : a < N) (hp : P a) : 1 ≤ ctn P N := by rw [ctn_del ha hp]; omega
theorem di_init {P : Nat → Nat} {n fr to : Nat} {pa la nt : Nat → Nat} (hn3 : 3 ≤ n) (hn : n ≤ 7) (hf : fr < n) (ht : to < n) : DI P n to (plc n fr to) (plc n fr to - 1) 0 (clr (clr (2 ^ n - 1) fr) to) 80000 (va_up pa 0 fr) (va_up la 0 0) (va_up nt 0 0) := by
  have h2 := two_n hn
  have hp : pth (va_up pa 0 fr) 0 = [fr] := by
    show [va_up pa 0 fr 0] = [fr]
    rw [va_up_self]
  have hlt : clr (2 ^ n - 1) fr < 128 := clr_lt (by omega) (by omega)
  have hpl : 0 + 1 + (plc n fr to - 1) = plc n fr to := by
    unfold plc
    by_cases e : fr = to
    · rw [if_pos e]; omega
    · rw [if_neg e]; omega
  refine ⟨hpl, ?_, ?_, ?_, clr_lt hlt (by omega), ?_, ?_, ?_, by omega⟩
  · intro j hj
    rw [show j = 0 by omega, va_up_self]; exact hf
  · rw [va_up_self, hp]; rfl
  · rw [va_up_self]; omega
  · intro x hx
    rw [clr_tb hlt (by omega) hx, clr_tb (by omega) (by omega) hx, hp, mem_nxt, Nat.testBit_two_pow_sub_one]
    simp
    constructor
    · rintro ⟨⟨a, b⟩, c⟩; exact ⟨a, b, c⟩
    · rintro ⟨a, b, c⟩; exact ⟨⟨a, b⟩, c⟩
  · rw [hp]
    have e1 : ctn (fun _ : Nat => True) n = n := ctn_full (fun _ _ => trivial)
    have e2 := ctn_del (P := fun _ : Nat => True) hf trivial
    unfold plc
    by_cases e : fr = to
    · rw [if_pos e]
      have e3 : ctn (fun x => ¬ x ∈ [fr] ∧ ¬ x = to) n = ctn (fun j => True ∧ ¬ j = fr) n := ctn_congr (fun x _ => by simp [e])
      omega
    · rw [if_neg e]
      have e3 := ctn_del (P := fun j => True ∧ ¬ j = fr) ht ⟨trivial, fun q => e q.symm⟩
      have e4 : ctn (fun x => ¬ x ∈ [fr] ∧ ¬ x = to) n = ctn (fun j => (True ∧ ¬ j = fr) ∧ ¬ j = to) n := ctn_congr (fun x _ => by simp)
      omega
  · rw [va_up_self]; omega
end
section
/-! TourSolver: solve (printed by a program, wip/D-64046w/src) -/
set_option maxRecDepth 100000
section
variable {l : Launch} {D : va_G} {h : Nat → Nat} {d : Nat → ClassId} {n goal best bc : Nat} {L P pa la nt bp ne : Nat → Nat}
theorem m1_solve {fr to : Nat} (hn3 : 3 ≤ n) (hn : n ≤ 7) (hfr : fr < n) (hto : to < n) (hP : ∀ j, j < 49 → P j ≤ 10000) (hsym : ∀ x y, x < n → y < n → mx P x y = mx P y x) : MtV l yX1_solve cX1_solve 10 (rmr 3 77) D (tX d) [.ref (h 0), .int (nI fr), .int (nI to)] (wX h d n goal best bc L P pa la nt bp ne) (fun w1 => ∃ (b' c' : Nat) (pa' la' nt' bp' ne' : Nat → Nat), RS P to (plc n fr to) 80000 0 bp (cmp n to (plc n fr to - 1) [fr]) b' c' bp' ∧ w1 = wX h d n to b' c' L P pa' la' nt' bp' ne') := by
  refine MtV.of rfl (Nat.le_of_ble_eq_true rfl) ?_
  intro p e s m args below meth c Q A hF hret
  refine WW.cw (lv2 := [(0, .ref (h 0)), (1, .int (nI fr)), (2, .int (nI to))]) rfl rfl rfl ?_
  have dfs : ∀ (pl : Nat), pl ≤ 7 → ∀ (m9 f dp left b1 c1 : Nat) (pa1 la1 nt1 bp1 ne1 : Nat → Nat), DI P n to pl m9 dp left b1 pa1 la1 nt1 → 8 ≤ nt1 dp + f → (∀ (left' b2 c2 : Nat) (pa2 la2 nt2 bp2 ne2 : Nat → Nat), (∀ j, j < dp → pa2 j = pa1 j ∧ la2 j = la1 j ∧ nt2 j = nt1 j) → left' = (left ||| (if dp = 0 then 0 else 2 ^ pa1 dp)) → RS P to pl b1 c1 bp1 (cmf n to (nt1 dp) m9 (pth pa1 dp)) b2 c2 bp2 → WW p l e (rmr 3 77) s m args below meth c Q D A 10 0 0 (wX h d n to b2 c2 L P pa2 la2 nt2 bp2 ne2) 82 [(0, .ref (h 0)), (1, .int (nI fr)), (2, .int (nI to)), (3, .int (nI pl)), (4, .int (dm dp)), (5, .int (nI left'))] []) → WW p l e (rmr 3 77) s m args below meth c Q D A 10 0 0 (wX h d n to b1 c1 L P pa1 la1 nt1 bp1 ne1) 82 [(0, .ref (h 0)), (1, .int (nI fr)), (2, .int (nI to)), (3, .int (nI pl)), (4, .int (nI dp)), (5, .int (nI left))] [] := by
    intro pl hpl m9
    induction m9 with
    | zero =>
      intro f dp left b1 c1 pa1 la1 nt1 bp1 ne1 hD hf K
      obtain ⟨h1, h2, h3, h4, h5, h6, h7, h8, h9⟩ := id hD
      have hpd := h2 dp (Nat.le_refl _)
      refine x_iload hF 4 dX1_solve_82 rfl ?_
      refine x_if_lt hF 294 dX1_solve_84 (by decide) (by omega) ?_
      refine x_iload hF 4 dX1_solve_87 rfl ?_
      refine x_iload_n hF 3 dX1_solve_89 rfl rfl ?_
      refine x_iconst hF dX1_solve_90 kc_i1 ?_
      refine x_isub hF dX1_solve_91 (by omega) ?_
      refine x_icmp_ne hF 149 dX1_solve_92 (by decide) (by omega) (by omega) (fun c_92 => ?_) (fun c_92 => ?_)
      · omega
      · refine x_aload_n hF 0 dX1_solve_95 rfl rfl ?_
        refine x_get (ci := 0) (C := RX1) (T := TX1) (N := 11) (v := .ref (h 4)) hF in_X1 0 rfl rfl 5 (by decide) q37 rfl rfl dX1_solve_96 ?_
        refine x_iload hF 4 dX1_solve_99 rfl ?_
        refine x_iald hF 4 3 rfl rfl (by decide) (by omega) dX1_solve_101 ?_
        refine x_aload_n hF 0 dX1_solve_102 rfl rfl ?_
        refine x_get (ci := 0) (C := RX1) (T := TX1) (N := 11) (v := .ref (h 2)) hF in_X1 0 rfl rfl 3 (by decide) q35 rfl rfl dX1_solve_103 ?_
        refine x_bipush hF dX1_solve_106 kc_b7 ?_
        refine x_aload_n hF 0 dX1_solve_108 rfl rfl ?_
        refine x_get (ci := 0) (C := RX1) (T := TX1) (N := 11) (v := .ref (h 3)) hF in_X1 0 rfl rfl 4 (by decide) q36 rfl rfl dX1_solve_109 ?_
        refine x_iload hF 4 dX1_solve_112 rfl ?_
        refine x_bald hF 3 2 rfl rfl (by decide) (by omega) dX1_solve_114 ?_
        refine x_imul hF dX1_solve_115 ?_
        refine x_aload_n hF 0 dX1_solve_116 rfl rfl ?_
        refine x_get (ci := 0) (C := RX1) (T := TX1) (N := 11) (v := .int (nI to)) hF in_X1 0 rfl rfl 2 (by decide) q34 rfl rfl dX1_solve_117 ?_
        refine x_iadd hF dX1_solve_120 ?_
        refine x_iald hF 2 1 rfl rfl (by decide) (by omega) dX1_solve_121 ?_
        have hb_121 := hP ((7 * (pa1 dp)) + to) (by omega)
        refine x_iadd hF dX1_solve_122 ?_
        refine x_istore (lv' := [(0, .ref (h 0)), (1, .int (nI fr)), (2, .int (nI to)), (3, .int (nI pl)), (4, .int (nI dp)), (5, .int (nI left)), (6, .int (nI ((la1 dp) + (P ((7 * (pa1 dp)) + to)))))]) hF dX1_solve_123 (by decide) rfl ?_
        refine x_aload_n hF 0 dX1_solve_125 rfl rfl ?_
        refine x_iload hF 6 dX1_solve_126 rfl ?_
        refine x_iload_n hF 3 dX1_solve_128 rfl rfl ?_
        refine x_callv (C := RX1) (T := TX1) (N := 11) (ci := 0) (q0 := 0) (b := h 0) (As := [.int (nI ((la1 dp) + (P ((7 * (pa1 dp)) + to)))), .int (nI pl)]) (rest := []) hF (m1_offer (wh := (la1 dp) + (P ((7 * (pa1 dp)) + to))) (pl := pl) (by omega) (by omega) hpl (fun j hj => by have := h2 j (by omega); omega)) 2 (lw_V q93 q95 qs4 q22 q96) rfl rfl (by decide +kernel) ⟨by decide, by decide⟩ rfl rfl rfl rfl (Nat.le_of_ble_eq_true rfl) dX1_solve_129 ⟨Nat.zero_le _, Nat.zero_le _⟩ (fun w_129 hp_129 => ?_)
        obtain ⟨b2, c2, bp2, hRS, rfl⟩ : ∃ (b2 c2 : Nat) (bp2 : Nat → Nat), RS P to pl b1 c1 bp1 [pth pa1 dp] b2 c2 bp2 ∧ w_129 = wX h d n to b2 c2 L P pa1 la1 nt1 bp2 ne1 := by
          rcases hp_129 with ⟨a, rfl⟩ | ⟨a, bp', hb', rfl⟩ | ⟨a, rfl⟩
          · exact ⟨_, _, _, rs_offer hD (Or.inl ⟨a, rfl, rfl, rfl⟩), rfl⟩
          · exact ⟨_, _, bp', rs_offer hD (Or.inr (Or.inl ⟨a, rfl, rfl, hb'⟩)), rfl⟩
          · exact ⟨_, _, _, rs_offer hD (Or.inr (Or.inr ⟨a, rfl, rfl, rfl⟩)), rfl⟩
        refine x_iload hF 5 dX1_solve_132 rfl ?_
        refine x_aload_n hF 0 dX1_solve_134 rfl rfl ?_
        refine x_iload hF 4 dX1_solve_135 rfl ?_
        refine x_calli (C := RX1) (T := TX1) (N := 11) (ci := 0) (q0 := 0) (b := h 0) (As := [.int (nI dp)]) (rest := [.int (nI left)]) hF (m1_freed (k := dp) (by omega) (by omega)) 1 (lw_V q97 q99 qs5 q22 q100) rfl rfl (by decide +kernel) ⟨by decide, by decide⟩ rfl rfl rfl rfl (Nat.le_of_ble_eq_true rfl) dX1_solve_137 ⟨Nat.zero_le _, Nat.zero_le _⟩ (fun r_137 w_137 hp_137 => ?_)
        obtain ⟨rfl, rfl⟩ := hp_137
        refine x_ior (v := nI (left ||| (if dp = 0 then 0 else 2 ^ pa1 dp))) hF dX1_solve_140 (bt_or _ _) ?_
        refine x_istore (lv' := [(0, .ref (h 0)), (1, .int (nI fr)), (2, .int (nI to)), (3, .int (nI pl)), (4, .int (nI dp)), (5, .int (nI (left ||| (if dp = 0 then 0 else 2 ^ pa1 dp)))), (6, .int (nI ((la1 dp) + (P ((7 * (pa1 dp)) + to)))))]) hF dX1_solve_141 (by decide) rfl ?_
        refine x_iinc (v := (dm dp)) (lv' := [(0, .ref (h 0)), (1, .int (nI fr)), (2, .int (nI to)), (3, .int (nI pl)), (4, .int (dm dp)), (5, .int (nI (left ||| (if dp = 0 then 0 else 2 ^ pa1 dp)))), (6, .int (nI ((la1 dp) + (P ((7 * (pa1 dp)) + to)))))]) hF 4 dX1_solve_143 rfl (dm_dec dp) (by decide) rfl ?_
        refine x_goto hF 82 dX1_solve_146 (by decide) ?_
        refine WW.lvs [0, 1, 2, 3, 4, 5] rfl ?_
        exact K _ b2 c2 pa1 la1 nt1 bp2 ne1 (fun j hj => ⟨rfl, rfl, rfl⟩) rfl hRS
    | succ m9 ihm =>
      intro f
      induction f with
      | zero =>
        intro dp left b1 c1 pa1 la1 nt1 bp1 ne1 hD hf K
        have := hD.2.2.2.2.2.2.2.1
        omega
      | succ f ihf =>
        intro dp left b1 c1 pa1 la1 nt1 bp1 ne1 hD hf K
        obtain ⟨h1, h2, h3, h4, h5, h6, h7, h8, h9⟩ := id hD
        have hpd := h2 dp (Nat.le_refl _)
        refine x_iload hF 4 dX1_solve_82 rfl ?_
        refine x_if_lt hF 294 dX1_solve_84 (by decide) (by omega) ?_
        refine x_iload hF 4 dX1_solve_87 rfl ?_
        refine x_iload_n hF 3 dX1_solve_89 rfl rfl ?_
        refine x_iconst hF dX1_solve_90 kc_i1 ?_
        refine x_isub hF dX1_solve_91 (by omega) ?_
        refine x_icmp_ne hF 149 dX1_solve_92 (by decide) (by omega) (by omega) (fun c_92 => ?_) (fun c_92 => ?_)
        · refine x_aload_n hF 0 dX1_solve_149 rfl rfl ?_
          refine x_iload hF 4 dX1_solve_150 rfl ?_
          refine x_iload hF 5 dX1_solve_152 rfl ?_
          refine x_calli (C := RX1) (T := TX1) (N := 11) (ci := 0) (q0 := 0) (b := h 0) (As := [.int (nI dp), .int (nI left)]) (rest := []) hF (m1_nextTown (k := dp) (lf := left) hn (by omega) h5 h8) 2 (lw_V q101 q103 qs6 q22 q104) rfl rfl (by decide +kernel) ⟨by decide, by decide⟩ rfl rfl rfl rfl (Nat.le_of_ble_eq_true rfl) dX1_solve_154 ⟨Nat.zero_le _, Nat.zero_le _⟩ (fun r_154 w_154 hp_154 => ?_)
          obtain ⟨rfl, hp_154⟩ := hp_154
          rcases hp_154 with ⟨v, rfl, hv1, hv2, hv3, hv4⟩ | ⟨rfl, hv4⟩
          · have hv7 : v < 7 := by omega
            have hcl := clr_lt h5 hv7
            have hnx : cmf n to (nt1 dp) (m9 + 1) (pth pa1 dp) = cmp n to m9 (pth pa1 dp ++ [v]) ++ cmf n to (v + 1) (m9 + 1) (pth pa1 dp) := cmf_next ((h6 v hv7).mp hv3) hv1 (fun x q1 q2 q3 => by have := (h6 x (by omega)).mpr q3; rw [hv4 x q1 q2] at this; cases this)
            refine x_istore (lv' := [(0, .ref (h 0)), (1, .int (nI fr)), (2, .int (nI to)), (3, .int (nI pl)), (4, .int (nI dp)), (5, .int (nI left)), (6, .int (nI v))]) hF dX1_solve_157 (by decide) rfl ?_
            refine x_iload hF 6 dX1_solve_159 rfl ?_
            refine x_if_ge hF 181 dX1_solve_161 (by decide) (by omega) ?_
            refine x_aload_n hF 0 dX1_solve_181 rfl rfl ?_
            refine x_get (ci := 0) (C := RX1) (T := TX1) (N := 11) (v := .ref (h 5)) hF in_X1 0 rfl rfl 6 (by decide) q38 rfl rfl dX1_solve_182 ?_
            refine x_iload hF 4 dX1_solve_185 rfl ?_
            refine x_iload hF 6 dX1_solve_187 rfl ?_
            refine x_iconst hF dX1_solve_189 kc_i1 ?_
            refine x_iadd hF dX1_solve_190 ?_
            refine x_i2b (v := (nI (v + 1))) hF dX1_solve_191 (byte_n _ (by omega)) ?_
            refine x_bast (w' := wX h d n to b1 c1 L P pa1 la1 (va_up nt1 dp (v + 1)) bp1 ne1) hF 5 4 rfl rfl (by decide) (by omega) (by omega) rfl dX1_solve_192 ?_
            refine x_aload_n hF 0 dX1_solve_193 rfl rfl ?_
            refine x_get (ci := 0) (C := RX1) (T := TX1) (N := 11) (v := .ref (h 4)) hF in_X1 0 rfl rfl 5 (by decide) q37 rfl rfl dX1_solve_194 ?_
            refine x_iload hF 4 dX1_solve_197 rfl ?_
            refine x_iald hF 4 3 rfl rfl (by decide) (by omega) dX1_solve_199 ?_
            refine x_aload_n hF 0 dX1_solve_200 rfl rfl ?_
            refine x_get (ci := 0) (C := RX1) (T := TX1) (N := 11) (v := .ref (h 2)) hF in_X1 0 rfl rfl 3 (by decide) q35 rfl rfl dX1_solve_201 ?_
            refine x_bipush hF dX1_solve_204 kc_b7 ?_
            refine x_aload_n hF 0 dX1_solve_206 rfl rfl ?_
            refine x_get (ci := 0) (C := RX1) (T := TX1) (N := 11) (v := .ref (h 3)) hF in_X1 0 rfl rfl 4 (by decide) q36 rfl rfl dX1_solve_207 ?_
            refine x_iload hF 4 dX1_solve_210 rfl ?_
            refine x_bald hF 3 2 rfl rfl (by decide) (by omega) dX1_solve_212 ?_
            refine x_imul hF dX1_solve_213 ?_
            refine x_iload hF 6 dX1_solve_214 rfl ?_
            refine x_iadd hF dX1_solve_216 ?_
            refine x_iald hF 2 1 rfl rfl (by decide) (by omega) dX1_solve_217 ?_
            have hb_217 := hP ((7 * (pa1 dp)) + v) (by omega)
            refine x_iadd hF dX1_solve_218 ?_
            refine x_istore (lv' := [(0, .ref (h 0)), (1, .int (nI fr)), (2, .int (nI to)), (3, .int (nI pl)), (4, .int (nI dp)), (5, .int (nI left)), (6, .int (nI v)), (7, .int (nI ((la1 dp) + (P ((7 * (pa1 dp)) + v)))))]) hF dX1_solve_219 (by decide) rfl ?_
            refine x_iload hF 5 dX1_solve_221 rfl ?_
            refine x_iconst hF dX1_solve_223 kc_i1 ?_
            refine x_iload hF 6 dX1_solve_224 rfl ?_
            refine x_ishl (v := nI (2 ^ v)) hF dX1_solve_226 (bt_shl (by omega)) ?_
            refine x_iconst hF dX1_solve_227 kc_im1 ?_
            refine x_ixor hF dX1_solve_228 rfl ?_
            refine x_iand (v := nI (clr left v)) hF dX1_solve_229 (bt_clr (by exact h5) (by exact hv7)) ?_
            refine x_istore (lv' := [(0, .ref (h 0)), (1, .int (nI fr)), (2, .int (nI to)), (3, .int (nI pl)), (4, .int (nI dp)), (5, .int (nI left)), (6, .int (nI v)), (7, .int (nI ((la1 dp) + (P ((7 * (pa1 dp)) + v))))), (8, .int (nI (clr left v)))]) hF dX1_solve_230 (by decide) rfl ?_
            refine x_aload_n hF 0 dX1_solve_232 rfl rfl ?_
            refine x_iload hF 6 dX1_solve_233 rfl ?_
            refine x_iload hF 8 dX1_solve_235 rfl ?_
            refine x_calli (C := RX1) (T := TX1) (N := 11) (ci := 0) (q0 := 0) (b := h 0) (As := [.int (nI v), .int (nI (clr left v))]) (rest := []) hF (m1_atLeast (a := v) (R := clr left v) hn hv2 hto hcl (fun x q1 q2 => (mem_nxt.mp ((h6 x q1).mp (by rw [clr_tb h5 hv7 q1] at q2; simp at q2; exact q2.1))).1) hP hsym) 2 (lw_V q105 q107 qs7 q22 q108) rfl rfl (by decide +kernel) ⟨by decide, by decide⟩ rfl rfl rfl rfl (Nat.le_of_ble_eq_true rfl) dX1_solve_237 ⟨Nat.zero_le _, Nat.zero_le _⟩ (fun r_237 w_237 hp_237 => ?_)
            obtain ⟨b, ne', rfl, hb1, hb2, rfl⟩ := hp_237
            refine x_istore (lv' := [(0, .ref (h 0)), (1, .int (nI fr)), (2, .int (nI to)), (3, .int (nI pl)), (4, .int (nI dp)), (5, .int (nI left)), (6, .int (nI v)), (7, .int (nI ((la1 dp) + (P ((7 * (pa1 dp)) + v))))), (8, .int (nI (clr left v))), (9, .int (nI b))]) hF dX1_solve_240 (by decide) rfl ?_
            refine x_iload hF 7 dX1_solve_242 rfl ?_
            refine x_iload hF 9 dX1_solve_244 rfl ?_
            refine x_iadd hF dX1_solve_246 ?_
            refine x_aload_n hF 0 dX1_solve_247 rfl rfl ?_
            refine x_get (ci := 0) (C := RX1) (T := TX1) (N := 11) (v := .int (nI b1)) hF in_X1 0 rfl rfl 7 (by decide) q39 rfl rfl dX1_solve_248 ?_
            refine x_icmp_le hF 257 dX1_solve_251 (by decide) (by omega) (by omega) (fun c_251 => ?_) (fun c_251 => ?_)
            · refine x_iinc (v := (nI (dp + 1))) (lv' := [(0, .ref (h 0)), (1, .int (nI fr)), (2, .int (nI to)), (3, .int (nI pl)), (4, .int (nI (dp + 1))), (5, .int (nI left)), (6, .int (nI v)), (7, .int (nI ((la1 dp) + (P ((7 * (pa1 dp)) + v))))), (8, .int (nI (clr left v))), (9, .int (nI b))]) hF 4 dX1_solve_257 rfl (ii_1 _) (by decide) rfl ?_
              refine x_aload_n hF 0 dX1_solve_260 rfl rfl ?_
              refine x_get (ci := 0) (C := RX1) (T := TX1) (N := 11) (v := .ref (h 3)) hF in_X1 0 rfl rfl 4 (by decide) q36 rfl rfl dX1_solve_261 ?_
              refine x_iload hF 4 dX1_solve_264 rfl ?_
              refine x_iload hF 6 dX1_solve_266 rfl ?_
              refine x_i2b (v := (nI v)) hF dX1_solve_268 (byte_n _ (by omega)) ?_
              refine x_bast (w' := wX h d n to b1 c1 L P (va_up pa1 (dp + 1) v) la1 (va_up nt1 dp (v + 1)) bp1 ne') hF 3 2 rfl rfl (by decide) (by omega) (by omega) rfl dX1_solve_269 ?_
              refine x_aload_n hF 0 dX1_solve_270 rfl rfl ?_
              refine x_get (ci := 0) (C := RX1) (T := TX1) (N := 11) (v := .ref (h 4)) hF in_X1 0 rfl rfl 5 (by decide) q37 rfl rfl dX1_solve_271 ?_
              refine x_iload hF 4 dX1_solve_274 rfl ?_
              refine x_iload hF 7 dX1_solve_276 rfl ?_
              refine x_iast (w' := wX h d n to b1 c1 L P (va_up pa1 (dp + 1) v) (va_up la1 (dp + 1) ((la1 dp) + (P ((7 * (pa1 dp)) + v)))) (va_up nt1 dp (v + 1)) bp1 ne') hF 4 3 rfl rfl (by decide) (by omega) rfl dX1_solve_278 ?_
              refine x_aload_n hF 0 dX1_solve_279 rfl rfl ?_
              refine x_get (ci := 0) (C := RX1) (T := TX1) (N := 11) (v := .ref (h 5)) hF in_X1 0 rfl rfl 6 (by decide) q38 rfl rfl dX1_solve_280 ?_
              refine x_iload hF 4 dX1_solve_283 rfl ?_
              refine x_iconst hF dX1_solve_285 kc_i0 ?_
              refine x_bast (w' := wX h d n to b1 c1 L P (va_up pa1 (dp + 1) v) (va_up la1 (dp + 1) ((la1 dp) + (P ((7 * (pa1 dp)) + v)))) (va_up (va_up nt1 dp (v + 1)) (dp + 1) 0) bp1 ne') hF 5 4 rfl rfl (by decide) (by omega) (by omega) rfl dX1_solve_286 ?_
              refine x_iload hF 8 dX1_solve_287 rfl ?_
              refine x_istore (lv' := [(0, .ref (h 0)), (1, .int (nI fr)), (2, .int (nI to)), (3, .int (nI pl)), (4, .int (nI (dp + 1))), (5, .int (nI (clr left v))), (6, .int (nI v)), (7, .int (nI ((la1 dp) + (P ((7 * (pa1 dp)) + v))))), (8, .int (nI (clr left v))), (9, .int (nI b))]) hF dX1_solve_289 (by decide) rfl ?_
              refine x_goto hF 82 dX1_solve_291 (by decide) ?_
              refine WW.lvs [0, 1, 2, 3, 4, 5] rfl ?_
              refine ihm 8 (dp + 1) (clr left v) b1 c1 _ _ _ bp1 ne' (di_child hn hP hD hv2 hv3) (by rw [va_up_self]; omega) (fun left' b2 c2 pa2 la2 nt2 bp2 ne2 e1 e2 e3 => ?_)
              have e4 : left' = left := by rw [e2, if_neg (by omega), va_up_self, or_back h5 hv7 hv3]
              subst e4
              rw [va_up_self, cmf_0, pth_up] at e3
              have e5 : ∀ j, j < dp + 1 → pa2 j = pa1 j ∧ la2 j = la1 j ∧ nt2 j = va_up nt1 dp (v + 1) j := fun j hj => by
                have := e1 j hj
                rw [va_up_ne _ _ (by omega), va_up_ne _ _ (by omega), va_up_ne _ _ (by omega)] at this
                exact this
              have e6 : nt2 dp = v + 1 := by rw [(e5 dp (by omega)).2.2, va_up_self]
              refine ihf dp left' b2 c2 pa2 la2 nt2 bp2 ne2 (di_back (v := v) hD (Nat.le_trans (rs_le e3) h9) (fun j hj => ⟨(e5 j hj).1, (e5 j hj).2.1⟩) (by omega)) (by omega) (fun left'' b3 c3 pa3 la3 nt3 bp3 ne3 q1 q2 q3 => ?_)
              refine K left'' b3 c3 pa3 la3 nt3 bp3 ne3 (fun j hj => ?_) (by rw [q2, (e5 dp (by omega)).1]) ?_
              · have a1 := q1 j hj
                have a2 := e5 j (by omega)
                rw [va_up_ne _ _ (by omega)] at a2
                exact ⟨a1.1.trans a2.1, a1.2.1.trans a2.2.1, a1.2.2.trans a2.2.2⟩
              · rw [hnx]
                refine rs_app e3 ?_
                rw [e6, pth_congr (pa := pa1) (fun j hj => (e5 j (by omega)).1)] at q3
                exact q3
            · refine x_goto hF 82 dX1_solve_254 (by decide) ?_
              refine WW.lvs [0, 1, 2, 3, 4, 5] rfl ?_
              refine ihf dp left b1 c1 pa1 la1 (va_up nt1 dp (v + 1)) bp1 ne' (di_back (v := v) hD h9 (fun j _ => ⟨rfl, rfl⟩) (by rw [va_up_self]; omega)) (by rw [va_up_self]; omega) (fun left' b2 c2 pa2 la2 nt2 bp2 ne2 e1 e2 e3 => K left' b2 c2 pa2 la2 nt2 bp2 ne2 (fun j hj => ?_) e2 ?_)
              · have := e1 j hj
                rw [va_up_ne _ _ (by omega)] at this
                exact this
              · rw [va_up_self] at e3
                rw [hnx]
                exact rs_app (rs_far hn hP hD hv2 hv3 hb2 (by omega)) e3
          · refine x_istore (lv' := [(0, .ref (h 0)), (1, .int (nI fr)), (2, .int (nI to)), (3, .int (nI pl)), (4, .int (nI dp)), (5, .int (nI left)), (6, .int (-1))]) hF dX1_solve_157 (by decide) rfl ?_
            refine x_iload hF 6 dX1_solve_159 rfl ?_
            refine x_if_geR hF 181 dX1_solve_161 (by decide) (fun c_161 => ?_) (fun c_161 => ?_)
            · exact absurd c_161 (by decide)
            · refine x_iload hF 5 dX1_solve_164 rfl ?_
              refine x_aload_n hF 0 dX1_solve_166 rfl rfl ?_
              refine x_iload hF 4 dX1_solve_167 rfl ?_
              refine x_calli (C := RX1) (T := TX1) (N := 11) (ci := 0) (q0 := 0) (b := h 0) (As := [.int (nI dp)]) (rest := [.int (nI left)]) hF (m1_freed (k := dp) (by omega) (by omega)) 1 (lw_V q97 q99 qs5 q22 q100) rfl rfl (by decide +kernel) ⟨by decide, by decide⟩ rfl rfl rfl rfl (Nat.le_of_ble_eq_true rfl) dX1_solve_169 ⟨Nat.zero_le _, Nat.zero_le _⟩ (fun r_169 w_169 hp_169 => ?_)
              obtain ⟨rfl, rfl⟩ := hp_169
              refine x_ior (v := nI (left ||| (if dp = 0 then 0 else 2 ^ pa1 dp))) hF dX1_solve_172 (bt_or _ _) ?_
              refine x_istore (lv' := [(0, .ref (h 0)), (1, .int (nI fr)), (2, .int (nI to)), (3, .int (nI pl)), (4, .int (nI dp)), (5, .int (nI (left ||| (if dp = 0 then 0 else 2 ^ pa1 dp)))), (6, .int (-1))]) hF dX1_solve_173 (by decide) rfl ?_
              refine x_iinc (v := (dm dp)) (lv' := [(0, .ref (h 0)), (1, .int (nI fr)), (2, .int (nI to)), (3, .int (nI pl)), (4, .int (dm dp)), (5, .int (nI (left ||| (if dp = 0 then 0 else 2 ^ pa1 dp)))), (6, .int (-1))]) hF 4 dX1_solve_175 rfl (dm_dec dp) (by decide) rfl ?_
              refine x_goto hF 82 dX1_solve_178 (by decide) ?_
              refine WW.lvs [0, 1, 2, 3, 4, 5] rfl ?_
              refine K _ b1 c1 pa1 la1 nt1 bp1 ne1 (fun j hj => ⟨rfl, rfl, rfl⟩) rfl ?_
              rw [cmf_none (fun x q1 q2 q3 => by have := (h6 x (by omega)).mpr q3; rw [hv4 x q1 q2] at this; cases this)]
              exact rs_nil
        · omega
  have h2n := two_n hn
  refine x_aload_n hF 0 dX1_solve_0 rfl rfl ?_
  refine x_iload_n hF 2 dX1_solve_1 rfl rfl ?_
  refine x_put (ci := 0) (C := RX1) (T := TX1) (N := 11) (w' := wX h d n to best bc L P pa la nt bp ne) hF in_X1 tyX1 tyX1_ok nmX1 0 rfl rfl 2 (by decide) q34 rfl rfl rfl rfl (Nat.le_of_ble_eq_true rfl) rfl dX1_solve_2 ?_
  refine x_aload_n hF 0 dX1_solve_5 rfl rfl ?_
  refine x_ldc (v' := nI 80000) hF q92 (by decide +kernel) dX1_solve_6 ?_
  refine x_put (ci := 0) (C := RX1) (T := TX1) (N := 11) (w' := wX h d n to 80000 bc L P pa la nt bp ne) hF in_X1 tyX1 tyX1_ok nmX1 0 rfl rfl 7 (by decide) q39 rfl rfl rfl rfl (Nat.le_of_ble_eq_true rfl) rfl dX1_solve_8 ?_
  refine x_aload_n hF 0 dX1_solve_11 rfl rfl ?_
  refine x_iconst hF dX1_solve_12 kc_i0 ?_
  refine x_put (ci := 0) (C := RX1) (T := TX1) (N := 11) (w' := wX h d n to 80000 0 L P pa la nt bp ne) hF in_X1 tyX1 tyX1_ok nmX1 0 rfl rfl 8 (by decide) q40 rfl rfl rfl rfl (Nat.le_of_ble_eq_true rfl) rfl dX1_solve_13 ?_
  refine x_iload_n hF 1 dX1_solve_16 rfl rfl ?_
  refine x_iload_n hF 2 dX1_solve_17 rfl rfl ?_
  refine x_icmp_ne hF 28 dX1_solve_18 (by decide) (by omega) (by omega) (fun c_18 => ?_) (fun c_18 => ?_)
  · refine x_aload_n hF 0 dX1_solve_28 rfl rfl ?_
    refine x_get (ci := 0) (C := RX1) (T := TX1) (N := 11) (v := .int (nI n)) hF in_X1 0 rfl rfl 0 (by decide) q32 rfl rfl dX1_solve_29 ?_
    refine x_iconst hF dX1_solve_32 kc_i1 ?_
    refine x_isub hF dX1_solve_33 (by omega) ?_
    refine x_istore_n (lv' := [(0, .ref (h 0)), (1, .int (nI fr)), (2, .int (nI to)), (3, .int (nI (n - 1)))]) hF dX1_solve_34 rfl (by decide) rfl ?_
    refine x_aload_n hF 0 dX1_solve_35 rfl rfl ?_
    refine x_get (ci := 0) (C := RX1) (T := TX1) (N := 11) (v := .ref (h 3)) hF in_X1 0 rfl rfl 4 (by decide) q36 rfl rfl dX1_solve_36 ?_
    refine x_iconst hF dX1_solve_39 kc_i0 ?_
    refine x_iload_n hF 1 dX1_solve_40 rfl rfl ?_
    refine x_i2b (v := (nI fr)) hF dX1_solve_41 (byte_n _ (by omega)) ?_
    refine x_bast (w' := wX h d n to 80000 0 L P (va_up pa 0 fr) la nt bp ne) hF 3 2 rfl rfl (by decide) (by omega) (by omega) rfl dX1_solve_42 ?_
    refine x_aload_n hF 0 dX1_solve_43 rfl rfl ?_
    refine x_get (ci := 0) (C := RX1) (T := TX1) (N := 11) (v := .ref (h 4)) hF in_X1 0 rfl rfl 5 (by decide) q37 rfl rfl dX1_solve_44 ?_
    refine x_iconst hF dX1_solve_47 kc_i0 ?_
    refine x_iconst hF dX1_solve_48 kc_i0 ?_
    refine x_iast (w' := wX h d n to 80000 0 L P (va_up pa 0 fr) (va_up la 0 0) nt bp ne) hF 4 3 rfl rfl (by decide) (by omega) rfl dX1_solve_49 ?_
    refine x_aload_n hF 0 dX1_solve_50 rfl rfl ?_
    refine x_get (ci := 0) (C := RX1) (T := TX1) (N := 11) (v := .ref (h 5)) hF in_X1 0 rfl rfl 6 (by decide) q38 rfl rfl dX1_solve_51 ?_
    refine x_iconst hF dX1_solve_54 kc_i0 ?_
    refine x_iconst hF dX1_solve_55 kc_i0 ?_
    refine x_bast (w' := wX h d n to 80000 0 L P (va_up pa 0 fr) (va_up la 0 0) (va_up nt 0 0) bp ne) hF 5 4 rfl rfl (by decide) (by omega) (by omega) rfl dX1_solve_56 ?_
    refine x_iconst hF dX1_solve_57 kc_i0 ?_
    refine x_istore (lv' := [(0, .ref (h 0)), (1, .int (nI fr)), (2, .int (nI to)), (3, .int (nI (n - 1))), (4, .int (nI 0))]) hF dX1_solve_58 (by decide) rfl ?_
    refine x_iconst hF dX1_solve_60 kc_i1 ?_
    refine x_aload_n hF 0 dX1_solve_61 rfl rfl ?_
    refine x_get (ci := 0) (C := RX1) (T := TX1) (N := 11) (v := .int (nI n)) hF in_X1 0 rfl rfl 0 (by decide) q32 rfl rfl dX1_solve_62 ?_
    refine x_ishl (v := nI (2 ^ n)) hF dX1_solve_65 (bt_shl (by omega)) ?_
    refine x_iconst hF dX1_solve_66 kc_i1 ?_
    refine x_isub hF dX1_solve_67 (by omega) ?_
    refine x_iconst hF dX1_solve_68 kc_i1 ?_
    refine x_iload_n hF 1 dX1_solve_69 rfl rfl ?_
    refine x_ishl (v := nI (2 ^ fr)) hF dX1_solve_70 (bt_shl (by omega)) ?_
    refine x_iconst hF dX1_solve_71 kc_im1 ?_
    refine x_ixor hF dX1_solve_72 rfl ?_
    refine x_iand (v := nI (clr ((2 ^ n) - 1) fr)) hF dX1_solve_73 (bt_clr (by omega) (by omega)) ?_
    refine x_iconst hF dX1_solve_74 kc_i1 ?_
    refine x_iload_n hF 2 dX1_solve_75 rfl rfl ?_
    refine x_ishl (v := nI (2 ^ to)) hF dX1_solve_76 (bt_shl (by omega)) ?_
    refine x_iconst hF dX1_solve_77 kc_im1 ?_
    refine x_ixor hF dX1_solve_78 rfl ?_
    refine x_iand (v := nI (clr (clr ((2 ^ n) - 1) fr) to)) hF dX1_solve_79 (bt_clr (by exact clr_lt (by omega) (by omega)) (by omega)) ?_
    refine x_istore (lv' := [(0, .ref (h 0)), (1, .int (nI fr)), (2, .int (nI to)), (3, .int (nI (n - 1))), (4, .int (nI 0)), (5, .int (nI (clr (clr ((2 ^ n) - 1) fr) to)))]) hF dX1_solve_80 (by decide) rfl ?_
    have hpl : plc n fr to = n - 1 := if_neg c_18
    rw [hpl] at hret
    have hD0 := di_init (P := P) (pa := pa) (la := la) (nt := nt) hn3 hn hfr hto
    rw [hpl] at hD0
    refine dfs (n - 1) (by omega) _ 8 0 _ 80000 0 _ _ _ bp ne hD0 (by omega) (fun left' b2 c2 pa2 la2 nt2 bp2 ne2 _ _ e3 => ?_)
    rw [va_up_self, cmf_0, show pth (va_up pa 0 fr) 0 = [fr] from by show [va_up pa 0 fr 0] = [fr]; rw [va_up_self]] at e3
    refine x_iload hF 4 dX1_solve_82 rfl ?_
    refine x_if_ltR hF 294 dX1_solve_84 (by decide) (fun c_84 => ?_) (fun c_84 => ?_)
    · exact hret _ _ _ ⟨b2, c2, pa2, la2, nt2, bp2, ne2, e3, rfl⟩ dX1_solve_294
    · exact absurd (by decide) c_84
  · refine x_aload_n hF 0 dX1_solve_21 rfl rfl ?_
    refine x_get (ci := 0) (C := RX1) (T := TX1) (N := 11) (v := .int (nI n)) hF in_X1 0 rfl rfl 0 (by decide) q32 rfl rfl dX1_solve_22 ?_
    refine x_goto hF 34 dX1_solve_25 (by decide) ?_
    refine x_istore_n (lv' := [(0, .ref (h 0)), (1, .int (nI fr)), (2, .int (nI to)), (3, .int (nI n))]) hF dX1_solve_34 rfl (by decide) rfl ?_
    refine x_aload_n hF 0 dX1_solve_35 rfl rfl ?_
    refine x_get (ci := 0) (C := RX1) (T := TX1) (N := 11) (v := .ref (h 3)) hF in_X1 0 rfl rfl 4 (by decide) q36 rfl rfl dX1_solve_36 ?_
    refine x_iconst hF dX1_solve_39 kc_i0 ?_
    refine x_iload_n hF 1 dX1_solve_40 rfl rfl ?_
    refine x_i2b (v := (nI fr)) hF dX1_solve_41 (byte_n _ (by omega)) ?_
    refine x_bast (w' := wX h d n to 80000 0 L P (va_up pa 0 fr) la nt bp ne) hF 3 2 rfl rfl (by decide) (by omega) (by omega) rfl dX1_solve_42 ?_
    refine x_aload_n hF 0 dX1_solve_43 rfl rfl ?_
    refine x_get (ci := 0) (C := RX1) (T := TX1) (N := 11) (v := .ref (h 4)) hF in_X1 0 rfl rfl 5 (by decide) q37 rfl rfl dX1_solve_44 ?_
    refine x_iconst hF dX1_solve_47 kc_i0 ?_
    refine x_iconst hF dX1_solve_48 kc_i0 ?_
    refine x_iast (w' := wX h d n to 80000 0 L P (va_up pa 0 fr) (va_up la 0 0) nt bp ne) hF 4 3 rfl rfl (by decide) (by omega) rfl dX1_solve_49 ?_
    refine x_aload_n hF 0 dX1_solve_50 rfl rfl ?_
    refine x_get (ci := 0) (C := RX1) (T := TX1) (N := 11) (v := .ref (h 5)) hF in_X1 0 rfl rfl 6 (by decide) q38 rfl rfl dX1_solve_51 ?_
    refine x_iconst hF dX1_solve_54 kc_i0 ?_
    refine x_iconst hF dX1_solve_55 kc_i0 ?_
    refine x_bast (w' := wX h d n to 80000 0 L P (va_up pa 0 fr) (va_up la 0 0) (va_up nt 0 0) bp ne) hF 5 4 rfl rfl (by decide) (by omega) (by omega) rfl dX1_solve_56 ?_
    refine x_iconst hF dX1_solve_57 kc_i0 ?_
    refine x_istore (lv' := [(0, .ref (h 0)), (1, .int (nI fr)), (2, .int (nI to)), (3, .int (nI n)), (4, .int (nI 0))]) hF dX1_solve_58 (by decide) rfl ?_
    refine x_iconst hF dX1_solve_60 kc_i1 ?_
    refine x_aload_n hF 0 dX1_solve_61 rfl rfl ?_
    refine x_get (ci := 0) (C := RX1) (T := TX1) (N := 11) (v := .int (nI n)) hF in_X1 0 rfl rfl 0 (by decide) q32 rfl rfl dX1_solve_62 ?_
    refine x_ishl (v := nI (2 ^ n)) hF dX1_solve_65 (bt_shl (by omega)) ?_
    refine x_iconst hF dX1_solve_66 kc_i1 ?_
    refine x_isub hF dX1_solve_67 (by omega) ?_
    refine x_iconst hF dX1_solve_68 kc_i1 ?_
    refine x_iload_n hF 1 dX1_solve_69 rfl rfl ?_
    refine x_ishl (v := nI (2 ^ fr)) hF dX1_solve_70 (bt_shl (by omega)) ?_
    refine x_iconst hF dX1_solve_71 kc_im1 ?_
    refine x_ixor hF dX1_solve_72 rfl ?_
    refine x_iand (v := nI (clr ((2 ^ n) - 1) fr)) hF dX1_solve_73 (bt_clr (by omega) (by omega)) ?_
    refine x_iconst hF dX1_solve_74 kc_i1 ?_
    refine x_iload_n hF 2 dX1_solve_75 rfl rfl ?_
    refine x_ishl (v := nI (2 ^ to)) hF dX1_solve_76 (bt_shl (by omega)) ?_
    refine x_iconst hF dX1_solve_77 kc_im1 ?_
    refine x_ixor hF dX1_solve_78 rfl ?_
    refine x_iand (v := nI (clr (clr ((2 ^ n) - 1) fr) to)) hF dX1_solve_79 (bt_clr (by exact clr_lt (by omega) (by omega)) (by omega)) ?_
    refine x_istore (lv' := [(0, .ref (h 0)), (1, .int (nI fr)), (2, .int (nI to)), (3, .int (nI n)), (4, .int (nI 0)), (5, .int (nI (clr (clr ((2 ^ n) - 1) fr) to)))]) hF dX1_solve_80 (by decide) rfl ?_
    have hpl : plc n fr to = n := if_pos c_18
    rw [hpl] at hret
    have hD0 := di_init (P := P) (pa := pa) (la := la) (nt := nt) hn3 hn hfr hto
    rw [hpl] at hD0
    refine dfs n (by omega) _ 8 0 _ 80000 0 _ _ _ bp ne hD0 (by omega) (fun left' b2 c2 pa2 la2 nt2 bp2 ne2 _ _ e3 => ?_)
    rw [va_up_self, cmf_0, show pth (va_up pa 0 fr) 0 = [fr] from by show [va_up pa 0 fr 0] = [fr]; rw [va_up_self]] at e3
    refine x_iload hF 4 dX1_solve_82 rfl ?_
    refine x_if_ltR hF 294 dX1_solve_84 (by decide) (fun c_84 => ?_) (fun c_84 => ?_)
    · exact hret _ _ _ ⟨b2, c2, pa2, la2, nt2, bp2, ne2, e3, rfl⟩ dX1_solve_294
    · exact absurd (by decide) c_84
end
end
section
/-! PURE: what the answers of TourSolver say over the lengths -/
theorem tot_congr {w w' : Nat → Nat → Nat} {g n : Nat} (hg : g < n) (h : ∀ x y, x < n → y < n → w x y = w' x y) : ∀ (p : List Nat), (∀ x, x ∈ p → x < n) → tot w g p = tot w' g p
  | [], _ => rfl
  | [a], hp => h a g (hp a List.mem_cons_self) hg
  | a :: b :: r, hp => by
    show w a b + tot w g (b :: r) = w' a b + tot w' g (b :: r)
    rw [h a b (hp a List.mem_cons_self) (hp b (List.mem_cons_of_mem _ List.mem_cons_self)), tot_congr hg h (b :: r) (fun x hx => hp x (List.mem_cons_of_mem _ hx))]
theorem tot_le {w : Nat → Nat → Nat} {g n B : Nat} (hg : g < n) (h : ∀ x y, x < n → y < n → w x y ≤ B) : ∀ (p : List Nat), (∀ x, x ∈ p → x < n) → tot w g p ≤ B * p.length
  | [], _ => Nat.zero_le _
  | [a], hp => by
    have := h a g (hp a List.mem_cons_self) hg
    show w a g ≤ B * 1
    omega
  | a :: b :: r, hp => by
    have h1 := h a b (hp a List.mem_cons_self) (hp b (List.mem_cons_of_mem _ List.mem_cons_self))
    have h2 := tot_le hg h (b :: r) (fun x hx => hp x (List.mem_cons_of_mem _ hx))
    show w a b + tot w g (b :: r) ≤ B * ((b :: r).length + 1)
    rw [Nat.mul_add]
    omega
theorem res_congr {w w' : Nat → Nat → Nat} {g : Nat} {l : List (List Nat)} {r : Nat × Nat × List Nat} (h : ∀ p, p ∈ l → tot w g p = tot w' g p) (hr : Res w g l r) : Res w' g l r := by
  obtain ⟨i, h1, h2, h3, h4, h5⟩ := hr
  refine ⟨i, h1, by rw [← h _ (List.mem_of_getElem? h1)]; exact h2, fun j q hq => by rw [← h _ (List.mem_of_getElem? hq)]; exact h3 j q hq, fun j q hj hq => by rw [← h _ (List.mem_of_getElem? hq)]; exact h4 j q hj hq, ?_⟩
  rw [h5]
  exact List.countP_congr (fun q hq => by rw [h q hq])
theorem cmp_lt {n g m s : Nat} (hs : s < n) {f : List Nat} (h : f ∈ cmp n g m [s]) : (∀ x, x ∈ f → x < n) ∧ f.length = m + 1 := by
  obtain ⟨q, e, e1, e2, e3⟩ := cmp_app h
  rw [e]
  refine ⟨fun x hx => ?_, by simp [e1]⟩
  rcases List.mem_append.mp hx with q9 | q9
  · have : x = s := by simpa using q9
    rw [this]; exact hs
  · exact (e2 x q9).1
theorem cmp_ne {n g : Nat} : ∀ (m : Nat) (p : List Nat), ctn (fun x => ¬ x ∈ p ∧ ¬ x = g) n = m → ¬ cmp n g m p = []
  | 0, p, _ => by simp [cmp]
  | m + 1, p, hc => by
    have hex : ∃ v, v < n ∧ (¬ v ∈ p ∧ ¬ v = g) := Classical.byContradiction (fun q => by
      have := ctn_none (P := fun x => ¬ x ∈ p ∧ ¬ x = g) (N := n) (fun x hx q2 => q ⟨x, hx, q2⟩)
      omega)
    obtain ⟨v, hv, hv2⟩ := hex
    have e1 := ctn_del (P := fun x => ¬ x ∈ p ∧ ¬ x = g) hv hv2
    have e2 : ctn (fun x => ¬ x ∈ p ++ [v] ∧ ¬ x = g) n = ctn (fun x => (¬ x ∈ p ∧ ¬ x = g) ∧ ¬ x = v) n := ctn_congr (fun y _ => by
      rw [List.mem_append]
      simp only [List.mem_singleton]
      constructor
      · rintro ⟨a, b⟩
        exact ⟨⟨fun q => a (Or.inl q), b⟩, fun q => a (Or.inr q)⟩
      · rintro ⟨⟨a, b⟩, c⟩
        exact ⟨fun q => by rcases q with q | q; exact a q; exact c q, b⟩)
    have ih := cmp_ne (n := n) (g := g) m (p ++ [v]) (by omega)
    intro e
    have e3 : (nxt n g p).flatMap (fun v => cmp n g m (p ++ [v])) = [] := e
    rw [List.flatMap_eq_nil_iff] at e3
    exact ih (e3 v (mem_nxt.mpr ⟨hv, hv2⟩))
theorem sv_res {L P bp bp' : Nat → Nat} {n fr to b' c' : Nat} (hn3 : 3 ≤ n) (hn : n ≤ 7) (hf : fr < n) (ht : to < n) (hPL : ∀ j, j < 49 → P j = L j) (hB : ∀ j, j < 49 → L j ≤ 10000) (h : RS P to (plc n fr to) 80000 0 bp (cmp n to (plc n fr to - 1) [fr]) b' c' bp') : Res (mx L) to (cmp n to (plc n fr to - 1) [fr]) (b', c', (List.range (plc n fr to)).map bp') := by
  have hpl : plc n fr to ≤ 7 ∧ 1 ≤ plc n fr to := by
    unfold plc
    by_cases e : fr = to
    · rw [if_pos e]; omega
    · rw [if_neg e]; omega
  have hc : ctn (fun x => ¬ x ∈ [fr] ∧ ¬ x = to) n = plc n fr to - 1 := by
    have := (di_init (P := P) (pa := fun _ => 0) (la := fun _ => 0) (nt := fun _ => 0) hn3 hn hf ht).2.2.2.2.2.2.1
    have hp : pth (va_up (fun _ => 0) 0 fr) 0 = [fr] := by
      show [va_up (fun _ => 0) 0 fr 0] = [fr]
      rw [va_up_self]
    rw [hp] at this
    exact this
  have e : ∀ x y, x < n → y < n → mx P x y = mx L x y := fun x y hx hy => hPL _ (by omega)
  unfold RS at h
  rw [h]
  refine res_congr (w := mx P) (fun p hp => tot_congr ht e p (cmp_lt hf hp).1) ?_
  refine res_all (cmp_ne _ _ hc) (fun p hp => ?_)
  have h1 := tot_le (w := mx P) (B := 10000) ht (fun x y hx hy => by rw [e x y hx hy]; exact hB _ (by omega)) p (cmp_lt hf hp).1
  have h2 := (cmp_lt hf hp).2
  show _ < 80000
  omega
theorem pr_congr {w w' : Nat → Nat → Nat} {S S' : Nat → Prop} {s0 : Nat} (hS : ∀ x, S x ↔ S' x) (hw : ∀ x y, S x → S y → w x y = w' x y) : ∀ {l : List (Nat × Nat)}, PR w S s0 l → PR w' S' s0 l
  | [], h => (hS s0).mp h
  | q :: l, h => ⟨pr_congr hS hw h.1, (hS _).mp h.2.1, h.2.2.1, (by
      obtain ⟨x, hx, ex⟩ := h.2.2.2.1
      exact ⟨x, hx, by rw [← hw x q.1 (vis_S h.1 x hx) h.2.1]; exact ex⟩), fun x hx z hz hzn => by
      rw [← hw x z (vis_S h.1 x hx) ((hS z).mpr hz)]
      exact h.2.2.2.2 x hx z ((hS z).mpr hz) hzn⟩
/-- the lengths as both objects have them -/
def LOK (n : Nat) (L : Nat → Nat) : Prop := (∀ j, L j ≤ 60) ∧ ∀ x y, x < n → y < n → mx L x y = mx L y x
theorem lok_up {n a b k : Nat} {L : Nat → Nat} (hn : n ≤ 7) (h : LOK n L) (ha : a < n) (hb : b < n) (hk : k ≤ 60) : LOK n (up2 L a b k) := by
  refine ⟨fun j => ?_, fun x y hx hy => ?_⟩
  · unfold up2 va_up
    by_cases h1 : j = 7 * b + a
    · rw [if_pos h1]; exact hk
    · rw [if_neg h1]
      by_cases h2 : j = 7 * a + b
      · rw [if_pos h2]; exact hk
      · rw [if_neg h2]; exact h.1 j
  · have := h.2 x y hx hy
    unfold mx at this
    unfold mx up2 va_up
    by_cases h1 : 7 * x + y = 7 * b + a
    · have : x = b ∧ y = a := by omega
      rw [if_pos h1]
      by_cases h2 : 7 * y + x = 7 * b + a
      · rw [if_pos h2]
      · rw [if_neg h2, if_pos (by omega)]
    · rw [if_neg h1]
      by_cases h2 : 7 * x + y = 7 * a + b
      · rw [if_pos h2, if_pos (by omega)]
      · rw [if_neg h2, if_neg (by omega), if_neg (by omega)]
        exact this
/-- the picture of a TourSolver of n towns with the lengths L -/
def WX (h : Nat → Nat) (d : Nat → ClassId) (n : Nat) (L : Nat → Nat) (w : va_W) : Prop := ∃ (goal best bc : Nat) (P pa la nt bp ne : Nat → Nat), w = wX h d n goal best bc L P pa la nt bp ne
def trs (n : Nat) : List (List Nat) := cmp n 0 (n - 1) [0]
theorem tb_all {n : Nat} (hn : n ≤ 7) (x : Nat) : inT n (2 ^ n - 1) x ↔ x < n := by
  unfold inT
  rw [Nat.testBit_two_pow_sub_one]
  simp
-- a shift's lengths
def clip (z : Int) : Nat := if z < 0 then 0 else if 60 < z then 60 else z.toNat
theorem clip_le (z : Int) : clip z ≤ 60 := by
  unfold clip
  by_cases h : z < 0
  · rw [if_pos h]; omega
  · rw [if_neg h]
    by_cases h2 : 60 < z
    · rw [if_pos h2]; omega
    · rw [if_neg h2]; omega
def shf (a : Nat) (z : Int) (L : Nat → Nat) : Nat → (Nat → Nat) × Nat
  | 0 => (L, 0)
  | k + 1 => if k = a then shf a z L k else (up2 (shf a z L k).1 a k (clip ((shf a z L k).1 (7 * a + k) + z)), if clip ((shf a z L k).1 (7 * a + k) + z) = (shf a z L k).1 (7 * a + k) then (shf a z L k).2 else (shf a z L k).2 + 1)
theorem shf_ok {n a : Nat} {z : Int} {L : Nat → Nat} (hn : n ≤ 7) (h : LOK n L) (ha : a < n) : ∀ k, k ≤ n → LOK n (shf a z L k).1
  | 0, _ => h
  | k + 1, hk => by
    have ih := shf_ok (z := z) hn h ha k (by omega)
    unfold shf
    by_cases e : k = a
    · rw [if_pos e]; exact ih
    · rw [if_neg e]
      exact lok_up hn ih ha (by omega) (clip_le _)
theorem shf_same {a : Nat} {z : Int} {L : Nat → Nat} : shf a z L (a + 1) = shf a z L a := by
  show (if a = a then _ else _) = _
  rw [if_pos rfl]
theorem shf_new {a k : Nat} {z : Int} {L : Nat → Nat} (h : ¬ k = a) : shf a z L (k + 1) = (up2 (shf a z L k).1 a k (clip ((shf a z L k).1 (7 * a + k) + z)), if clip ((shf a z L k).1 (7 * a + k) + z) = (shf a z L k).1 (7 * a + k) then (shf a z L k).2 else (shf a z L k).2 + 1) := by
  show (if k = a then _ else _) = _
  rw [if_neg h]
theorem shf_cnt {a : Nat} {z : Int} {L : Nat → Nat} : ∀ k, (shf a z L k).2 ≤ k
  | 0 => Nat.le_refl _
  | k + 1 => by
    have ih := shf_cnt (a := a) (z := z) (L := L) k
    unfold shf
    by_cases e : k = a
    · rw [if_pos e]; omega
    · rw [if_neg e]
      show (if _ then _ else _) ≤ _
      by_cases e2 : clip ((shf a z L k).1 (7 * a + k) + z) = (shf a z L k).1 (7 * a + k)
      · rw [if_pos e2]; omega
      · rw [if_neg e2]; omega
/-- the way's new length before it is held in its bounds -/
theorem clip_cases {x : Nat} {mo : Int32} (hx : x ≤ 60) (h1 : ¬ mo < -60) (h2 : mo ≤ nI 60) : (nI x + mo < 0 ∧ clip (x + mo.toInt) = 0) ∨ (¬ nI x + mo < 0 ∧ nI 60 < nI x + mo ∧ clip (x + mo.toInt) = 60) ∨ ∃ k : Nat, k ≤ 60 ∧ nI x + mo = nI k ∧ clip (x + mo.toInt) = k := by
  have e60 : (nI 60).toInt = 60 := by decide +kernel
  have em60 : (-60 : Int32).toInt = -60 := by decide +kernel
  have b1 : -60 ≤ mo.toInt := by
    have := Int.not_lt.mp (fun q => h1 (Int32.lt_iff_toInt_lt.mpr q))
    omega
  have b2 : mo.toInt ≤ 60 := by
    have := Int32.le_iff_toInt_le.mp h2
    omega
  have ex : (nI x).toInt = x := nI_toInt (by omega)
  have es : (nI x + mo).toInt = x + mo.toInt := by
    rw [Int32.toInt_add, ex]
    exact Int.bmod_eq_of_le (by omega) (by omega)
  have e0 : (0 : Int32).toInt = 0 := rfl
  unfold clip
  by_cases c1 : (x : Int) + mo.toInt < 0
  · left
    exact ⟨Int32.lt_iff_toInt_lt.mpr (by omega), by rw [if_pos c1]⟩
  · right
    rw [if_neg c1]
    by_cases c2 : 60 < (x : Int) + mo.toInt
    · left
      exact ⟨fun q => by have := Int32.lt_iff_toInt_lt.mp q; omega, Int32.lt_iff_toInt_lt.mpr (by omega), by rw [if_pos c2]⟩
    · right
      rw [if_neg c2]
      refine ⟨((x : Int) + mo.toInt).toNat, by omega, Int32.toInt_inj.mp ?_, rfl⟩
      rw [es, nI_toInt (by omega)]
      omega
theorem up2_le {L : Nat → Nat} {a b j : Nat} (h : L j ≤ 10000) : up2 L a b 10000 j ≤ 10000 := by
  unfold up2 va_up
  by_cases h1 : j = 7 * b + a
  · rw [if_pos h1]; omega
  · rw [if_neg h1]
    by_cases h2 : j = 7 * a + b
    · rw [if_pos h2]; omega
    · rw [if_neg h2]; exact h
theorem up2_congr {L P : Nat → Nat} {a b k j : Nat} (h : P j = L j) : up2 P a b k j = up2 L a b k j := by
  unfold up2 va_up
  by_cases h1 : j = 7 * b + a
  · rw [if_pos h1, if_pos h1]
  · rw [if_neg h1, if_neg h1]
    by_cases h2 : j = 7 * a + b
    · rw [if_pos h2, if_pos h2]
    · rw [if_neg h2, if_neg h2]; exact h
theorem up2_sym {L : Nat → Nat} {n a b k x y : Nat} (hn : n ≤ 7) (ha : a < n) (hb : b < n) (h : ∀ x y, x < n → y < n → mx L x y = mx L y x) (hx : x < n) (hy : y < n) : mx (up2 L a b k) x y = mx (up2 L a b k) y x := by
  have := h x y hx hy
  unfold mx at this
  unfold mx up2 va_up
  by_cases h1 : 7 * x + y = 7 * b + a
  · have : x = b ∧ y = a := by omega
    rw [if_pos h1]
    by_cases h2 : 7 * y + x = 7 * b + a
    · rw [if_pos h2]
    · rw [if_neg h2, if_pos (by omega)]
  · rw [if_neg h1]
    by_cases h2 : 7 * x + y = 7 * a + b
    · rw [if_pos h2, if_pos (by omega)]
    · rw [if_neg h2, if_neg (by omega), if_neg (by omega)]
      exact this
end
section
/-! TourSolver: its answers (printed by a program, wip/D-64046w/src) -/
set_option maxRecDepth 100000
section
variable {l : Launch} {D : va_G} {h : Nat → Nat} {d : Nat → ClassId} {n goal best bc : Nat} {L P pa la nt bp ne : Nat → Nat}
theorem m1_shortest (hn3 : 3 ≤ n) (hn : n ≤ 7) (hL : LOK n L) : MtI l yX1_shortest cX1_shortest 1 .int (rmr 4 106) D (tX d) [.ref (h 0)] (wX h d n goal best bc L P pa la nt bp ne) (fun r w1 => ∃ (g' b' c' : Nat) (P' pa' la' nt' bp' ne' : Nat → Nat), Res (mx L) 0 (trs n) (b', c', (List.range n).map bp') ∧ r = nI b' ∧ w1 = wX h d n g' b' c' L P' pa' la' nt' bp' ne') := by
  refine MtI.of rfl (Nat.le_of_ble_eq_true rfl) ?_
  intro p e s m args below meth c Q A hF hret
  refine WW.cw (lv2 := [(0, .ref (h 0))]) rfl rfl rfl ?_
  refine x_aload_n hF 0 dX1_shortest_0 rfl rfl ?_
  refine x_callv (C := RX1) (T := TX1) (N := 11) (ci := 0) (q0 := 0) (b := h 0) (As := []) (rest := []) hF m1_loadPrices 0 (lw_V q84 q86 qs2 q22 q87) rfl rfl (by decide +kernel) ⟨by decide, by decide⟩ rfl rfl rfl rfl (Nat.le_of_ble_eq_true rfl) dX1_shortest_1 ⟨Nat.zero_le _, Nat.zero_le _⟩ (fun w_1 hp_1 => ?_)
  obtain ⟨P', hP', rfl⟩ := hp_1
  have hB' : ∀ j, j < 49 → P' j ≤ 10000 := fun j hj => by rw [hP' j hj]; have := hL.1 j; omega
  have hsym' : ∀ x y, x < n → y < n → mx P' x y = mx P' y x := fun x y hx hy => by show P' _ = P' _; rw [hP' _ (by omega), hP' _ (by omega)]; exact hL.2 x y hx hy
  refine x_aload_n hF 0 dX1_shortest_4 rfl rfl ?_
  refine x_iconst hF dX1_shortest_5 kc_i0 ?_
  refine x_iconst hF dX1_shortest_6 kc_i0 ?_
  refine x_callv (C := RX1) (T := TX1) (N := 11) (ci := 0) (q0 := 0) (b := h 0) (As := [.int (nI 0), .int (nI 0)]) (rest := []) hF (m1_solve (P := P') hn3 hn (by omega) (by omega) hB' hsym') 2 (lw_V q88 q90 qs3 q22 q91) rfl rfl (by decide +kernel) ⟨by decide, by decide⟩ rfl rfl rfl rfl (Nat.le_of_ble_eq_true rfl) dX1_shortest_7 ⟨Nat.zero_le _, Nat.zero_le _⟩ (fun w_7 hp_7 => ?_)
  obtain ⟨b', c', pa', la', nt', bp', ne', hRS, rfl⟩ := hp_7
  have hR := sv_res hn3 hn (by omega) (by omega) hP' (fun j hj => by have := hL.1 j; omega) hRS
  rw [show plc n 0 0 = n from if_pos rfl] at hR
  refine x_aload_n hF 0 dX1_shortest_10 rfl rfl ?_
  refine x_get (ci := 0) (C := RX1) (T := TX1) (N := 11) (v := .int (nI b')) hF in_X1 0 rfl rfl 7 (by decide) q39 rfl rfl dX1_shortest_11 ?_
  exact hret _ _ _ _ ⟨_, _, _, _, _, _, _, _, _, hR, rfl, rfl⟩ rfl dX1_shortest_14
theorem m1_town (hn3 : 3 ≤ n) (hn : n ≤ 7) (hL : LOK n L) (u : Int32) : MtI l yX1_town cX1_town 2 .int (rmr 5 126) D (tX d) [.ref (h 0), .int u] (wX h d n goal best bc L P pa la nt bp ne) (fun r w1 => WX h d n L w1 ∧ ((¬ twn n u ∧ r = -1) ∨ ∃ (j b' c' : Nat) (bp' : Nat → Nat), j < n ∧ u = nI j ∧ Res (mx L) 0 (trs n) (b', c', (List.range n).map bp') ∧ r = nI (bp' j))) := by
  refine MtI.of rfl (Nat.le_of_ble_eq_true rfl) ?_
  intro p e s m args below meth c Q A hF hret
  refine WW.cw (lv2 := [(0, .ref (h 0)), (1, .int u)]) rfl rfl rfl ?_
  refine x_iload_n hF 1 dX1_town_0 rfl rfl ?_
  refine x_if_ltR hF 12 dX1_town_1 (by decide) (fun c_1 => ?_) (fun c_1 => ?_)
  · refine x_iconst hF dX1_town_12 kc_im1 ?_
    exact hret _ _ _ _ ⟨⟨_, _, _, _, _, _, _, _, _, rfl⟩, Or.inl ⟨fun q => by have q2 := (twn_iff hn).mp q; first | exact q2.1 c_1 | exact c_9 (Int32.not_le.mp q2.2), rfl⟩⟩ rfl dX1_town_13
  · refine x_iload_n hF 1 dX1_town_4 rfl rfl ?_
    refine x_aload_n hF 0 dX1_town_5 rfl rfl ?_
    refine x_get (ci := 0) (C := RX1) (T := TX1) (N := 11) (v := .int (nI n)) hF in_X1 0 rfl rfl 0 (by decide) q32 rfl rfl dX1_town_6 ?_
    refine x_icmp_ltR hF 14 dX1_town_9 (by decide) (fun c_9 => ?_) (fun c_9 => ?_)
    · obtain ⟨j_, hj_, rfl⟩ := (twn_iff hn).mpr ⟨c_1, Int32.not_le.mpr c_9⟩
      refine x_aload_n hF 0 dX1_town_14 rfl rfl ?_
      refine x_calli (C := RX1) (T := TX1) (N := 11) (ci := 0) (q0 := 0) (b := h 0) (As := []) (rest := []) hF (m1_shortest hn3 hn hL) 0 (lw_V q121 q81 q82 q22 q83) rfl rfl (by decide +kernel) ⟨by decide, by decide⟩ rfl rfl rfl rfl (Nat.le_of_ble_eq_true rfl) dX1_town_15 ⟨Nat.zero_le _, Nat.zero_le _⟩ (fun r_15 w_15 hp_15 => ?_)
      obtain ⟨g', b', c', P', pa', la', nt', bp', ne', hR, rfl, rfl⟩ := hp_15
      refine x_pop hF dX1_town_18 rfl ?_
      refine x_aload_n hF 0 dX1_town_19 rfl rfl ?_
      refine x_get (ci := 0) (C := RX1) (T := TX1) (N := 11) (v := .ref (h 6)) hF in_X1 0 rfl rfl 9 (by decide) q41 rfl rfl dX1_town_20 ?_
      refine x_iload_n hF 1 dX1_town_23 rfl rfl ?_
      refine x_bald hF 6 5 rfl rfl (by decide) (by omega) dX1_town_24 ?_
      exact hret _ _ _ _ ⟨⟨_, _, _, _, _, _, _, _, _, rfl⟩, Or.inr ⟨j_, b', c', bp', hj_, rfl, hR, rfl⟩⟩ rfl dX1_town_25
    · refine x_iconst hF dX1_town_12 kc_im1 ?_
      exact hret _ _ _ _ ⟨⟨_, _, _, _, _, _, _, _, _, rfl⟩, Or.inl ⟨fun q => by have q2 := (twn_iff hn).mp q; first | exact q2.1 c_1 | exact c_9 (Int32.not_le.mp q2.2), rfl⟩⟩ rfl dX1_town_13
theorem m1_trips (hn3 : 3 ≤ n) (hn : n ≤ 7) (hL : LOK n L) : MtI l yX1_trips cX1_trips 1 .int (rmr 5 126) D (tX d) [.ref (h 0)] (wX h d n goal best bc L P pa la nt bp ne) (fun r w1 => WX h d n L w1 ∧ ∃ (b' c' : Nat) (p' : List Nat), Res (mx L) 0 (trs n) (b', c', p') ∧ r = nI c') := by
  refine MtI.of rfl (Nat.le_of_ble_eq_true rfl) ?_
  intro p e s m args below meth c Q A hF hret
  refine WW.cw (lv2 := [(0, .ref (h 0))]) rfl rfl rfl ?_
  refine x_aload_n hF 0 dX1_trips_0 rfl rfl ?_
  refine x_calli (C := RX1) (T := TX1) (N := 11) (ci := 0) (q0 := 0) (b := h 0) (As := []) (rest := []) hF (m1_shortest hn3 hn hL) 0 (lw_V q121 q81 q82 q22 q83) rfl rfl (by decide +kernel) ⟨by decide, by decide⟩ rfl rfl rfl rfl (Nat.le_of_ble_eq_true rfl) dX1_trips_1 ⟨Nat.zero_le _, Nat.zero_le _⟩ (fun r_1 w_1 hp_1 => ?_)
  obtain ⟨g', b', c', P', pa', la', nt', bp', ne', hR, rfl, rfl⟩ := hp_1
  refine x_pop hF dX1_trips_4 rfl ?_
  refine x_aload_n hF 0 dX1_trips_5 rfl rfl ?_
  refine x_get (ci := 0) (C := RX1) (T := TX1) (N := 11) (v := .int (nI c')) hF in_X1 0 rfl rfl 8 (by decide) q40 rfl rfl dX1_trips_6 ?_
  exact hret _ _ _ _ ⟨⟨_, _, _, _, _, _, _, _, _, rfl⟩, b', c', _, hR, rfl⟩ rfl dX1_trips_9
theorem m1_using (hn3 : 3 ≤ n) (hn : n ≤ 7) (hL : LOK n L) (u v : Int32) : MtI l yX1_using cX1_using 3 .int (rmr 4 106) D (tX d) [.ref (h 0), .int u, .int v] (wX h d n goal best bc L P pa la nt bp ne) (fun r w1 => WX h d n L w1 ∧ ((¬ cpl n u v ∧ r = -1) ∨ ∃ (a b b' c' : Nat) (p' : List Nat), a < n ∧ b < n ∧ ¬ a = b ∧ u = nI a ∧ v = nI b ∧ Res (mx L) b (cmp n b (n - 2) [a]) (b', c', p') ∧ r = nI (b' + L (7 * a + b)))) := by
  refine MtI.of rfl (Nat.le_of_ble_eq_true rfl) ?_
  intro p e s m args below meth c Q A hF hret
  refine WW.cw (lv2 := [(0, .ref (h 0)), (1, .int u), (2, .int v)]) rfl rfl rfl ?_
  refine x_aload_n hF 0 dX1_using_0 rfl rfl ?_
  refine x_iload_n hF 1 dX1_using_1 rfl rfl ?_
  refine x_iload_n hF 2 dX1_using_2 rfl rfl ?_
  refine x_calli (C := RX1) (T := TX1) (N := 11) (ci := 0) (q0 := 0) (b := h 0) (As := [.int u, .int v]) (rest := []) hF (m1_isCouple hn u v) 2 (lw_V q72 q74 qs0 q22 q75) rfl rfl (by decide +kernel) ⟨by decide, by decide⟩ rfl rfl rfl rfl (Nat.le_of_ble_eq_true rfl) dX1_using_3 ⟨Nat.zero_le _, Nat.zero_le _⟩ (fun r_3 w_3 hp_3 => ?_)
  obtain ⟨rfl, hp_3⟩ := hp_3
  rcases hp_3 with ⟨rfl, t_3⟩ | ⟨rfl, t_3⟩
  · obtain ⟨⟨a_, ha_, rfl⟩, ⟨b_, hb_, rfl⟩, hab⟩ := id t_3
    have hab_ : ¬ a_ = b_ := fun q => hab (by rw [q])
    refine x_if_ne hF 11 dX1_using_6 (by decide) (by omega) (fun c_6 => ?_) (fun c_6 => ?_)
    · refine x_aload_n hF 0 dX1_using_11 rfl rfl ?_
      refine x_callv (C := RX1) (T := TX1) (N := 11) (ci := 0) (q0 := 0) (b := h 0) (As := []) (rest := []) hF m1_loadPrices 0 (lw_V q84 q86 qs2 q22 q87) rfl rfl (by decide +kernel) ⟨by decide, by decide⟩ rfl rfl rfl rfl (Nat.le_of_ble_eq_true rfl) dX1_using_12 ⟨Nat.zero_le _, Nat.zero_le _⟩ (fun w_12 hp_12 => ?_)
      obtain ⟨P', hP', rfl⟩ := hp_12
      have hB' : ∀ j, j < 49 → P' j ≤ 10000 := fun j hj => by rw [hP' j hj]; have := hL.1 j; omega
      have hsym' : ∀ x y, x < n → y < n → mx P' x y = mx P' y x := fun x y hx hy => by show P' _ = P' _; rw [hP' _ (by omega), hP' _ (by omega)]; exact hL.2 x y hx hy
      refine x_aload_n hF 0 dX1_using_15 rfl rfl ?_
      refine x_iload_n hF 1 dX1_using_16 rfl rfl ?_
      refine x_iload_n hF 2 dX1_using_17 rfl rfl ?_
      refine x_callv (C := RX1) (T := TX1) (N := 11) (ci := 0) (q0 := 0) (b := h 0) (As := [.int (nI a_), .int (nI b_)]) (rest := []) hF (m1_solve (P := P') (fr := a_) (to := b_) hn3 hn ha_ hb_ hB' hsym') 2 (lw_V q88 q90 qs3 q22 q91) rfl rfl (by decide +kernel) ⟨by decide, by decide⟩ rfl rfl rfl rfl (Nat.le_of_ble_eq_true rfl) dX1_using_18 ⟨Nat.zero_le _, Nat.zero_le _⟩ (fun w_18 hp_18 => ?_)
      obtain ⟨b', c', pa', la', nt', bp', ne', hRS, rfl⟩ := hp_18
      have hR := sv_res hn3 hn (by omega) (by omega) hP' (fun j hj => by have := hL.1 j; omega) hRS
      rw [show plc n a_ b_ - 1 = n - 2 from by rw [show plc n a_ b_ = n - 1 from if_neg hab_]; omega] at hR
      refine x_aload_n hF 0 dX1_using_21 rfl rfl ?_
      refine x_get (ci := 0) (C := RX1) (T := TX1) (N := 11) (v := .int (nI b')) hF in_X1 0 rfl rfl 7 (by decide) q39 rfl rfl dX1_using_22 ?_
      refine x_aload_n hF 0 dX1_using_25 rfl rfl ?_
      refine x_get (ci := 0) (C := RX1) (T := TX1) (N := 11) (v := .ref (h 1)) hF in_X1 0 rfl rfl 1 (by decide) q33 rfl rfl dX1_using_26 ?_
      refine x_bipush hF dX1_using_29 kc_b7 ?_
      refine x_iload_n hF 1 dX1_using_31 rfl rfl ?_
      refine x_imul hF dX1_using_32 ?_
      refine x_iload_n hF 2 dX1_using_33 rfl rfl ?_
      refine x_iadd hF dX1_using_34 ?_
      refine x_iald hF 1 0 rfl rfl (by decide) (by omega) dX1_using_35 ?_
      refine x_iadd hF dX1_using_36 ?_
      exact hret _ _ _ _ ⟨⟨_, _, _, _, _, _, _, _, _, rfl⟩, Or.inr ⟨a_, b_, b', c', _, ha_, hb_, hab_, rfl, rfl, hR, rfl⟩⟩ rfl dX1_using_37
    · omega
  · refine x_if_ne hF 11 dX1_using_6 (by decide) (by omega) (fun c_6 => ?_) (fun c_6 => ?_)
    · omega
    · refine x_iconst hF dX1_using_9 kc_im1 ?_
      exact hret _ _ _ _ ⟨⟨_, _, _, _, _, _, _, _, _, rfl⟩, Or.inl ⟨t_3, rfl⟩⟩ rfl dX1_using_10
theorem m1_walk (hn3 : 3 ≤ n) (hn : n ≤ 7) (hL : LOK n L) (u v : Int32) : MtI l yX1_walk cX1_walk 3 .int (rmr 4 106) D (tX d) [.ref (h 0), .int u, .int v] (wX h d n goal best bc L P pa la nt bp ne) (fun r w1 => WX h d n L w1 ∧ ((¬ cpl n u v ∧ r = -1) ∨ ∃ (a b b' c' : Nat) (p' : List Nat), a < n ∧ b < n ∧ ¬ a = b ∧ u = nI a ∧ v = nI b ∧ Res (mx L) b (cmp n b (n - 2) [a]) (b', c', p') ∧ r = nI (b'))) := by
  refine MtI.of rfl (Nat.le_of_ble_eq_true rfl) ?_
  intro p e s m args below meth c Q A hF hret
  refine WW.cw (lv2 := [(0, .ref (h 0)), (1, .int u), (2, .int v)]) rfl rfl rfl ?_
  refine x_aload_n hF 0 dX1_walk_0 rfl rfl ?_
  refine x_iload_n hF 1 dX1_walk_1 rfl rfl ?_
  refine x_iload_n hF 2 dX1_walk_2 rfl rfl ?_
  refine x_calli (C := RX1) (T := TX1) (N := 11) (ci := 0) (q0 := 0) (b := h 0) (As := [.int u, .int v]) (rest := []) hF (m1_isCouple hn u v) 2 (lw_V q72 q74 qs0 q22 q75) rfl rfl (by decide +kernel) ⟨by decide, by decide⟩ rfl rfl rfl rfl (Nat.le_of_ble_eq_true rfl) dX1_walk_3 ⟨Nat.zero_le _, Nat.zero_le _⟩ (fun r_3 w_3 hp_3 => ?_)
  obtain ⟨rfl, hp_3⟩ := hp_3
  rcases hp_3 with ⟨rfl, t_3⟩ | ⟨rfl, t_3⟩
  · obtain ⟨⟨a_, ha_, rfl⟩, ⟨b_, hb_, rfl⟩, hab⟩ := id t_3
    have hab_ : ¬ a_ = b_ := fun q => hab (by rw [q])
    refine x_if_ne hF 11 dX1_walk_6 (by decide) (by omega) (fun c_6 => ?_) (fun c_6 => ?_)
    · refine x_aload_n hF 0 dX1_walk_11 rfl rfl ?_
      refine x_callv (C := RX1) (T := TX1) (N := 11) (ci := 0) (q0 := 0) (b := h 0) (As := []) (rest := []) hF m1_loadPrices 0 (lw_V q84 q86 qs2 q22 q87) rfl rfl (by decide +kernel) ⟨by decide, by decide⟩ rfl rfl rfl rfl (Nat.le_of_ble_eq_true rfl) dX1_walk_12 ⟨Nat.zero_le _, Nat.zero_le _⟩ (fun w_12 hp_12 => ?_)
      obtain ⟨P', hP', rfl⟩ := hp_12
      have hB' : ∀ j, j < 49 → P' j ≤ 10000 := fun j hj => by rw [hP' j hj]; have := hL.1 j; omega
      have hsym' : ∀ x y, x < n → y < n → mx P' x y = mx P' y x := fun x y hx hy => by show P' _ = P' _; rw [hP' _ (by omega), hP' _ (by omega)]; exact hL.2 x y hx hy
      refine x_aload_n hF 0 dX1_walk_15 rfl rfl ?_
      refine x_iload_n hF 1 dX1_walk_16 rfl rfl ?_
      refine x_iload_n hF 2 dX1_walk_17 rfl rfl ?_
      refine x_callv (C := RX1) (T := TX1) (N := 11) (ci := 0) (q0 := 0) (b := h 0) (As := [.int (nI a_), .int (nI b_)]) (rest := []) hF (m1_solve (P := P') (fr := a_) (to := b_) hn3 hn ha_ hb_ hB' hsym') 2 (lw_V q88 q90 qs3 q22 q91) rfl rfl (by decide +kernel) ⟨by decide, by decide⟩ rfl rfl rfl rfl (Nat.le_of_ble_eq_true rfl) dX1_walk_18 ⟨Nat.zero_le _, Nat.zero_le _⟩ (fun w_18 hp_18 => ?_)
      obtain ⟨b', c', pa', la', nt', bp', ne', hRS, rfl⟩ := hp_18
      have hR := sv_res hn3 hn (by omega) (by omega) hP' (fun j hj => by have := hL.1 j; omega) hRS
      rw [show plc n a_ b_ - 1 = n - 2 from by rw [show plc n a_ b_ = n - 1 from if_neg hab_]; omega] at hR
      refine x_aload_n hF 0 dX1_walk_21 rfl rfl ?_
      refine x_get (ci := 0) (C := RX1) (T := TX1) (N := 11) (v := .int (nI b')) hF in_X1 0 rfl rfl 7 (by decide) q39 rfl rfl dX1_walk_22 ?_
      exact hret _ _ _ _ ⟨⟨_, _, _, _, _, _, _, _, _, rfl⟩, Or.inr ⟨a_, b_, b', c', _, ha_, hb_, hab_, rfl, rfl, hR, rfl⟩⟩ rfl dX1_walk_25
    · omega
  · refine x_if_ne hF 11 dX1_walk_6 (by decide) (by omega) (fun c_6 => ?_) (fun c_6 => ?_)
    · omega
    · refine x_iconst hF dX1_walk_9 kc_im1 ?_
      exact hret _ _ _ _ ⟨⟨_, _, _, _, _, _, _, _, _, rfl⟩, Or.inl ⟨t_3, rfl⟩⟩ rfl dX1_walk_10
theorem m1_avoiding (hn3 : 3 ≤ n) (hn : n ≤ 7) (hL : LOK n L) (u v : Int32) : MtI l yX1_avoiding cX1_avoiding 3 .int (rmr 4 106) D (tX d) [.ref (h 0), .int u, .int v] (wX h d n goal best bc L P pa la nt bp ne) (fun r w1 => WX h d n L w1 ∧ ((¬ (cpl n u v ∧ ¬ n = 3) ∧ r = -1) ∨ ∃ (a b b' c' : Nat) (p' : List Nat), a < n ∧ b < n ∧ ¬ a = b ∧ ¬ n = 3 ∧ u = nI a ∧ v = nI b ∧ Res (mx (up2 L a b 10000)) 0 (trs n) (b', c', p') ∧ r = nI b')) := by
  refine MtI.of rfl (Nat.le_of_ble_eq_true rfl) ?_
  intro p e s m args below meth c Q A hF hret
  refine WW.cw (lv2 := [(0, .ref (h 0)), (1, .int u), (2, .int v)]) rfl rfl rfl ?_
  refine x_aload_n hF 0 dX1_avoiding_0 rfl rfl ?_
  refine x_iload_n hF 1 dX1_avoiding_1 rfl rfl ?_
  refine x_iload_n hF 2 dX1_avoiding_2 rfl rfl ?_
  refine x_calli (C := RX1) (T := TX1) (N := 11) (ci := 0) (q0 := 0) (b := h 0) (As := [.int u, .int v]) (rest := []) hF (m1_isCouple hn u v) 2 (lw_V q72 q74 qs0 q22 q75) rfl rfl (by decide +kernel) ⟨by decide, by decide⟩ rfl rfl rfl rfl (Nat.le_of_ble_eq_true rfl) dX1_avoiding_3 ⟨Nat.zero_le _, Nat.zero_le _⟩ (fun r_3 w_3 hp_3 => ?_)
  obtain ⟨rfl, hp_3⟩ := hp_3
  rcases hp_3 with ⟨rfl, t_3⟩ | ⟨rfl, t_3⟩
  · obtain ⟨⟨a_, ha_, rfl⟩, ⟨b_, hb_, rfl⟩, hab⟩ := id t_3
    have hab_ : ¬ a_ = b_ := fun q => hab (by rw [q])
    refine x_if_eq hF 17 dX1_avoiding_6 (by decide) (by omega) (fun c_6 => ?_) (fun c_6 => ?_)
    · omega
    · refine x_aload_n hF 0 dX1_avoiding_9 rfl rfl ?_
      refine x_get (ci := 0) (C := RX1) (T := TX1) (N := 11) (v := .int (nI n)) hF in_X1 0 rfl rfl 0 (by decide) q32 rfl rfl dX1_avoiding_10 ?_
      refine x_iconst hF dX1_avoiding_13 kc_i3 ?_
      refine x_icmp_ne hF 19 dX1_avoiding_14 (by decide) (by omega) (by omega) (fun c_14 => ?_) (fun c_14 => ?_)
      · refine x_aload_n hF 0 dX1_avoiding_19 rfl rfl ?_
        refine x_callv (C := RX1) (T := TX1) (N := 11) (ci := 0) (q0 := 0) (b := h 0) (As := []) (rest := []) hF m1_loadPrices 0 (lw_V q84 q86 qs2 q22 q87) rfl rfl (by decide +kernel) ⟨by decide, by decide⟩ rfl rfl rfl rfl (Nat.le_of_ble_eq_true rfl) dX1_avoiding_20 ⟨Nat.zero_le _, Nat.zero_le _⟩ (fun w_20 hp_20 => ?_)
        obtain ⟨P', hP', rfl⟩ := hp_20
        have hB' : ∀ j, j < 49 → P' j ≤ 10000 := fun j hj => by rw [hP' j hj]; have := hL.1 j; omega
        have hsym' : ∀ x y, x < n → y < n → mx P' x y = mx P' y x := fun x y hx hy => by show P' _ = P' _; rw [hP' _ (by omega), hP' _ (by omega)]; exact hL.2 x y hx hy
        refine x_aload_n hF 0 dX1_avoiding_23 rfl rfl ?_
        refine x_iload_n hF 1 dX1_avoiding_24 rfl rfl ?_
        refine x_iload_n hF 2 dX1_avoiding_25 rfl rfl ?_
        refine x_sipush hF dX1_avoiding_26 kc_s10000 ?_
        refine x_callv (C := RX1) (T := TX1) (N := 11) (ci := 0) (q0 := 0) (b := h 0) (As := [.int (nI a_), .int (nI b_), .int (nI 10000)]) (rest := []) hF (m1_price (P := P') (a := a_) (b := b_) (k := 10000) (by omega) (by omega)) 3 (lw_V q134 q136 qs10 q22 q137) rfl rfl (by decide +kernel) ⟨by decide, by decide⟩ rfl rfl rfl rfl (Nat.le_of_ble_eq_true rfl) dX1_avoiding_29 ⟨Nat.zero_le _, Nat.zero_le _⟩ (fun w_29 hp_29 => ?_)
        obtain rfl := hp_29
        have hB2 : ∀ j, j < 49 → up2 L a_ b_ 10000 j ≤ 10000 := fun j hj => up2_le (by have := hL.1 j; omega)
        have hP2 : ∀ j, j < 49 → up2 P' a_ b_ 10000 j = up2 L a_ b_ 10000 j := fun j hj => up2_congr (hP' j hj)
        have hs2 : ∀ x y, x < n → y < n → mx (up2 P' a_ b_ 10000) x y = mx (up2 P' a_ b_ 10000) y x := fun x y hx hy => up2_sym hn ha_ hb_ hsym' hx hy
        refine x_aload_n hF 0 dX1_avoiding_32 rfl rfl ?_
        refine x_iconst hF dX1_avoiding_33 kc_i0 ?_
        refine x_iconst hF dX1_avoiding_34 kc_i0 ?_
        refine x_callv (C := RX1) (T := TX1) (N := 11) (ci := 0) (q0 := 0) (b := h 0) (As := [.int (nI 0), .int (nI 0)]) (rest := []) hF (m1_solve (P := up2 P' a_ b_ 10000) (fr := 0) (to := 0) hn3 hn (by omega) (by omega) (fun j hj => by rw [hP2 j hj]; exact hB2 j hj) hs2) 2 (lw_V q88 q90 qs3 q22 q91) rfl rfl (by decide +kernel) ⟨by decide, by decide⟩ rfl rfl rfl rfl (Nat.le_of_ble_eq_true rfl) dX1_avoiding_35 ⟨Nat.zero_le _, Nat.zero_le _⟩ (fun w_35 hp_35 => ?_)
        obtain ⟨b', c', pa', la', nt', bp', ne', hRS, rfl⟩ := hp_35
        have hR := sv_res hn3 hn (by omega) (by omega) hP2 hB2 hRS
        rw [show plc n 0 0 = n from if_pos rfl] at hR
        refine x_aload_n hF 0 dX1_avoiding_38 rfl rfl ?_
        refine x_get (ci := 0) (C := RX1) (T := TX1) (N := 11) (v := .int (nI b')) hF in_X1 0 rfl rfl 7 (by decide) q39 rfl rfl dX1_avoiding_39 ?_
        exact hret _ _ _ _ ⟨⟨_, _, _, _, _, _, _, _, _, rfl⟩, Or.inr ⟨a_, b_, b', c', _, ha_, hb_, hab_, c_14, rfl, rfl, hR, rfl⟩⟩ rfl dX1_avoiding_42
      · refine x_iconst hF dX1_avoiding_17 kc_im1 ?_
        exact hret _ _ _ _ ⟨⟨_, _, _, _, _, _, _, _, _, rfl⟩, Or.inl ⟨fun q => by first | exact t_3 q.1 | exact q.2 c_14, rfl⟩⟩ rfl dX1_avoiding_18
  · refine x_if_eq hF 17 dX1_avoiding_6 (by decide) (by omega) (fun c_6 => ?_) (fun c_6 => ?_)
    · refine x_iconst hF dX1_avoiding_17 kc_im1 ?_
      exact hret _ _ _ _ ⟨⟨_, _, _, _, _, _, _, _, _, rfl⟩, Or.inl ⟨fun q => by first | exact t_3 q.1 | exact q.2 c_14, rfl⟩⟩ rfl dX1_avoiding_18
    · omega
theorem m1_reach (hn3 : 3 ≤ n) (hn : n ≤ 7) (hL : LOK n L) : MtI l yX1_reach cX1_reach 1 .int (rmr 2 51) D (tX d) [.ref (h 0)] (wX h d n goal best bc L P pa la nt bp ne) (fun r w1 => WX h d n L w1 ∧ ∃ lst : List (Nat × Nat), PR (mx L) (fun x => x < n) 0 lst ∧ (∀ x, x < n → x ∈ vis 0 lst) ∧ r = nI (emax lst)) := by
  refine MtI.of rfl (Nat.le_of_ble_eq_true rfl) ?_
  intro p e s m args below meth c Q A hF hret
  refine WW.cw (lv2 := [(0, .ref (h 0))]) rfl rfl rfl ?_
  refine x_aload_n hF 0 dX1_reach_0 rfl rfl ?_
  refine x_callv (C := RX1) (T := TX1) (N := 11) (ci := 0) (q0 := 0) (b := h 0) (As := []) (rest := []) hF m1_loadPrices 0 (lw_V q84 q86 qs2 q22 q87) rfl rfl (by decide +kernel) ⟨by decide, by decide⟩ rfl rfl rfl rfl (Nat.le_of_ble_eq_true rfl) dX1_reach_1 ⟨Nat.zero_le _, Nat.zero_le _⟩ (fun w_1 hp_1 => ?_)
  obtain ⟨P', hP', rfl⟩ := hp_1
  have hB' : ∀ j, j < 49 → P' j ≤ 10000 := fun j hj => by rw [hP' j hj]; have := hL.1 j; omega
  have hsym' : ∀ x y, x < n → y < n → mx P' x y = mx P' y x := fun x y hx hy => by show P' _ = P' _; rw [hP' _ (by omega), hP' _ (by omega)]; exact hL.2 x y hx hy
  refine x_aload_n hF 0 dX1_reach_4 rfl rfl ?_
  refine x_iconst hF dX1_reach_5 kc_i1 ?_
  refine x_aload_n hF 0 dX1_reach_6 rfl rfl ?_
  refine x_get (ci := 0) (C := RX1) (T := TX1) (N := 11) (v := .int (nI n)) hF in_X1 0 rfl rfl 0 (by decide) q32 rfl rfl dX1_reach_7 ?_
  refine x_ishl (v := nI (2 ^ n)) hF dX1_reach_10 (bt_shl (by omega)) ?_
  refine x_iconst hF dX1_reach_11 kc_i1 ?_
  refine x_isub hF dX1_reach_12 (by have := two_n hn; omega) ?_
  refine x_iconst hF dX1_reach_13 kc_i0 ?_
  refine x_iconst hF dX1_reach_14 kc_i1 ?_
  refine x_calli (C := RX1) (T := TX1) (N := 11) (ci := 0) (q0 := 0) (b := h 0) (As := [.int (nI ((2 ^ n) - 1)), .int (nI 0), .int (nI 1)]) (rest := []) hF (m1_growNet (T := 2 ^ n - 1) (fr := 0) (lo := 1) hn (by have := two_n hn; omega) (fun x _ q => ((tb_all hn x).mp ⟨by rw [Nat.testBit_two_pow_sub_one] at q; simpa using q, q⟩)) (by omega) ((tb_all hn 0).mpr (by omega)).2 (by omega) hB') 3 (lw_V q109 q111 qs8 q22 q112) rfl rfl (by decide +kernel) ⟨by decide, by decide⟩ rfl rfl rfl rfl (Nat.le_of_ble_eq_true rfl) dX1_reach_15 ⟨Nat.zero_le _, Nat.zero_le _⟩ (fun r_15 w_15 hp_15 => ?_)
  obtain ⟨lst, ne', g1, g2, g4, rfl, rfl⟩ := hp_15
  rw [if_neg (by omega)]
  refine hret _ _ _ _ ⟨⟨_, _, _, _, _, _, _, _, _, rfl⟩, lst, pr_congr (tb_all hn) (fun x y hx hy => ?_) g1, fun x hx => g2 x ((tb_all hn x).mpr hx), rfl⟩ rfl dX1_reach_18
  show P' _ = L _
  exact hP' _ (by have := hx.1; have := hy.1; omega)
theorem m1_net (hn3 : 3 ≤ n) (hn : n ≤ 7) (hL : LOK n L) : MtI l yX1_net cX1_net 1 .int (rmr 2 51) D (tX d) [.ref (h 0)] (wX h d n goal best bc L P pa la nt bp ne) (fun r w1 => WX h d n L w1 ∧ ∃ lst : List (Nat × Nat), PR (mx L) (fun x => x < n) 0 lst ∧ (∀ x, x < n → x ∈ vis 0 lst) ∧ r = nI (esum lst)) := by
  refine MtI.of rfl (Nat.le_of_ble_eq_true rfl) ?_
  intro p e s m args below meth c Q A hF hret
  refine WW.cw (lv2 := [(0, .ref (h 0))]) rfl rfl rfl ?_
  refine x_aload_n hF 0 dX1_net_0 rfl rfl ?_
  refine x_callv (C := RX1) (T := TX1) (N := 11) (ci := 0) (q0 := 0) (b := h 0) (As := []) (rest := []) hF m1_loadPrices 0 (lw_V q84 q86 qs2 q22 q87) rfl rfl (by decide +kernel) ⟨by decide, by decide⟩ rfl rfl rfl rfl (Nat.le_of_ble_eq_true rfl) dX1_net_1 ⟨Nat.zero_le _, Nat.zero_le _⟩ (fun w_1 hp_1 => ?_)
  obtain ⟨P', hP', rfl⟩ := hp_1
  have hB' : ∀ j, j < 49 → P' j ≤ 10000 := fun j hj => by rw [hP' j hj]; have := hL.1 j; omega
  have hsym' : ∀ x y, x < n → y < n → mx P' x y = mx P' y x := fun x y hx hy => by show P' _ = P' _; rw [hP' _ (by omega), hP' _ (by omega)]; exact hL.2 x y hx hy
  refine x_aload_n hF 0 dX1_net_4 rfl rfl ?_
  refine x_iconst hF dX1_net_5 kc_i1 ?_
  refine x_aload_n hF 0 dX1_net_6 rfl rfl ?_
  refine x_get (ci := 0) (C := RX1) (T := TX1) (N := 11) (v := .int (nI n)) hF in_X1 0 rfl rfl 0 (by decide) q32 rfl rfl dX1_net_7 ?_
  refine x_ishl (v := nI (2 ^ n)) hF dX1_net_10 (bt_shl (by omega)) ?_
  refine x_iconst hF dX1_net_11 kc_i1 ?_
  refine x_isub hF dX1_net_12 (by have := two_n hn; omega) ?_
  refine x_iconst hF dX1_net_13 kc_i0 ?_
  refine x_iconst hF dX1_net_14 kc_i0 ?_
  refine x_calli (C := RX1) (T := TX1) (N := 11) (ci := 0) (q0 := 0) (b := h 0) (As := [.int (nI ((2 ^ n) - 1)), .int (nI 0), .int (nI 0)]) (rest := []) hF (m1_growNet (T := 2 ^ n - 1) (fr := 0) (lo := 0) hn (by have := two_n hn; omega) (fun x _ q => ((tb_all hn x).mp ⟨by rw [Nat.testBit_two_pow_sub_one] at q; simpa using q, q⟩)) (by omega) ((tb_all hn 0).mpr (by omega)).2 (by omega) hB') 3 (lw_V q109 q111 qs8 q22 q112) rfl rfl (by decide +kernel) ⟨by decide, by decide⟩ rfl rfl rfl rfl (Nat.le_of_ble_eq_true rfl) dX1_net_15 ⟨Nat.zero_le _, Nat.zero_le _⟩ (fun r_15 w_15 hp_15 => ?_)
  obtain ⟨lst, ne', g1, g2, g4, rfl, rfl⟩ := hp_15
  rw [if_pos rfl]
  refine hret _ _ _ _ ⟨⟨_, _, _, _, _, _, _, _, _, rfl⟩, lst, pr_congr (tb_all hn) (fun x y hx hy => ?_) g1, fun x hx => g2 x ((tb_all hn x).mpr hx), rfl⟩ rfl dX1_net_18
  show P' _ = L _
  exact hP' _ (by have := hx.1; have := hy.1; omega)
end
end
section
/-! TourSolver: shift (printed by a program, wip/D-64046w/src) -/
set_option maxRecDepth 100000
section
variable {l : Launch} {D : va_G} {h : Nat → Nat} {d : Nat → ClassId} {n goal best bc : Nat} {L P pa la nt bp ne : Nat → Nat}
theorem m1_shift (hn3 : 3 ≤ n) (hn : n ≤ 7) (hL : LOK n L) (u mo : Int32) : MtI l yX1_shift cX1_shift 6 .int (rmr 3 66) D (tX d) [.ref (h 0), .int u, .int mo] (wX h d n goal best bc L P pa la nt bp ne) (fun r w1 => (¬ (twn n u ∧ ¬ mo < -60 ∧ mo ≤ nI 60) ∧ r = -1 ∧ WX h d n L w1) ∨ ∃ a : Nat, a < n ∧ u = nI a ∧ (¬ mo < -60 ∧ mo ≤ nI 60) ∧ r = nI (shf a mo.toInt L n).2 ∧ WX h d n (shf a mo.toInt L n).1 w1) := by
  refine MtI.of rfl (Nat.le_of_ble_eq_true rfl) ?_
  intro p e s m args below meth c Q A hF hret
  refine WW.cw (lv2 := [(0, .ref (h 0)), (1, .int u), (2, .int mo)]) rfl rfl rfl ?_
  have loop : ¬ mo < -60 → mo ≤ nI 60 → ∀ a : Nat, u = nI a → a < n → ∀ (f i ci : Nat) (Li : Nat → Nat), i ≤ n → n + 1 ≤ i + f → Li = (shf a mo.toInt L i).1 → ci = (shf a mo.toInt L i).2 → WW p l e (rmr 3 66) s m args below meth c Q D A 6 0 0 (wX h d n goal best bc Li P pa la nt bp ne) 27 [(0, .ref (h 0)), (1, .int (nI a)), (2, .int mo), (3, .int (nI ci)), (4, .int (nI i))] [] := by
    intro hm1 hm2 a hu ha
    intro f
    induction f with
    | zero =>
      intro i ci Li hi hf hLi hci
      exact absurd (show False by omega) id
    | succ f ih =>
      intro i ci Li hi hf hLi hci
      have hok := shf_ok (z := mo.toInt) hn hL ha i hi
      rw [← hLi] at hok
      have hcn := shf_cnt (a := a) (z := mo.toInt) (L := L) i
      rw [← hci] at hcn
      refine x_iload hF 4 dX1_shift_27 rfl ?_
      refine x_aload_n hF 0 dX1_shift_29 rfl rfl ?_
      refine x_get (ci := 0) (C := RX1) (T := TX1) (N := 11) (v := .int (nI n)) hF in_X1 0 rfl rfl 0 (by decide) q32 rfl rfl dX1_shift_30 ?_
      refine x_icmp_ge hF 116 dX1_shift_33 (by decide) (by omega) (by omega) (fun c_33 => ?_) (fun c_33 => ?_)
      · refine x_iload_n hF 3 dX1_shift_116 rfl rfl ?_
        have ei : i = n := by omega
        subst ei
        subst hLi
        subst hci
        exact hret _ _ _ _ (Or.inr ⟨a, ha, hu, ⟨hm1, hm2⟩, rfl, ⟨_, _, _, _, _, _, _, _, _, rfl⟩⟩) rfl dX1_shift_117
      · refine x_iload hF 4 dX1_shift_36 rfl ?_
        refine x_iload_n hF 1 dX1_shift_38 rfl rfl ?_
        refine x_icmp_ne hF 45 dX1_shift_39 (by decide) (by omega) (by omega) (fun c_39 => ?_) (fun c_39 => ?_)
        · refine x_aload_n hF 0 dX1_shift_45 rfl rfl ?_
          refine x_get (ci := 0) (C := RX1) (T := TX1) (N := 11) (v := .ref (h 1)) hF in_X1 0 rfl rfl 1 (by decide) q33 rfl rfl dX1_shift_46 ?_
          refine x_bipush hF dX1_shift_49 kc_b7 ?_
          refine x_iload_n hF 1 dX1_shift_51 rfl rfl ?_
          refine x_imul hF dX1_shift_52 ?_
          refine x_iload hF 4 dX1_shift_53 rfl ?_
          refine x_iadd hF dX1_shift_55 ?_
          refine x_iald hF 1 0 rfl rfl (by decide) (by omega) dX1_shift_56 ?_
          refine x_iload_n hF 2 dX1_shift_57 rfl rfl ?_
          refine x_iaddR (v := nI (Li (7 * a + i)) + mo) hF dX1_shift_58 rfl ?_
          rcases clip_cases (hok.1 (7 * a + i)) hm1 hm2 with ⟨k1, kc⟩ | ⟨k1, k2, kc⟩ | ⟨k_, k1, k2, kc⟩
          · refine x_istore (lv' := [(0, .ref (h 0)), (1, .int (nI a)), (2, .int mo), (3, .int (nI ci)), (4, .int (nI i)), (5, .int (nI (Li (7 * a + i)) + mo))]) hF dX1_shift_59 (by decide) rfl ?_
            refine x_iload hF 5 dX1_shift_61 rfl ?_
            refine x_if_geR hF 69 dX1_shift_63 (by decide) (fun c_63 => ?_) (fun c_63 => ?_)
            · exact absurd c_63 (Int32.not_le.mpr k1)
            · refine x_iconst hF dX1_shift_66 kc_i0 ?_
              refine x_istore (lv' := [(0, .ref (h 0)), (1, .int (nI a)), (2, .int mo), (3, .int (nI ci)), (4, .int (nI i)), (5, .int (nI 0))]) hF dX1_shift_67 (by decide) rfl ?_
              refine x_iload hF 5 dX1_shift_69 rfl ?_
              refine x_bipush hF dX1_shift_71 kc_b60 ?_
              refine x_icmp_le hF 80 dX1_shift_73 (by decide) (by omega) (by omega) (fun c_73 => ?_) (fun c_73 => ?_)
              · refine x_iload hF 5 dX1_shift_80 rfl ?_
                refine x_aload_n hF 0 dX1_shift_82 rfl rfl ?_
                refine x_get (ci := 0) (C := RX1) (T := TX1) (N := 11) (v := .ref (h 1)) hF in_X1 0 rfl rfl 1 (by decide) q33 rfl rfl dX1_shift_83 ?_
                refine x_bipush hF dX1_shift_86 kc_b7 ?_
                refine x_iload_n hF 1 dX1_shift_88 rfl rfl ?_
                refine x_imul hF dX1_shift_89 ?_
                refine x_iload hF 4 dX1_shift_90 rfl ?_
                refine x_iadd hF dX1_shift_92 ?_
                refine x_iald hF 1 0 rfl rfl (by decide) (by omega) dX1_shift_93 ?_
                have hb_93 := hok.1 ((7 * a) + i)
                refine x_icmp_eq hF 100 dX1_shift_94 (by decide) (by omega) (by omega) (fun c_94 => ?_) (fun c_94 => ?_)
                · refine x_aload_n hF 0 dX1_shift_100 rfl rfl ?_
                  refine x_iload_n hF 1 dX1_shift_101 rfl rfl ?_
                  refine x_iload hF 4 dX1_shift_102 rfl ?_
                  refine x_iload hF 5 dX1_shift_104 rfl ?_
                  refine x_calli (C := RX1) (T := TX1) (N := 11) (ci := 0) (q0 := 0) (b := h 0) (As := [.int (nI a), .int (nI i), .int (nI 0)]) (rest := []) hF (m1_road (L := Li) hn (nI a) (nI i) (nI 0)) 3 (lw_V q154 q69 q70 q22 q71) rfl rfl (by decide +kernel) ⟨by decide, by decide⟩ rfl rfl rfl rfl (Nat.le_of_ble_eq_true rfl) dX1_shift_106 ⟨Nat.zero_le _, Nat.zero_le _⟩ (fun r_106 w_106 hp_106 => ?_)
                  have hp2 : r_106 = nI 1 ∧ w_106 = wX h d n goal best bc (up2 Li a i 0) P pa la nt bp ne := by
                    rcases hp_106 with ⟨_, hno, _⟩ | ⟨a', b', k', q1, q2, q3, q4, e1, e2, e3, e4, e5⟩
                    · exact absurd ⟨⟨⟨a, ha, rfl⟩, ⟨i, by omega, rfl⟩, fun q => c_39 ((nI_eq (by omega) (by omega)).mp q).symm⟩, nI_pos (by omega), (nI_leI (by omega) (by omega)).mpr (by omega)⟩ hno
                    · have f1 := (nI_eq (by omega) (by omega)).mp e1
                      have f2 := (nI_eq (by omega) (by omega)).mp e2
                      have f3 := (nI_eq (by omega) (by omega)).mp e3
                      subst f1; subst f2; subst f3
                      exact ⟨e4, e5⟩
                  obtain ⟨rfl, rfl⟩ := hp2
                  refine x_pop hF dX1_shift_109 rfl ?_
                  refine x_iinc (v := (nI (i + 1))) (lv' := [(0, .ref (h 0)), (1, .int (nI a)), (2, .int mo), (3, .int (nI ci)), (4, .int (nI (i + 1))), (5, .int (nI 0))]) hF 4 dX1_shift_110 rfl (ii_1 _) (by decide) rfl ?_
                  refine x_goto hF 27 dX1_shift_113 (by decide) ?_
                  refine WW.lvs [0, 1, 2, 3, 4] rfl ?_
                  exact ih (i + 1) ci (up2 Li a i 0) (by omega) (by omega) (by rw [shf_new c_39, ← hLi]; show _ = up2 Li a i (clip _); rw [kc]) (by rw [shf_new c_39, ← hLi, ← hci]; show _ = (if clip _ = _ then ci else ci + 1); rw [kc, if_pos c_94])
                · refine x_iinc (v := (nI (ci + 1))) (lv' := [(0, .ref (h 0)), (1, .int (nI a)), (2, .int mo), (3, .int (nI (ci + 1))), (4, .int (nI i)), (5, .int (nI 0))]) hF 3 dX1_shift_97 rfl (ii_1 _) (by decide) rfl ?_
                  refine x_aload_n hF 0 dX1_shift_100 rfl rfl ?_
                  refine x_iload_n hF 1 dX1_shift_101 rfl rfl ?_
                  refine x_iload hF 4 dX1_shift_102 rfl ?_
                  refine x_iload hF 5 dX1_shift_104 rfl ?_
                  refine x_calli (C := RX1) (T := TX1) (N := 11) (ci := 0) (q0 := 0) (b := h 0) (As := [.int (nI a), .int (nI i), .int (nI 0)]) (rest := []) hF (m1_road (L := Li) hn (nI a) (nI i) (nI 0)) 3 (lw_V q154 q69 q70 q22 q71) rfl rfl (by decide +kernel) ⟨by decide, by decide⟩ rfl rfl rfl rfl (Nat.le_of_ble_eq_true rfl) dX1_shift_106 ⟨Nat.zero_le _, Nat.zero_le _⟩ (fun r_106 w_106 hp_106 => ?_)
                  have hp2 : r_106 = nI 1 ∧ w_106 = wX h d n goal best bc (up2 Li a i 0) P pa la nt bp ne := by
                    rcases hp_106 with ⟨_, hno, _⟩ | ⟨a', b', k', q1, q2, q3, q4, e1, e2, e3, e4, e5⟩
                    · exact absurd ⟨⟨⟨a, ha, rfl⟩, ⟨i, by omega, rfl⟩, fun q => c_39 ((nI_eq (by omega) (by omega)).mp q).symm⟩, nI_pos (by omega), (nI_leI (by omega) (by omega)).mpr (by omega)⟩ hno
                    · have f1 := (nI_eq (by omega) (by omega)).mp e1
                      have f2 := (nI_eq (by omega) (by omega)).mp e2
                      have f3 := (nI_eq (by omega) (by omega)).mp e3
                      subst f1; subst f2; subst f3
                      exact ⟨e4, e5⟩
                  obtain ⟨rfl, rfl⟩ := hp2
                  refine x_pop hF dX1_shift_109 rfl ?_
                  refine x_iinc (v := (nI (i + 1))) (lv' := [(0, .ref (h 0)), (1, .int (nI a)), (2, .int mo), (3, .int (nI (ci + 1))), (4, .int (nI (i + 1))), (5, .int (nI 0))]) hF 4 dX1_shift_110 rfl (ii_1 _) (by decide) rfl ?_
                  refine x_goto hF 27 dX1_shift_113 (by decide) ?_
                  refine WW.lvs [0, 1, 2, 3, 4] rfl ?_
                  exact ih (i + 1) (ci + 1) (up2 Li a i 0) (by omega) (by omega) (by rw [shf_new c_39, ← hLi]; show _ = up2 Li a i (clip _); rw [kc]) (by rw [shf_new c_39, ← hLi, ← hci]; show _ = (if clip _ = _ then ci else ci + 1); rw [kc, if_neg c_94])
              · omega
          · refine x_istore (lv' := [(0, .ref (h 0)), (1, .int (nI a)), (2, .int mo), (3, .int (nI ci)), (4, .int (nI i)), (5, .int (nI (Li (7 * a + i)) + mo))]) hF dX1_shift_59 (by decide) rfl ?_
            refine x_iload hF 5 dX1_shift_61 rfl ?_
            refine x_if_geR hF 69 dX1_shift_63 (by decide) (fun c_63 => ?_) (fun c_63 => ?_)
            · refine x_iload hF 5 dX1_shift_69 rfl ?_
              refine x_bipush hF dX1_shift_71 kc_b60 ?_
              refine x_icmp_leR hF 80 dX1_shift_73 (by decide) (fun c_73 => ?_) (fun c_73 => ?_)
              · exact absurd c_73 (Int32.not_le.mpr k2)
              · refine x_bipush hF dX1_shift_76 kc_b60 ?_
                refine x_istore (lv' := [(0, .ref (h 0)), (1, .int (nI a)), (2, .int mo), (3, .int (nI ci)), (4, .int (nI i)), (5, .int (nI 60))]) hF dX1_shift_78 (by decide) rfl ?_
                refine x_iload hF 5 dX1_shift_80 rfl ?_
                refine x_aload_n hF 0 dX1_shift_82 rfl rfl ?_
                refine x_get (ci := 0) (C := RX1) (T := TX1) (N := 11) (v := .ref (h 1)) hF in_X1 0 rfl rfl 1 (by decide) q33 rfl rfl dX1_shift_83 ?_
                refine x_bipush hF dX1_shift_86 kc_b7 ?_
                refine x_iload_n hF 1 dX1_shift_88 rfl rfl ?_
                refine x_imul hF dX1_shift_89 ?_
                refine x_iload hF 4 dX1_shift_90 rfl ?_
                refine x_iadd hF dX1_shift_92 ?_
                refine x_iald hF 1 0 rfl rfl (by decide) (by omega) dX1_shift_93 ?_
                have hb_93 := hok.1 ((7 * a) + i)
                refine x_icmp_eq hF 100 dX1_shift_94 (by decide) (by omega) (by omega) (fun c_94 => ?_) (fun c_94 => ?_)
                · refine x_aload_n hF 0 dX1_shift_100 rfl rfl ?_
                  refine x_iload_n hF 1 dX1_shift_101 rfl rfl ?_
                  refine x_iload hF 4 dX1_shift_102 rfl ?_
                  refine x_iload hF 5 dX1_shift_104 rfl ?_
                  refine x_calli (C := RX1) (T := TX1) (N := 11) (ci := 0) (q0 := 0) (b := h 0) (As := [.int (nI a), .int (nI i), .int (nI 60)]) (rest := []) hF (m1_road (L := Li) hn (nI a) (nI i) (nI 60)) 3 (lw_V q154 q69 q70 q22 q71) rfl rfl (by decide +kernel) ⟨by decide, by decide⟩ rfl rfl rfl rfl (Nat.le_of_ble_eq_true rfl) dX1_shift_106 ⟨Nat.zero_le _, Nat.zero_le _⟩ (fun r_106 w_106 hp_106 => ?_)
                  have hp2 : r_106 = nI 1 ∧ w_106 = wX h d n goal best bc (up2 Li a i 60) P pa la nt bp ne := by
                    rcases hp_106 with ⟨_, hno, _⟩ | ⟨a', b', k', q1, q2, q3, q4, e1, e2, e3, e4, e5⟩
                    · exact absurd ⟨⟨⟨a, ha, rfl⟩, ⟨i, by omega, rfl⟩, fun q => c_39 ((nI_eq (by omega) (by omega)).mp q).symm⟩, nI_pos (by omega), (nI_leI (by omega) (by omega)).mpr (by omega)⟩ hno
                    · have f1 := (nI_eq (by omega) (by omega)).mp e1
                      have f2 := (nI_eq (by omega) (by omega)).mp e2
                      have f3 := (nI_eq (by omega) (by omega)).mp e3
                      subst f1; subst f2; subst f3
                      exact ⟨e4, e5⟩
                  obtain ⟨rfl, rfl⟩ := hp2
                  refine x_pop hF dX1_shift_109 rfl ?_
                  refine x_iinc (v := (nI (i + 1))) (lv' := [(0, .ref (h 0)), (1, .int (nI a)), (2, .int mo), (3, .int (nI ci)), (4, .int (nI (i + 1))), (5, .int (nI 60))]) hF 4 dX1_shift_110 rfl (ii_1 _) (by decide) rfl ?_
                  refine x_goto hF 27 dX1_shift_113 (by decide) ?_
                  refine WW.lvs [0, 1, 2, 3, 4] rfl ?_
                  exact ih (i + 1) ci (up2 Li a i 60) (by omega) (by omega) (by rw [shf_new c_39, ← hLi]; show _ = up2 Li a i (clip _); rw [kc]) (by rw [shf_new c_39, ← hLi, ← hci]; show _ = (if clip _ = _ then ci else ci + 1); rw [kc, if_pos c_94])
                · refine x_iinc (v := (nI (ci + 1))) (lv' := [(0, .ref (h 0)), (1, .int (nI a)), (2, .int mo), (3, .int (nI (ci + 1))), (4, .int (nI i)), (5, .int (nI 60))]) hF 3 dX1_shift_97 rfl (ii_1 _) (by decide) rfl ?_
                  refine x_aload_n hF 0 dX1_shift_100 rfl rfl ?_
                  refine x_iload_n hF 1 dX1_shift_101 rfl rfl ?_
                  refine x_iload hF 4 dX1_shift_102 rfl ?_
                  refine x_iload hF 5 dX1_shift_104 rfl ?_
                  refine x_calli (C := RX1) (T := TX1) (N := 11) (ci := 0) (q0 := 0) (b := h 0) (As := [.int (nI a), .int (nI i), .int (nI 60)]) (rest := []) hF (m1_road (L := Li) hn (nI a) (nI i) (nI 60)) 3 (lw_V q154 q69 q70 q22 q71) rfl rfl (by decide +kernel) ⟨by decide, by decide⟩ rfl rfl rfl rfl (Nat.le_of_ble_eq_true rfl) dX1_shift_106 ⟨Nat.zero_le _, Nat.zero_le _⟩ (fun r_106 w_106 hp_106 => ?_)
                  have hp2 : r_106 = nI 1 ∧ w_106 = wX h d n goal best bc (up2 Li a i 60) P pa la nt bp ne := by
                    rcases hp_106 with ⟨_, hno, _⟩ | ⟨a', b', k', q1, q2, q3, q4, e1, e2, e3, e4, e5⟩
                    · exact absurd ⟨⟨⟨a, ha, rfl⟩, ⟨i, by omega, rfl⟩, fun q => c_39 ((nI_eq (by omega) (by omega)).mp q).symm⟩, nI_pos (by omega), (nI_leI (by omega) (by omega)).mpr (by omega)⟩ hno
                    · have f1 := (nI_eq (by omega) (by omega)).mp e1
                      have f2 := (nI_eq (by omega) (by omega)).mp e2
                      have f3 := (nI_eq (by omega) (by omega)).mp e3
                      subst f1; subst f2; subst f3
                      exact ⟨e4, e5⟩
                  obtain ⟨rfl, rfl⟩ := hp2
                  refine x_pop hF dX1_shift_109 rfl ?_
                  refine x_iinc (v := (nI (i + 1))) (lv' := [(0, .ref (h 0)), (1, .int (nI a)), (2, .int mo), (3, .int (nI (ci + 1))), (4, .int (nI (i + 1))), (5, .int (nI 60))]) hF 4 dX1_shift_110 rfl (ii_1 _) (by decide) rfl ?_
                  refine x_goto hF 27 dX1_shift_113 (by decide) ?_
                  refine WW.lvs [0, 1, 2, 3, 4] rfl ?_
                  exact ih (i + 1) (ci + 1) (up2 Li a i 60) (by omega) (by omega) (by rw [shf_new c_39, ← hLi]; show _ = up2 Li a i (clip _); rw [kc]) (by rw [shf_new c_39, ← hLi, ← hci]; show _ = (if clip _ = _ then ci else ci + 1); rw [kc, if_neg c_94])
            · exact absurd (Int32.not_lt.mp k1) c_63
          · rw [k2]
            refine x_istore (lv' := [(0, .ref (h 0)), (1, .int (nI a)), (2, .int mo), (3, .int (nI ci)), (4, .int (nI i)), (5, .int (nI k_))]) hF dX1_shift_59 (by decide) rfl ?_
            refine x_iload hF 5 dX1_shift_61 rfl ?_
            refine x_if_ge hF 69 dX1_shift_63 (by decide) (by omega) ?_
            refine x_iload hF 5 dX1_shift_69 rfl ?_
            refine x_bipush hF dX1_shift_71 kc_b60 ?_
            refine x_icmp_le hF 80 dX1_shift_73 (by decide) (by omega) (by omega) (fun c_73 => ?_) (fun c_73 => ?_)
            · refine x_iload hF 5 dX1_shift_80 rfl ?_
              refine x_aload_n hF 0 dX1_shift_82 rfl rfl ?_
              refine x_get (ci := 0) (C := RX1) (T := TX1) (N := 11) (v := .ref (h 1)) hF in_X1 0 rfl rfl 1 (by decide) q33 rfl rfl dX1_shift_83 ?_
              refine x_bipush hF dX1_shift_86 kc_b7 ?_
              refine x_iload_n hF 1 dX1_shift_88 rfl rfl ?_
              refine x_imul hF dX1_shift_89 ?_
              refine x_iload hF 4 dX1_shift_90 rfl ?_
              refine x_iadd hF dX1_shift_92 ?_
              refine x_iald hF 1 0 rfl rfl (by decide) (by omega) dX1_shift_93 ?_
              have hb_93 := hok.1 ((7 * a) + i)
              refine x_icmp_eq hF 100 dX1_shift_94 (by decide) (by omega) (by omega) (fun c_94 => ?_) (fun c_94 => ?_)
              · refine x_aload_n hF 0 dX1_shift_100 rfl rfl ?_
                refine x_iload_n hF 1 dX1_shift_101 rfl rfl ?_
                refine x_iload hF 4 dX1_shift_102 rfl ?_
                refine x_iload hF 5 dX1_shift_104 rfl ?_
                refine x_calli (C := RX1) (T := TX1) (N := 11) (ci := 0) (q0 := 0) (b := h 0) (As := [.int (nI a), .int (nI i), .int (nI k_)]) (rest := []) hF (m1_road (L := Li) hn (nI a) (nI i) (nI k_)) 3 (lw_V q154 q69 q70 q22 q71) rfl rfl (by decide +kernel) ⟨by decide, by decide⟩ rfl rfl rfl rfl (Nat.le_of_ble_eq_true rfl) dX1_shift_106 ⟨Nat.zero_le _, Nat.zero_le _⟩ (fun r_106 w_106 hp_106 => ?_)
                have hp2 : r_106 = nI 1 ∧ w_106 = wX h d n goal best bc (up2 Li a i k_) P pa la nt bp ne := by
                  rcases hp_106 with ⟨_, hno, _⟩ | ⟨a', b', k', q1, q2, q3, q4, e1, e2, e3, e4, e5⟩
                  · exact absurd ⟨⟨⟨a, ha, rfl⟩, ⟨i, by omega, rfl⟩, fun q => c_39 ((nI_eq (by omega) (by omega)).mp q).symm⟩, nI_pos (by omega), (nI_leI (by omega) (by omega)).mpr (by omega)⟩ hno
                  · have f1 := (nI_eq (by omega) (by omega)).mp e1
                    have f2 := (nI_eq (by omega) (by omega)).mp e2
                    have f3 := (nI_eq (by omega) (by omega)).mp e3
                    subst f1; subst f2; subst f3
                    exact ⟨e4, e5⟩
                obtain ⟨rfl, rfl⟩ := hp2
                refine x_pop hF dX1_shift_109 rfl ?_
                refine x_iinc (v := (nI (i + 1))) (lv' := [(0, .ref (h 0)), (1, .int (nI a)), (2, .int mo), (3, .int (nI ci)), (4, .int (nI (i + 1))), (5, .int (nI k_))]) hF 4 dX1_shift_110 rfl (ii_1 _) (by decide) rfl ?_
                refine x_goto hF 27 dX1_shift_113 (by decide) ?_
                refine WW.lvs [0, 1, 2, 3, 4] rfl ?_
                exact ih (i + 1) ci (up2 Li a i k_) (by omega) (by omega) (by rw [shf_new c_39, ← hLi]; show _ = up2 Li a i (clip _); rw [kc]) (by rw [shf_new c_39, ← hLi, ← hci]; show _ = (if clip _ = _ then ci else ci + 1); rw [kc, if_pos c_94])
              · refine x_iinc (v := (nI (ci + 1))) (lv' := [(0, .ref (h 0)), (1, .int (nI a)), (2, .int mo), (3, .int (nI (ci + 1))), (4, .int (nI i)), (5, .int (nI k_))]) hF 3 dX1_shift_97 rfl (ii_1 _) (by decide) rfl ?_
                refine x_aload_n hF 0 dX1_shift_100 rfl rfl ?_
                refine x_iload_n hF 1 dX1_shift_101 rfl rfl ?_
                refine x_iload hF 4 dX1_shift_102 rfl ?_
                refine x_iload hF 5 dX1_shift_104 rfl ?_
                refine x_calli (C := RX1) (T := TX1) (N := 11) (ci := 0) (q0 := 0) (b := h 0) (As := [.int (nI a), .int (nI i), .int (nI k_)]) (rest := []) hF (m1_road (L := Li) hn (nI a) (nI i) (nI k_)) 3 (lw_V q154 q69 q70 q22 q71) rfl rfl (by decide +kernel) ⟨by decide, by decide⟩ rfl rfl rfl rfl (Nat.le_of_ble_eq_true rfl) dX1_shift_106 ⟨Nat.zero_le _, Nat.zero_le _⟩ (fun r_106 w_106 hp_106 => ?_)
                have hp2 : r_106 = nI 1 ∧ w_106 = wX h d n goal best bc (up2 Li a i k_) P pa la nt bp ne := by
                  rcases hp_106 with ⟨_, hno, _⟩ | ⟨a', b', k', q1, q2, q3, q4, e1, e2, e3, e4, e5⟩
                  · exact absurd ⟨⟨⟨a, ha, rfl⟩, ⟨i, by omega, rfl⟩, fun q => c_39 ((nI_eq (by omega) (by omega)).mp q).symm⟩, nI_pos (by omega), (nI_leI (by omega) (by omega)).mpr (by omega)⟩ hno
                  · have f1 := (nI_eq (by omega) (by omega)).mp e1
                    have f2 := (nI_eq (by omega) (by omega)).mp e2
                    have f3 := (nI_eq (by omega) (by omega)).mp e3
                    subst f1; subst f2; subst f3
                    exact ⟨e4, e5⟩
                obtain ⟨rfl, rfl⟩ := hp2
                refine x_pop hF dX1_shift_109 rfl ?_
                refine x_iinc (v := (nI (i + 1))) (lv' := [(0, .ref (h 0)), (1, .int (nI a)), (2, .int mo), (3, .int (nI (ci + 1))), (4, .int (nI (i + 1))), (5, .int (nI k_))]) hF 4 dX1_shift_110 rfl (ii_1 _) (by decide) rfl ?_
                refine x_goto hF 27 dX1_shift_113 (by decide) ?_
                refine WW.lvs [0, 1, 2, 3, 4] rfl ?_
                exact ih (i + 1) (ci + 1) (up2 Li a i k_) (by omega) (by omega) (by rw [shf_new c_39, ← hLi]; show _ = up2 Li a i (clip _); rw [kc]) (by rw [shf_new c_39, ← hLi, ← hci]; show _ = (if clip _ = _ then ci else ci + 1); rw [kc, if_neg c_94])
            · omega
        · refine x_goto hF 110 dX1_shift_42 (by decide) ?_
          refine x_iinc (v := (nI (i + 1))) (lv' := [(0, .ref (h 0)), (1, .int (nI a)), (2, .int mo), (3, .int (nI ci)), (4, .int (nI (i + 1)))]) hF 4 dX1_shift_110 rfl (ii_1 _) (by decide) rfl ?_
          refine x_goto hF 27 dX1_shift_113 (by decide) ?_
          subst c_39
          exact ih (i + 1) ci Li (by omega) (by omega) (by rw [shf_same]; exact hLi) (by rw [shf_same]; exact hci)
  refine x_aload_n hF 0 dX1_shift_0 rfl rfl ?_
  refine x_iload_n hF 1 dX1_shift_1 rfl rfl ?_
  refine x_calli (C := RX1) (T := TX1) (N := 11) (ci := 0) (q0 := 0) (b := h 0) (As := [.int u]) (rest := []) hF (m1_isTown hn u) 1 (lw_V q76 q78 qs1 q22 q79) rfl rfl (by decide +kernel) ⟨by decide, by decide⟩ rfl rfl rfl rfl (Nat.le_of_ble_eq_true rfl) dX1_shift_2 ⟨Nat.zero_le _, Nat.zero_le _⟩ (fun r_2 w_2 hp_2 => ?_)
  obtain ⟨rfl, hp_2⟩ := hp_2
  rcases hp_2 with ⟨rfl, t_2⟩ | ⟨rfl, t_2⟩
  · obtain ⟨a_, ha_, eu⟩ := id t_2
    rw [eu]
    refine x_if_eq hF 20 dX1_shift_5 (by decide) (by omega) (fun c_5 => ?_) (fun c_5 => ?_)
    · omega
    · refine x_iload_n hF 2 dX1_shift_8 rfl rfl ?_
      refine x_bipush hF dX1_shift_9 kc_bm60 ?_
      refine x_icmp_ltR hF 20 dX1_shift_11 (by decide) (fun c_11 => ?_) (fun c_11 => ?_)
      · refine x_iconst hF dX1_shift_20 kc_im1 ?_
        exact hret _ _ _ _ (Or.inl ⟨fun q => by first | exact t_2 q.1 | exact q.2.1 c_11 | exact c_17 q.2.2, rfl, ⟨_, _, _, _, _, _, _, _, _, rfl⟩⟩) rfl dX1_shift_21
      · refine x_iload_n hF 2 dX1_shift_14 rfl rfl ?_
        refine x_bipush hF dX1_shift_15 kc_b60 ?_
        refine x_icmp_leR hF 22 dX1_shift_17 (by decide) (fun c_17 => ?_) (fun c_17 => ?_)
        · refine x_iconst hF dX1_shift_22 kc_i0 ?_
          refine x_istore_n (lv' := [(0, .ref (h 0)), (1, .int (nI a_)), (2, .int mo), (3, .int (nI 0))]) hF dX1_shift_23 rfl (by decide) rfl ?_
          refine x_iconst hF dX1_shift_24 kc_i0 ?_
          refine x_istore (lv' := [(0, .ref (h 0)), (1, .int (nI a_)), (2, .int mo), (3, .int (nI 0)), (4, .int (nI 0))]) hF dX1_shift_25 (by decide) rfl ?_
          exact loop c_11 c_17 a_ eu ha_ (n + 1) 0 0 L (by omega) (by omega) rfl rfl
        · refine x_iconst hF dX1_shift_20 kc_im1 ?_
          exact hret _ _ _ _ (Or.inl ⟨fun q => by first | exact t_2 q.1 | exact q.2.1 c_11 | exact c_17 q.2.2, rfl, ⟨_, _, _, _, _, _, _, _, _, rfl⟩⟩) rfl dX1_shift_21
  · refine x_if_eq hF 20 dX1_shift_5 (by decide) (by omega) (fun c_5 => ?_) (fun c_5 => ?_)
    · refine x_iconst hF dX1_shift_20 kc_im1 ?_
      exact hret _ _ _ _ (Or.inl ⟨fun q => by first | exact t_2 q.1 | exact q.2.1 c_11 | exact c_17 q.2.2, rfl, ⟨_, _, _, _, _, _, _, _, _, rfl⟩⟩) rfl dX1_shift_21
    · omega
end
end
section
/-! PURE: how the objects begin -/
def Lk (i : Nat) : Nat → Nat := fun j => if j < i then 60 else 0
theorem Lk_0 : (fun _ : Nat => 0) = Lk 0 := by
  funext j
  show 0 = if j < 0 then 60 else 0
  rw [if_neg (by omega)]
theorem Lk_s (i : Nat) : va_up (Lk i) i 60 = Lk (i + 1) := by
  funext j
  unfold va_up Lk
  by_cases h : j = i
  · rw [if_pos h, if_pos (by omega)]
  · rw [if_neg h]
    by_cases h2 : j < i
    · rw [if_pos h2, if_pos (by omega)]
    · rw [if_neg h2, if_neg (by omega)]
theorem Lk_ok (n : Nat) (hn : n ≤ 7) : LOK n (Lk 49) := by
  refine ⟨fun j => ?_, fun x y hx hy => ?_⟩
  · unfold Lk
    by_cases h : j < 49
    · rw [if_pos h]; omega
    · rw [if_neg h]; omega
  · unfold mx Lk
    rw [if_pos (by omega), if_pos (by omega)]
def tcl (u : Int32) : Nat := if u < nI 3 then 3 else if nI 7 < u then 7 else u.toInt.toNat
theorem tcl_cases (u : Int32) : (u < nI 3 ∧ tcl u = 3) ∨ (¬ u < nI 3 ∧ nI 7 < u ∧ tcl u = 7) ∨ ∃ k : Nat, 3 ≤ k ∧ k ≤ 7 ∧ u = nI k ∧ tcl u = k := by
  have e3 : (nI 3).toInt = 3 := by decide +kernel
  have e7 : (nI 7).toInt = 7 := by decide +kernel
  unfold tcl
  by_cases h : u < nI 3
  · left; exact ⟨h, by rw [if_pos h]⟩
  · right
    rw [if_neg h]
    by_cases h2 : nI 7 < u
    · left; exact ⟨h, h2, by rw [if_pos h2]⟩
    · right
      rw [if_neg h2]
      have b1 := Int.not_lt.mp (fun q => h (Int32.lt_iff_toInt_lt.mpr q))
      have b2 := Int.not_lt.mp (fun q => h2 (Int32.lt_iff_toInt_lt.mpr q))
      refine ⟨u.toInt.toNat, by omega, by omega, Int32.toInt_inj.mp ?_, rfl⟩
      rw [nI_toInt (by omega)]
      omega
theorem tcl_in (u : Int32) : 3 ≤ tcl u ∧ tcl u ≤ 7 := by
  rcases tcl_cases u with ⟨_, e⟩ | ⟨_, _, e⟩ | ⟨k, h1, h2, _, e⟩ <;> omega
end
section
/-! TourSolver: its constructor (printed by a program, wip/D-64046w/src) -/
set_option maxRecDepth 100000
section
variable {l : Launch} {D : va_G} {h : Nat → Nat} {d : Nat → ClassId} {n goal best bc : Nat} {L P pa la nt bp ne : Nat → Nat}
theorem m1_init_tail {p : Program} {e : Env} {R : Room} {s : State} {m : MethodId} {args : Array Value} {below : List Frame} {meth : Method} {c : Code} {Q : State → Prop} {A : Nat → Prop} {ce sl : Nat} (hF : FX p s m args c D A cX1_init 3 RX1 (tX d)) (u : Int32) (hret : ∀ (w1 : va_W) (pc : Nat) (lv : List (Nat × Value)), WX h d (tcl u) (Lk 49) w1 → decode cX1_init pc = .ok (.return_, 1) → WW p l e R s m args below meth c Q D A 3 ce sl w1 pc lv []) : WW p l e R s m args below meth c Q D A 3 ce sl (wX h d 0 0 0 0 (Lk 0) (fun _ => 0) (fun _ => 0) (fun _ => 0) (fun _ => 0) (fun _ => 0) (fun _ => 0)) 60 [(0, .ref (h 0)), (1, .int u)] [] := by
  have loop : ∀ (n : Nat), n = tcl u → ∀ (f i : Nat), i ≤ 49 → 50 ≤ i + f → WW p l e R s m args below meth c Q D A 3 ce sl (wX h d n 0 0 0 (Lk i) (fun _ => 0) (fun _ => 0) (fun _ => 0) (fun _ => 0) (fun _ => 0) (fun _ => 0)) 87 [(0, .ref (h 0)), (1, .int u), (2, .int (nI i))] [] := by
    intro n en
    intro f
    induction f with
    | zero =>
      intro i hi hf
      exact absurd (show False by omega) id
    | succ f ih =>
      intro i hi hf
      refine x_iload_n hF 2 dX1_init_87 rfl rfl ?_
      refine x_bipush hF dX1_init_88 kc_b49 ?_
      refine x_icmp_ge hF 107 dX1_init_90 (by decide) (by omega) (by omega) (fun c_90 => ?_) (fun c_90 => ?_)
      · have ei : i = 49 := by omega
        subst ei
        subst en
        exact hret _ _ _ ⟨_, _, _, _, _, _, _, _, _, rfl⟩ dX1_init_107
      · refine x_aload_n hF 0 dX1_init_93 rfl rfl ?_
        refine x_get (ci := 0) (C := RX1) (T := TX1) (N := 11) (v := .ref (h 1)) hF in_X1 0 rfl rfl 1 (by decide) q33 rfl rfl dX1_init_94 ?_
        refine x_iload_n hF 2 dX1_init_97 rfl rfl ?_
        refine x_bipush hF dX1_init_98 kc_b60 ?_
        refine x_iast (w' := wX h d n 0 0 0 (va_up (Lk i) i 60) (fun _ => 0) (fun _ => 0) (fun _ => 0) (fun _ => 0) (fun _ => 0) (fun _ => 0)) hF 1 0 rfl rfl (by decide) (by omega) rfl dX1_init_100 ?_
        refine x_iinc (v := (nI (i + 1))) (lv' := [(0, .ref (h 0)), (1, .int u), (2, .int (nI (i + 1)))]) hF 2 dX1_init_101 rfl (ii_1 _) (by decide) rfl ?_
        refine x_goto hF 87 dX1_init_104 (by decide) ?_
        rw [Lk_s]
        exact ih (i + 1) (by omega) (by omega)
  have htc := tcl_in u
  rcases tcl_cases u with ⟨k1, kc⟩ | ⟨k1, k2, kc⟩ | ⟨k_, k1, k2, k3, kc⟩
  · refine x_aload_n hF 0 dX1_init_60 rfl rfl ?_
    refine x_iload_n hF 1 dX1_init_61 rfl rfl ?_
    refine x_iconst hF dX1_init_62 kc_i3 ?_
    refine x_icmp_geR hF 70 dX1_init_63 (by decide) (fun c_63 => ?_) (fun c_63 => ?_)
    · exact absurd c_63 (Int32.not_le.mpr k1)
    · refine x_iconst hF dX1_init_66 kc_i3 ?_
      refine x_goto hF 82 dX1_init_67 (by decide) ?_
      refine x_put (ci := 0) (C := RX1) (T := TX1) (N := 11) (w' := wX h d 3 0 0 0 (Lk 0) (fun _ => 0) (fun _ => 0) (fun _ => 0) (fun _ => 0) (fun _ => 0) (fun _ => 0)) hF in_X1 tyX1 tyX1_ok nmX1 0 rfl rfl 0 (by decide) q32 rfl rfl rfl rfl (Nat.le_of_ble_eq_true rfl) rfl dX1_init_82 ?_
      refine x_iconst hF dX1_init_85 kc_i0 ?_
      refine x_istore_n (lv' := [(0, .ref (h 0)), (1, .int u), (2, .int (nI 0))]) hF dX1_init_86 rfl (by decide) rfl ?_
      exact loop 3 (by omega) 50 0 (by omega) (by omega)
  · refine x_aload_n hF 0 dX1_init_60 rfl rfl ?_
    refine x_iload_n hF 1 dX1_init_61 rfl rfl ?_
    refine x_iconst hF dX1_init_62 kc_i3 ?_
    refine x_icmp_geR hF 70 dX1_init_63 (by decide) (fun c_63 => ?_) (fun c_63 => ?_)
    · refine x_iload_n hF 1 dX1_init_70 rfl rfl ?_
      refine x_bipush hF dX1_init_71 kc_b7 ?_
      refine x_icmp_leR hF 81 dX1_init_73 (by decide) (fun c_73 => ?_) (fun c_73 => ?_)
      · exact absurd c_73 (Int32.not_le.mpr k2)
      · refine x_bipush hF dX1_init_76 kc_b7 ?_
        refine x_goto hF 82 dX1_init_78 (by decide) ?_
        refine x_put (ci := 0) (C := RX1) (T := TX1) (N := 11) (w' := wX h d 7 0 0 0 (Lk 0) (fun _ => 0) (fun _ => 0) (fun _ => 0) (fun _ => 0) (fun _ => 0) (fun _ => 0)) hF in_X1 tyX1 tyX1_ok nmX1 0 rfl rfl 0 (by decide) q32 rfl rfl rfl rfl (Nat.le_of_ble_eq_true rfl) rfl dX1_init_82 ?_
        refine x_iconst hF dX1_init_85 kc_i0 ?_
        refine x_istore_n (lv' := [(0, .ref (h 0)), (1, .int u), (2, .int (nI 0))]) hF dX1_init_86 rfl (by decide) rfl ?_
        exact loop 7 (by omega) 50 0 (by omega) (by omega)
    · exact absurd (Int32.not_lt.mp k1) c_63
  · subst k3
    refine x_aload_n hF 0 dX1_init_60 rfl rfl ?_
    refine x_iload_n hF 1 dX1_init_61 rfl rfl ?_
    refine x_iconst hF dX1_init_62 kc_i3 ?_
    refine x_icmp_ge hF 70 dX1_init_63 (by decide) (by omega) (by omega) (fun c_63 => ?_) (fun c_63 => ?_)
    · refine x_iload_n hF 1 dX1_init_70 rfl rfl ?_
      refine x_bipush hF dX1_init_71 kc_b7 ?_
      refine x_icmp_le hF 81 dX1_init_73 (by decide) (by omega) (by omega) (fun c_73 => ?_) (fun c_73 => ?_)
      · refine x_iload_n hF 1 dX1_init_81 rfl rfl ?_
        refine x_put (ci := 0) (C := RX1) (T := TX1) (N := 11) (w' := wX h d k_ 0 0 0 (Lk 0) (fun _ => 0) (fun _ => 0) (fun _ => 0) (fun _ => 0) (fun _ => 0) (fun _ => 0)) hF in_X1 tyX1 tyX1_ok nmX1 0 rfl rfl 0 (by decide) q32 rfl rfl rfl rfl (Nat.le_of_ble_eq_true rfl) rfl dX1_init_82 ?_
        refine x_iconst hF dX1_init_85 kc_i0 ?_
        refine x_istore_n (lv' := [(0, .ref (h 0)), (1, .int (nI k_)), (2, .int (nI 0))]) hF dX1_init_86 rfl (by decide) rfl ?_
        exact loop k_ (by omega) 50 0 (by omega) (by omega)
      · omega
    · omega
theorem m1_init (b : Nat) (u : Int32) : MtC l yX1_init cX1_init 3 { frames := 1, cells := 7, slots := 137, locals := 20 } D [] [.ref b, .int u] [(b, .inr (0, [.int (nI 0), .null, .int (nI 0), .null, .null, .null, .null, .int (nI 0), .int (nI 0), .null, .null]))] 7 137 (fun w1 tys1 => ∃ (h : Nat → Nat) (d : Nat → ClassId), h 0 = b ∧ tys1 = tX d ∧ WX h d (tcl u) (Lk 49) w1) := by
  refine MtC.of rfl rfl (Nat.le_of_ble_eq_true rfl) ?_
  intro p e s m args below meth c Q A hin hF hret
  refine WW.cw (lv2 := [(0, .ref b), (1, .int u)]) rfl rfl rfl ?_
  refine x_aload_n hF 0 dX1_init_0 rfl rfl ?_
  refine x_objInit hF q29 q30 q31 dX1_init_1 (by decide) (by decide) (Nat.le_of_ble_eq_true rfl) ?_
  refine x_aload_n hF 0 dX1_init_4 rfl rfl ?_
  refine x_bipush hF dX1_init_5 kc_b49 ?_
  refine x_newa hF (ty := .int) q66 rfl (fun _ => rfl) (by decide) (by decide) (by decide) (by decide) dX1_init_7 (fun a1 t1 hF1 => ?_)
  refine WW.cw (w' := [(b, .inr (0, [.int (nI 0), .null, .int (nI 0), .null, .null, .null, .null, .int (nI 0), .int (nI 0), .null, .null])), (a1, .inl (t1, 49, .inl (nA (fun _ => 0))))]) rfl rfl rfl ?_
  refine x_putF (ci := 0) (C := RX1) (T := TX1) (N := 11) (w' := [(b, .inr (0, [.int (nI 0), .ref a1, .int (nI 0), .null, .null, .null, .null, .int (nI 0), .int (nI 0), .null, .null])), (a1, .inl (t1, 49, .inl (nA (fun _ => 0))))]) hF1 in_X1 tyX1 tyX1_ok nmX1 hin 0 rfl rfl 1 (by decide) q33 rfl rfl rfl rfl rfl (Nat.le_of_ble_eq_true rfl) rfl dX1_init_9 ?_
  refine x_aload_n hF1 0 dX1_init_12 rfl rfl ?_
  refine x_bipush hF1 dX1_init_13 kc_b49 ?_
  refine x_newa hF1 (ty := .int) q66 rfl (fun _ => rfl) (by decide) (by decide) (by decide) (by decide) dX1_init_15 (fun a2 t2 hF2 => ?_)
  refine WW.cw (w' := [(b, .inr (0, [.int (nI 0), .ref a1, .int (nI 0), .null, .null, .null, .null, .int (nI 0), .int (nI 0), .null, .null])), (a1, .inl (t1, 49, .inl (nA (fun _ => 0)))), (a2, .inl (t2, 49, .inl (nA (fun _ => 0))))]) rfl rfl rfl ?_
  refine x_putF (ci := 0) (C := RX1) (T := TX1) (N := 11) (w' := [(b, .inr (0, [.int (nI 0), .ref a1, .int (nI 0), .ref a2, .null, .null, .null, .int (nI 0), .int (nI 0), .null, .null])), (a1, .inl (t1, 49, .inl (nA (fun _ => 0)))), (a2, .inl (t2, 49, .inl (nA (fun _ => 0))))]) hF2 in_X1 tyX1 tyX1_ok nmX1 hin 0 rfl rfl 3 (by decide) q35 rfl rfl rfl rfl rfl (Nat.le_of_ble_eq_true rfl) rfl dX1_init_17 ?_
  refine x_aload_n hF2 0 dX1_init_20 rfl rfl ?_
  refine x_bipush hF2 dX1_init_21 kc_b8 ?_
  refine x_newa hF2 (ty := .byte) q67 rfl (fun _ => rfl) (by decide) (by decide) (by decide) (by decide) dX1_init_23 (fun a3 t3 hF3 => ?_)
  refine WW.cw (w' := [(b, .inr (0, [.int (nI 0), .ref a1, .int (nI 0), .ref a2, .null, .null, .null, .int (nI 0), .int (nI 0), .null, .null])), (a1, .inl (t1, 49, .inl (nA (fun _ => 0)))), (a2, .inl (t2, 49, .inl (nA (fun _ => 0)))), (a3, .inl (t3, 8, .inl (nA (fun _ => 0))))]) rfl rfl rfl ?_
  refine x_putF (ci := 0) (C := RX1) (T := TX1) (N := 11) (w' := [(b, .inr (0, [.int (nI 0), .ref a1, .int (nI 0), .ref a2, .ref a3, .null, .null, .int (nI 0), .int (nI 0), .null, .null])), (a1, .inl (t1, 49, .inl (nA (fun _ => 0)))), (a2, .inl (t2, 49, .inl (nA (fun _ => 0)))), (a3, .inl (t3, 8, .inl (nA (fun _ => 0))))]) hF3 in_X1 tyX1 tyX1_ok nmX1 hin 0 rfl rfl 4 (by decide) q36 rfl rfl rfl rfl rfl (Nat.le_of_ble_eq_true rfl) rfl dX1_init_25 ?_
  refine x_aload_n hF3 0 dX1_init_28 rfl rfl ?_
  refine x_bipush hF3 dX1_init_29 kc_b8 ?_
  refine x_newa hF3 (ty := .int) q66 rfl (fun _ => rfl) (by decide) (by decide) (by decide) (by decide) dX1_init_31 (fun a4 t4 hF4 => ?_)
  refine WW.cw (w' := [(b, .inr (0, [.int (nI 0), .ref a1, .int (nI 0), .ref a2, .ref a3, .null, .null, .int (nI 0), .int (nI 0), .null, .null])), (a1, .inl (t1, 49, .inl (nA (fun _ => 0)))), (a2, .inl (t2, 49, .inl (nA (fun _ => 0)))), (a3, .inl (t3, 8, .inl (nA (fun _ => 0)))), (a4, .inl (t4, 8, .inl (nA (fun _ => 0))))]) rfl rfl rfl ?_
  refine x_putF (ci := 0) (C := RX1) (T := TX1) (N := 11) (w' := [(b, .inr (0, [.int (nI 0), .ref a1, .int (nI 0), .ref a2, .ref a3, .ref a4, .null, .int (nI 0), .int (nI 0), .null, .null])), (a1, .inl (t1, 49, .inl (nA (fun _ => 0)))), (a2, .inl (t2, 49, .inl (nA (fun _ => 0)))), (a3, .inl (t3, 8, .inl (nA (fun _ => 0)))), (a4, .inl (t4, 8, .inl (nA (fun _ => 0))))]) hF4 in_X1 tyX1 tyX1_ok nmX1 hin 0 rfl rfl 5 (by decide) q37 rfl rfl rfl rfl rfl (Nat.le_of_ble_eq_true rfl) rfl dX1_init_33 ?_
  refine x_aload_n hF4 0 dX1_init_36 rfl rfl ?_
  refine x_bipush hF4 dX1_init_37 kc_b8 ?_
  refine x_newa hF4 (ty := .byte) q67 rfl (fun _ => rfl) (by decide) (by decide) (by decide) (by decide) dX1_init_39 (fun a5 t5 hF5 => ?_)
  refine WW.cw (w' := [(b, .inr (0, [.int (nI 0), .ref a1, .int (nI 0), .ref a2, .ref a3, .ref a4, .null, .int (nI 0), .int (nI 0), .null, .null])), (a1, .inl (t1, 49, .inl (nA (fun _ => 0)))), (a2, .inl (t2, 49, .inl (nA (fun _ => 0)))), (a3, .inl (t3, 8, .inl (nA (fun _ => 0)))), (a4, .inl (t4, 8, .inl (nA (fun _ => 0)))), (a5, .inl (t5, 8, .inl (nA (fun _ => 0))))]) rfl rfl rfl ?_
  refine x_putF (ci := 0) (C := RX1) (T := TX1) (N := 11) (w' := [(b, .inr (0, [.int (nI 0), .ref a1, .int (nI 0), .ref a2, .ref a3, .ref a4, .ref a5, .int (nI 0), .int (nI 0), .null, .null])), (a1, .inl (t1, 49, .inl (nA (fun _ => 0)))), (a2, .inl (t2, 49, .inl (nA (fun _ => 0)))), (a3, .inl (t3, 8, .inl (nA (fun _ => 0)))), (a4, .inl (t4, 8, .inl (nA (fun _ => 0)))), (a5, .inl (t5, 8, .inl (nA (fun _ => 0))))]) hF5 in_X1 tyX1 tyX1_ok nmX1 hin 0 rfl rfl 6 (by decide) q38 rfl rfl rfl rfl rfl (Nat.le_of_ble_eq_true rfl) rfl dX1_init_41 ?_
  refine x_aload_n hF5 0 dX1_init_44 rfl rfl ?_
  refine x_bipush hF5 dX1_init_45 kc_b8 ?_
  refine x_newa hF5 (ty := .byte) q67 rfl (fun _ => rfl) (by decide) (by decide) (by decide) (by decide) dX1_init_47 (fun a6 t6 hF6 => ?_)
  refine WW.cw (w' := [(b, .inr (0, [.int (nI 0), .ref a1, .int (nI 0), .ref a2, .ref a3, .ref a4, .ref a5, .int (nI 0), .int (nI 0), .null, .null])), (a1, .inl (t1, 49, .inl (nA (fun _ => 0)))), (a2, .inl (t2, 49, .inl (nA (fun _ => 0)))), (a3, .inl (t3, 8, .inl (nA (fun _ => 0)))), (a4, .inl (t4, 8, .inl (nA (fun _ => 0)))), (a5, .inl (t5, 8, .inl (nA (fun _ => 0)))), (a6, .inl (t6, 8, .inl (nA (fun _ => 0))))]) rfl rfl rfl ?_
  refine x_putF (ci := 0) (C := RX1) (T := TX1) (N := 11) (w' := [(b, .inr (0, [.int (nI 0), .ref a1, .int (nI 0), .ref a2, .ref a3, .ref a4, .ref a5, .int (nI 0), .int (nI 0), .ref a6, .null])), (a1, .inl (t1, 49, .inl (nA (fun _ => 0)))), (a2, .inl (t2, 49, .inl (nA (fun _ => 0)))), (a3, .inl (t3, 8, .inl (nA (fun _ => 0)))), (a4, .inl (t4, 8, .inl (nA (fun _ => 0)))), (a5, .inl (t5, 8, .inl (nA (fun _ => 0)))), (a6, .inl (t6, 8, .inl (nA (fun _ => 0))))]) hF6 in_X1 tyX1 tyX1_ok nmX1 hin 0 rfl rfl 9 (by decide) q41 rfl rfl rfl rfl rfl (Nat.le_of_ble_eq_true rfl) rfl dX1_init_49 ?_
  refine x_aload_n hF6 0 dX1_init_52 rfl rfl ?_
  refine x_bipush hF6 dX1_init_53 kc_b7 ?_
  refine x_newa hF6 (ty := .int) q66 rfl (fun _ => rfl) (by decide) (by decide) (by decide) (by decide) dX1_init_55 (fun a7 t7 hF7 => ?_)
  refine WW.cw (w' := [(b, .inr (0, [.int (nI 0), .ref a1, .int (nI 0), .ref a2, .ref a3, .ref a4, .ref a5, .int (nI 0), .int (nI 0), .ref a6, .null])), (a1, .inl (t1, 49, .inl (nA (fun _ => 0)))), (a2, .inl (t2, 49, .inl (nA (fun _ => 0)))), (a3, .inl (t3, 8, .inl (nA (fun _ => 0)))), (a4, .inl (t4, 8, .inl (nA (fun _ => 0)))), (a5, .inl (t5, 8, .inl (nA (fun _ => 0)))), (a6, .inl (t6, 8, .inl (nA (fun _ => 0)))), (a7, .inl (t7, 7, .inl (nA (fun _ => 0))))]) rfl rfl rfl ?_
  refine x_putF (ci := 0) (C := RX1) (T := TX1) (N := 11) (w' := [(b, .inr (0, [.int (nI 0), .ref a1, .int (nI 0), .ref a2, .ref a3, .ref a4, .ref a5, .int (nI 0), .int (nI 0), .ref a6, .ref a7])), (a1, .inl (t1, 49, .inl (nA (fun _ => 0)))), (a2, .inl (t2, 49, .inl (nA (fun _ => 0)))), (a3, .inl (t3, 8, .inl (nA (fun _ => 0)))), (a4, .inl (t4, 8, .inl (nA (fun _ => 0)))), (a5, .inl (t5, 8, .inl (nA (fun _ => 0)))), (a6, .inl (t6, 8, .inl (nA (fun _ => 0)))), (a7, .inl (t7, 7, .inl (nA (fun _ => 0))))]) hF7 in_X1 tyX1 tyX1_ok nmX1 hin 0 rfl rfl 10 (by decide) q42 rfl rfl rfl rfl rfl (Nat.le_of_ble_eq_true rfl) rfl dX1_init_57 ?_
  refine WW.cw (w' := [(b, .inr (0, [.int (nI 0), .ref a1, .int (nI 0), .ref a2, .ref a3, .ref a4, .ref a5, .int (nI 0), .int (nI 0), .ref a6, .ref a7])), (a1, .inl (t1, 49, .inl (nA (Lk 0)))), (a2, .inl (t2, 49, .inl (nA (fun _ => 0)))), (a3, .inl (t3, 8, .inl (nA (fun _ => 0)))), (a4, .inl (t4, 8, .inl (nA (fun _ => 0)))), (a5, .inl (t5, 8, .inl (nA (fun _ => 0)))), (a6, .inl (t6, 8, .inl (nA (fun _ => 0)))), (a7, .inl (t7, 7, .inl (nA (fun _ => 0))))]) (by rw [← Lk_0]) rfl rfl ?_
  exact m1_init_tail (h := fun k => [b, a1, a2, a3, a4, a5, a6, a7].getD k 0) (d := fun k => [t1, t1, t2, t3, t4, t5, t6, t7].getD k t1) hF7 u (fun w1 pc lv hw hd => hret w1 _ pc lv ⟨_, _, rfl, rfl, hw⟩ hF7 hd)
end
end
section
/-! PURE: the reference's trips -/
def adj (g : Nat) : List Nat → List (Nat × Nat)
  | [] => []
  | [a] => [(a, g)]
  | a :: b :: r => (a, b) :: adj g (b :: r)
/-- a trip has a and b side by side -/
def usd (a b : Nat) (p : List Nat) : Prop := (a, b) ∈ adj 0 p ∨ (b, a) ∈ adj 0 p
/-- row t of the table is p -/
def RowOk (n t : Nat) (T : Nat → Nat) (p : List Nat) : Prop := p.length = n ∧ (∀ k : Nat, k < n → p[k]? = some (T (7 * t + k))) ∧ (∀ x, x ∈ p → x < n) ∧ T (7 * t) = 0 ∧ 7 * t + 7 ≤ 5040
def row (n t : Nat) : List Nat := (trs n).getD t []
def TB (n tr : Nat) (T : Nat → Nat) : Prop := tr = (trs n).length ∧ tr ≤ 720 ∧ ∀ t, t < tr → RowOk n t T (row n t)
abbrev nx (n i : Nat) : Nat := if i + 1 = n then 0 else i + 1
theorem row_drop {n t i : Nat} {T : Nat → Nat} {p : List Nat} (h : RowOk n t T p) (hi : i < n) : p.drop i = T (7 * t + i) :: p.drop (i + 1) := by
  have hl : i < p.length := by rw [h.1]; exact hi
  rw [List.drop_eq_getElem_cons hl]
  have := h.2.1 i hi
  rw [List.getElem?_eq_getElem hl] at this
  rw [Option.some.inj this]
theorem row_end {n t : Nat} {T : Nat → Nat} {p : List Nat} (h : RowOk n t T p) : p.drop n = [] := List.drop_eq_nil_of_le (by rw [h.1]; exact Nat.le_refl _)
theorem row_lt {n t i : Nat} {T : Nat → Nat} {p : List Nat} (h : RowOk n t T p) (hi : i < n) : T (7 * t + i) < n := h.2.2.1 _ (List.mem_of_getElem? (h.2.1 i hi))
theorem row_nx {n t i : Nat} {T : Nat → Nat} {p : List Nat} (h : RowOk n t T p) (hi : i < n) : T (7 * t + nx n i) < n := by
  unfold nx
  by_cases e : i + 1 = n
  · rw [if_pos e]; exact row_lt h (by omega)
  · rw [if_neg e]; exact row_lt h (by omega)
theorem tot_step {w : Nat → Nat → Nat} {n t i : Nat} {T : Nat → Nat} {p : List Nat} (h : RowOk n t T p) (hi : i < n) : tot w 0 (p.drop i) = w (T (7 * t + i)) (T (7 * t + nx n i)) + tot w 0 (p.drop (i + 1)) := by
  rw [row_drop h hi]
  unfold nx
  by_cases e : i + 1 = n
  · rw [if_pos e, e, row_end h, Nat.add_zero, h.2.2.2.1]
    rfl
  · rw [if_neg e, row_drop h (show i + 1 < n by omega)]
    rfl
theorem adj_step {n t i : Nat} {T : Nat → Nat} {p : List Nat} (h : RowOk n t T p) (hi : i < n) : adj 0 (p.drop i) = (T (7 * t + i), T (7 * t + nx n i)) :: adj 0 (p.drop (i + 1)) := by
  rw [row_drop h hi]
  unfold nx
  by_cases e : i + 1 = n
  · rw [if_pos e, e, row_end h, Nat.add_zero, h.2.2.2.1]
    rfl
  · rw [if_neg e, row_drop h (show i + 1 < n by omega)]
    rfl
theorem tot_row_le {n t : Nat} {L T : Nat → Nat} {p : List Nat} (hn : n ≤ 7) (hn0 : 0 < n) (hL : LOK n L) (h : RowOk n t T p) : tot (mx L) 0 p ≤ 420 := by
  have h1 := tot_le (w := mx L) (g := 0) (n := n) (B := 60) hn0 (fun x y _ _ => hL.1 _) p h.2.2.1
  rw [h.1] at h1
  omega
/-- the length of trip t -/
def vl (n : Nat) (L : Nat → Nat) (t : Nat) : Nat := tot (mx L) 0 (row n t)
theorem vl_le {n t tr : Nat} {L T : Nat → Nat} (hn : n ≤ 7) (hn0 : 0 < n) (hL : LOK n L) (h : TB n tr T) (ht : t < tr) : vl n L t ≤ 420 := tot_row_le hn hn0 hL (h.2.2 t ht)
/-- f is the first of the shortest trips -/
def FB (n tr : Nat) (L : Nat → Nat) (f : Nat) : Prop := f < tr ∧ (∀ j, j < tr → vl n L f ≤ vl n L j) ∧ ∀ j, j < f → vl n L f < vl n L j
def WM (h : Nat → Nat) (d : Nat → ClassId) (n tr : Nat) (L T : Nat → Nat) (w : va_W) : Prop := ∃ G pt : Nat → Nat, w = wM h d n tr L T G pt
/-- trip t counts for least(a, b, us) -/
def cnd (n a b us t : Nat) : Prop := (usd a b (row n t) ∧ us = 1) ∨ (¬ usd a b (row n t) ∧ us = 0)
theorem trs_pos {n : Nat} (hn3 : 3 ≤ n) (hn : n ≤ 7) : 0 < (trs n).length := by
  refine Nat.pos_of_ne_zero (fun q => ?_)
  have hc : ctn (fun x => ¬ x ∈ [0] ∧ ¬ x = 0) n = n - 1 := by
    have e1 : ctn (fun _ : Nat => True) n = n := ctn_full (fun _ _ => trivial)
    have e2 := ctn_del (P := fun _ : Nat => True) (show 0 < n by omega) trivial
    have e3 : ctn (fun x => ¬ x ∈ [0] ∧ ¬ x = 0) n = ctn (fun j => True ∧ ¬ j = 0) n := ctn_congr (fun x _ => by simp)
    omega
  exact cmp_ne _ _ hc (List.length_eq_zero_iff.mp q)
end
section
/-! TourSolverModel: its small methods (printed by a program, wip/D-64046w/src) -/
set_option maxRecDepth 100000
section
variable {l : Launch} {D : va_G} {h : Nat → Nat} {d : Nat → ClassId} {n tr : Nat} {L T G pt : Nat → Nat}
theorem m2_isTown (hn : n ≤ 7) (u : Int32) : MtI l yX2_isTown cX2_isTown 2 .boolean (rmr 0 0) D (tM d) [.ref (h 0), .int u] (wM h d n tr L T G pt) (fun r w1 => w1 = wM h d n tr L T G pt ∧ (r = nI 1 ∧ twn n u ∨ r = nI 0 ∧ ¬ twn n u)) := by
  refine MtI.of rfl (Nat.le_of_ble_eq_true rfl) ?_
  intro p e s m args below meth c Q A hF hret
  refine WW.cw (lv2 := [(0, .ref (h 0)), (1, .int u)]) rfl rfl rfl ?_
  refine x_iload_n hF 1 dX2_isTown_0 rfl rfl ?_
  refine x_if_ltR hF 16 dX2_isTown_1 (by decide) (fun c_1 => ?_) (fun c_1 => ?_)
  · refine x_iconst hF dX2_isTown_16 kc_i0 ?_
    exact hret _ _ _ _ ⟨rfl, Or.inr ⟨rfl, fun q => by have q2 := (twn_iff hn).mp q; first | exact q2.1 c_1 | exact q2.2 c_9⟩⟩ rfl dX2_isTown_17
  · refine x_iload_n hF 1 dX2_isTown_4 rfl rfl ?_
    refine x_aload_n hF 0 dX2_isTown_5 rfl rfl ?_
    refine x_get (ci := 1) (C := RX2) (T := TX2) (N := 6) (v := .int (nI n)) hF in_X2 0 rfl rfl 0 (by decide) q168 rfl rfl dX2_isTown_6 ?_
    refine x_icmp_geR hF 16 dX2_isTown_9 (by decide) (fun c_9 => ?_) (fun c_9 => ?_)
    · refine x_iconst hF dX2_isTown_16 kc_i0 ?_
      exact hret _ _ _ _ ⟨rfl, Or.inr ⟨rfl, fun q => by have q2 := (twn_iff hn).mp q; first | exact q2.1 c_1 | exact q2.2 c_9⟩⟩ rfl dX2_isTown_17
    · refine x_iconst hF dX2_isTown_12 kc_i1 ?_
      refine x_goto hF 17 dX2_isTown_13 (by decide) ?_
      exact hret _ _ _ _ ⟨rfl, Or.inl ⟨rfl, (twn_iff hn).mpr ⟨c_1, c_9⟩⟩⟩ rfl dX2_isTown_17
theorem m2_isCouple (hn : n ≤ 7) (u v : Int32) : MtI l yX2_isCouple cX2_isCouple 3 .boolean (rmr 1 21) D (tM d) [.ref (h 0), .int u, .int v] (wM h d n tr L T G pt) (fun r w1 => w1 = wM h d n tr L T G pt ∧ (r = nI 1 ∧ cpl n u v ∨ r = nI 0 ∧ ¬ cpl n u v)) := by
  refine MtI.of rfl (Nat.le_of_ble_eq_true rfl) ?_
  intro p e s m args below meth c Q A hF hret
  refine WW.cw (lv2 := [(0, .ref (h 0)), (1, .int u), (2, .int v)]) rfl rfl rfl ?_
  refine x_aload_n hF 0 dX2_isCouple_0 rfl rfl ?_
  refine x_iload_n hF 1 dX2_isCouple_1 rfl rfl ?_
  refine x_calli (C := RX2) (T := TX2) (N := 6) (ci := 1) (q0 := 0) (b := h 0) (As := [.int u]) (rest := []) hF (m2_isTown hn u) 1 (lw_V q195 q197 qs13 q23 q198) rfl rfl (by decide +kernel) ⟨by decide, by decide⟩ rfl rfl rfl rfl (Nat.le_of_ble_eq_true rfl) dX2_isCouple_2 ⟨Nat.zero_le _, Nat.zero_le _⟩ (fun r_2 w_2 hp_2 => ?_)
  obtain ⟨rfl, hp_2⟩ := hp_2
  rcases hp_2 with ⟨rfl, t_2⟩ | ⟨rfl, t_2⟩
  · refine x_if_eq hF 25 dX2_isCouple_5 (by decide) (by omega) (fun c_5 => ?_) (fun c_5 => ?_)
    · omega
    · refine x_aload_n hF 0 dX2_isCouple_8 rfl rfl ?_
      refine x_iload_n hF 2 dX2_isCouple_9 rfl rfl ?_
      refine x_calli (C := RX2) (T := TX2) (N := 6) (ci := 1) (q0 := 0) (b := h 0) (As := [.int v]) (rest := []) hF (m2_isTown hn v) 1 (lw_V q195 q197 qs13 q23 q198) rfl rfl (by decide +kernel) ⟨by decide, by decide⟩ rfl rfl rfl rfl (Nat.le_of_ble_eq_true rfl) dX2_isCouple_10 ⟨Nat.zero_le _, Nat.zero_le _⟩ (fun r_10 w_10 hp_10 => ?_)
      obtain ⟨rfl, hp_10⟩ := hp_10
      rcases hp_10 with ⟨rfl, t_10⟩ | ⟨rfl, t_10⟩
      · refine x_if_eq hF 25 dX2_isCouple_13 (by decide) (by omega) (fun c_13 => ?_) (fun c_13 => ?_)
        · omega
        · refine x_iload_n hF 1 dX2_isCouple_16 rfl rfl ?_
          refine x_iload_n hF 2 dX2_isCouple_17 rfl rfl ?_
          refine x_icmp_eqR hF 25 dX2_isCouple_18 (by decide) (fun c_18 => ?_) (fun c_18 => ?_)
          · refine x_iconst hF dX2_isCouple_25 kc_i0 ?_
            exact hret _ _ _ _ ⟨rfl, Or.inr ⟨rfl, fun q => by first | exact t_2 q.1 | exact t_10 q.2.1 | exact q.2.2 c_18⟩⟩ rfl dX2_isCouple_26
          · refine x_iconst hF dX2_isCouple_21 kc_i1 ?_
            refine x_goto hF 26 dX2_isCouple_22 (by decide) ?_
            exact hret _ _ _ _ ⟨rfl, Or.inl ⟨rfl, t_2, t_10, c_18⟩⟩ rfl dX2_isCouple_26
      · refine x_if_eq hF 25 dX2_isCouple_13 (by decide) (by omega) (fun c_13 => ?_) (fun c_13 => ?_)
        · refine x_iconst hF dX2_isCouple_25 kc_i0 ?_
          exact hret _ _ _ _ ⟨rfl, Or.inr ⟨rfl, fun q => by first | exact t_2 q.1 | exact t_10 q.2.1 | exact q.2.2 c_18⟩⟩ rfl dX2_isCouple_26
        · omega
  · refine x_if_eq hF 25 dX2_isCouple_5 (by decide) (by omega) (fun c_5 => ?_) (fun c_5 => ?_)
    · refine x_iconst hF dX2_isCouple_25 kc_i0 ?_
      exact hret _ _ _ _ ⟨rfl, Or.inr ⟨rfl, fun q => by first | exact t_2 q.1 | exact t_10 q.2.1 | exact q.2.2 c_18⟩⟩ rfl dX2_isCouple_26
    · omega
theorem m2_put {a b k : Nat} (ha : a < 7) (hb : b < 7) : MtV l yX2_put cX2_put 4 (rmr 0 0) D (tM d) [.ref (h 0), .int (nI a), .int (nI b), .int (nI k)] (wM h d n tr L T G pt) (fun w1 => w1 = wM h d n tr (up2 L a b k) T G pt) := by
  refine MtV.of rfl (Nat.le_of_ble_eq_true rfl) ?_
  intro p e s m args below meth c Q A hF hret
  refine WW.cw (lv2 := [(0, .ref (h 0)), (1, .int (nI a)), (2, .int (nI b)), (3, .int (nI k))]) rfl rfl rfl ?_
  refine x_aload_n hF 0 dX2_put_0 rfl rfl ?_
  refine x_get (ci := 1) (C := RX2) (T := TX2) (N := 6) (v := .ref (h 1)) hF in_X2 0 rfl rfl 1 (by decide) q169 rfl rfl dX2_put_1 ?_
  refine x_bipush hF dX2_put_4 kc_b7 ?_
  refine x_iload_n hF 1 dX2_put_6 rfl rfl ?_
  refine x_imul hF dX2_put_7 ?_
  refine x_iload_n hF 2 dX2_put_8 rfl rfl ?_
  refine x_iadd hF dX2_put_9 ?_
  refine x_iload_n hF 3 dX2_put_10 rfl rfl ?_
  refine x_iast (w' := wM h d n tr (va_up L ((7 * a) + b) k) T G pt) hF 1 0 rfl rfl (by decide) (by omega) rfl dX2_put_11 ?_
  refine x_aload_n hF 0 dX2_put_12 rfl rfl ?_
  refine x_get (ci := 1) (C := RX2) (T := TX2) (N := 6) (v := .ref (h 1)) hF in_X2 0 rfl rfl 1 (by decide) q169 rfl rfl dX2_put_13 ?_
  refine x_bipush hF dX2_put_16 kc_b7 ?_
  refine x_iload_n hF 2 dX2_put_18 rfl rfl ?_
  refine x_imul hF dX2_put_19 ?_
  refine x_iload_n hF 1 dX2_put_20 rfl rfl ?_
  refine x_iadd hF dX2_put_21 ?_
  refine x_iload_n hF 3 dX2_put_22 rfl rfl ?_
  refine x_iast (w' := wM h d n tr (va_up (va_up L ((7 * a) + b) k) ((7 * b) + a) k) T G pt) hF 1 0 rfl rfl (by decide) (by omega) rfl dX2_put_23 ?_
  exact hret _ _ _ rfl dX2_put_24
theorem m2_road (hn : n ≤ 7) (u v x : Int32) : MtI l yX2_road cX2_road 4 .boolean (rmr 2 43) D (tM d) [.ref (h 0), .int u, .int v, .int x] (wM h d n tr L T G pt) (fun r w1 => (r = nI 0 ∧ ¬ (cpl n u v ∧ ¬ x < 0 ∧ x ≤ nI 60) ∧ w1 = wM h d n tr L T G pt) ∨ (∃ a b k : Nat, a < n ∧ b < n ∧ ¬ a = b ∧ k ≤ 60 ∧ u = nI a ∧ v = nI b ∧ x = nI k ∧ r = nI 1 ∧ w1 = wM h d n tr (up2 L a b k) T G pt)) := by
  refine MtI.of rfl (Nat.le_of_ble_eq_true rfl) ?_
  intro p e s m args below meth c Q A hF hret
  refine WW.cw (lv2 := [(0, .ref (h 0)), (1, .int u), (2, .int v), (3, .int x)]) rfl rfl rfl ?_
  refine x_aload_n hF 0 dX2_road_0 rfl rfl ?_
  refine x_iload_n hF 1 dX2_road_1 rfl rfl ?_
  refine x_iload_n hF 2 dX2_road_2 rfl rfl ?_
  refine x_calli (C := RX2) (T := TX2) (N := 6) (ci := 1) (q0 := 0) (b := h 0) (As := [.int u, .int v]) (rest := []) hF (m2_isCouple hn u v) 2 (lw_V q191 q193 qs12 q23 q194) rfl rfl (by decide +kernel) ⟨by decide, by decide⟩ rfl rfl rfl rfl (Nat.le_of_ble_eq_true rfl) dX2_road_3 ⟨Nat.zero_le _, Nat.zero_le _⟩ (fun r_3 w_3 hp_3 => ?_)
  obtain ⟨rfl, hp_3⟩ := hp_3
  rcases hp_3 with ⟨rfl, t_3⟩ | ⟨rfl, t_3⟩
  · refine x_if_eq hF 19 dX2_road_6 (by decide) (by omega) (fun c_6 => ?_) (fun c_6 => ?_)
    · omega
    · refine x_iload_n hF 3 dX2_road_9 rfl rfl ?_
      refine x_if_ltR hF 19 dX2_road_10 (by decide) (fun c_10 => ?_) (fun c_10 => ?_)
      · refine x_iconst hF dX2_road_19 kc_i0 ?_
        exact hret _ _ _ _ (Or.inl ⟨rfl, fun q => by first | exact t_3 q.1 | exact q.2.1 c_10 | exact c_16 q.2.2, rfl⟩) rfl dX2_road_20
      · refine x_iload_n hF 3 dX2_road_13 rfl rfl ?_
        refine x_bipush hF dX2_road_14 kc_b60 ?_
        refine x_icmp_leR hF 21 dX2_road_16 (by decide) (fun c_16 => ?_) (fun c_16 => ?_)
        · obtain ⟨⟨a_, ha_, rfl⟩, ⟨b_, hb_, rfl⟩, hab⟩ := t_3
          have hab_ : ¬ a_ = b_ := fun q => hab (by rw [q])
          obtain ⟨k_, hk0_, rfl⟩ := nI_of c_10
          have hk_ : k_ ≤ 60 := (nI_leI hk0_ (by decide)).mp c_16
          refine x_aload_n hF 0 dX2_road_21 rfl rfl ?_
          refine x_iload_n hF 1 dX2_road_22 rfl rfl ?_
          refine x_iload_n hF 2 dX2_road_23 rfl rfl ?_
          refine x_iload_n hF 3 dX2_road_24 rfl rfl ?_
          refine x_callv (C := RX2) (T := TX2) (N := 6) (ci := 1) (q0 := 0) (b := h 0) (As := [.int (nI a_), .int (nI b_), .int (nI k_)]) (rest := []) hF (m2_put (a := a_) (b := b_) (k := k_) (by omega) (by omega)) 3 (lw_V q199 q201 qs14 q23 q202) rfl rfl (by decide +kernel) ⟨by decide, by decide⟩ rfl rfl rfl rfl (Nat.le_of_ble_eq_true rfl) dX2_road_25 ⟨Nat.zero_le _, Nat.zero_le _⟩ (fun w_25 hp_25 => ?_)
          obtain rfl := hp_25
          refine x_iconst hF dX2_road_28 kc_i1 ?_
          exact hret _ _ _ _ (Or.inr ⟨a_, b_, k_, ha_, hb_, hab_, hk_, rfl, rfl, rfl, rfl, rfl⟩) rfl dX2_road_29
        · refine x_iconst hF dX2_road_19 kc_i0 ?_
          exact hret _ _ _ _ (Or.inl ⟨rfl, fun q => by first | exact t_3 q.1 | exact q.2.1 c_10 | exact c_16 q.2.2, rfl⟩) rfl dX2_road_20
  · refine x_if_eq hF 19 dX2_road_6 (by decide) (by omega) (fun c_6 => ?_) (fun c_6 => ?_)
    · refine x_iconst hF dX2_road_19 kc_i0 ?_
      exact hret _ _ _ _ (Or.inl ⟨rfl, fun q => by first | exact t_3 q.1 | exact q.2.1 c_10 | exact c_16 q.2.2, rfl⟩) rfl dX2_road_20
    · omega
theorem m2_placeOf {t k : Nat} (hn : n ≤ 7) (hn0 : 0 < n) (ht : 7 * t + 7 ≤ 5040) (hk : k ≤ n) : MtI l yX2_placeOf cX2_placeOf 3 .int (rmr 0 0) D (tM d) [.ref (h 0), .int (nI t), .int (nI k)] (wM h d n tr L T G pt) (fun r w1 => r = nI (T (7 * t + (if k = n then 0 else k))) ∧ w1 = wM h d n tr L T G pt) := by
  refine MtI.of rfl (Nat.le_of_ble_eq_true rfl) ?_
  intro p e s m args below meth c Q A hF hret
  refine WW.cw (lv2 := [(0, .ref (h 0)), (1, .int (nI t)), (2, .int (nI k))]) rfl rfl rfl ?_
  refine x_aload_n hF 0 dX2_placeOf_0 rfl rfl ?_
  refine x_get (ci := 1) (C := RX2) (T := TX2) (N := 6) (v := .ref (h 2)) hF in_X2 0 rfl rfl 3 (by decide) q171 rfl rfl dX2_placeOf_1 ?_
  refine x_bipush hF dX2_placeOf_4 kc_b7 ?_
  refine x_iload_n hF 1 dX2_placeOf_6 rfl rfl ?_
  refine x_imul hF dX2_placeOf_7 ?_
  refine x_iload_n hF 2 dX2_placeOf_8 rfl rfl ?_
  refine x_aload_n hF 0 dX2_placeOf_9 rfl rfl ?_
  refine x_get (ci := 1) (C := RX2) (T := TX2) (N := 6) (v := .int (nI n)) hF in_X2 0 rfl rfl 0 (by decide) q168 rfl rfl dX2_placeOf_10 ?_
  refine x_icmp_ne hF 20 dX2_placeOf_13 (by decide) (by omega) (by omega) (fun c_13 => ?_) (fun c_13 => ?_)
  · refine x_iload_n hF 2 dX2_placeOf_20 rfl rfl ?_
    refine x_iadd hF dX2_placeOf_21 ?_
    refine x_iald hF 2 1 rfl rfl (by decide) (by omega) dX2_placeOf_22 ?_
    exact hret _ _ _ _ ⟨by rw [if_neg c_13], rfl⟩ rfl dX2_placeOf_23
  · refine x_iconst hF dX2_placeOf_16 kc_i0 ?_
    refine x_goto hF 21 dX2_placeOf_17 (by decide) ?_
    refine x_iadd hF dX2_placeOf_21 ?_
    refine x_iald hF 2 1 rfl rfl (by decide) (by omega) dX2_placeOf_22 ?_
    exact hret _ _ _ _ ⟨by rw [if_pos c_13], rfl⟩ rfl dX2_placeOf_23
theorem m2_sum {t : Nat} {p0 : List Nat} (hn : n ≤ 7) (hn0 : 0 < n) (hL : LOK n L) (hr : RowOk n t T p0) : MtI l yX2_sum cX2_sum 6 .int (rmr 1 22) D (tM d) [.ref (h 0), .int (nI t)] (wM h d n tr L T G pt) (fun r w1 => r = nI (tot (mx L) 0 p0) ∧ w1 = wM h d n tr L T G pt) := by
  refine MtI.of rfl (Nat.le_of_ble_eq_true rfl) ?_
  intro p e s m args below meth c Q A hF hret
  refine WW.cw (lv2 := [(0, .ref (h 0)), (1, .int (nI t))]) rfl rfl rfl ?_
  have loop : ∀ (f i s0 : Nat), i ≤ n → n + 1 ≤ i + f → s0 + tot (mx L) 0 (p0.drop i) = tot (mx L) 0 p0 → WW p l e (rmr 1 22) s m args below meth c Q D A 6 0 0 (wM h d n tr L T G pt) 4 [(0, .ref (h 0)), (1, .int (nI t)), (2, .int (nI s0)), (3, .int (nI i))] [] := by
    intro f
    induction f with
    | zero =>
      intro i s0 hi hf hs
      exact absurd (show False by omega) id
    | succ f ih =>
      intro i s0 hi hf hs
      refine x_iload_n hF 3 dX2_sum_4 rfl rfl ?_
      refine x_aload_n hF 0 dX2_sum_5 rfl rfl ?_
      refine x_get (ci := 1) (C := RX2) (T := TX2) (N := 6) (v := .int (nI n)) hF in_X2 0 rfl rfl 0 (by decide) q168 rfl rfl dX2_sum_6 ?_
      refine x_icmp_ge hF 52 dX2_sum_9 (by decide) (by omega) (by omega) (fun c_9 => ?_) (fun c_9 => ?_)
      · refine x_iload_n hF 2 dX2_sum_52 rfl rfl ?_
        have ei : i = n := by omega
        rw [ei, row_end hr] at hs
        exact hret _ _ _ _ ⟨by rw [← hs]; rfl, rfl⟩ rfl dX2_sum_53
      · refine x_aload_n hF 0 dX2_sum_12 rfl rfl ?_
        refine x_iload_n hF 1 dX2_sum_13 rfl rfl ?_
        refine x_iload_n hF 3 dX2_sum_14 rfl rfl ?_
        refine x_calli (C := RX2) (T := TX2) (N := 6) (ci := 1) (q0 := 0) (b := h 0) (As := [.int (nI t), .int (nI i)]) (rest := []) hF (m2_placeOf (t := t) (k := i) hn hn0 hr.2.2.2.2 (by omega)) 2 (lw_V q215 q217 qs17 q23 q218) rfl rfl (by decide +kernel) ⟨by decide, by decide⟩ rfl rfl rfl rfl (Nat.le_of_ble_eq_true rfl) dX2_sum_15 ⟨Nat.zero_le _, Nat.zero_le _⟩ (fun r_15 w_15 hp_15 => ?_)
        obtain ⟨rfl, rfl⟩ := hp_15
        rw [if_neg (show ¬ i = n by omega)]
        have hu_ := row_lt hr (show i < n by omega)
        refine x_istore (lv' := [(0, .ref (h 0)), (1, .int (nI t)), (2, .int (nI s0)), (3, .int (nI i)), (4, .int (nI (T (7 * t + i))))]) hF dX2_sum_18 (by decide) rfl ?_
        refine x_aload_n hF 0 dX2_sum_20 rfl rfl ?_
        refine x_iload_n hF 1 dX2_sum_21 rfl rfl ?_
        refine x_iload_n hF 3 dX2_sum_22 rfl rfl ?_
        refine x_iconst hF dX2_sum_23 kc_i1 ?_
        refine x_iadd hF dX2_sum_24 ?_
        refine x_calli (C := RX2) (T := TX2) (N := 6) (ci := 1) (q0 := 0) (b := h 0) (As := [.int (nI t), .int (nI (i + 1))]) (rest := []) hF (m2_placeOf (t := t) (k := i + 1) hn hn0 hr.2.2.2.2 (by omega)) 2 (lw_V q215 q217 qs17 q23 q218) rfl rfl (by decide +kernel) ⟨by decide, by decide⟩ rfl rfl rfl rfl (Nat.le_of_ble_eq_true rfl) dX2_sum_25 ⟨Nat.zero_le _, Nat.zero_le _⟩ (fun r_25 w_25 hp_25 => ?_)
        obtain ⟨rfl, rfl⟩ := hp_25
        have hv_ := row_nx hr (show i < n by omega)
        refine x_istore (lv' := [(0, .ref (h 0)), (1, .int (nI t)), (2, .int (nI s0)), (3, .int (nI i)), (4, .int (nI (T (7 * t + i)))), (5, .int (nI (T (7 * t + nx n i))))]) hF dX2_sum_28 (by decide) rfl ?_
        refine x_iload_n hF 2 dX2_sum_30 rfl rfl ?_
        refine x_aload_n hF 0 dX2_sum_31 rfl rfl ?_
        refine x_get (ci := 1) (C := RX2) (T := TX2) (N := 6) (v := .ref (h 1)) hF in_X2 0 rfl rfl 1 (by decide) q169 rfl rfl dX2_sum_32 ?_
        refine x_bipush hF dX2_sum_35 kc_b7 ?_
        refine x_iload hF 4 dX2_sum_37 rfl ?_
        refine x_imul hF dX2_sum_39 ?_
        refine x_iload hF 5 dX2_sum_40 rfl ?_
        refine x_iadd hF dX2_sum_42 ?_
        refine x_iald hF 1 0 rfl rfl (by decide) (by omega) dX2_sum_43 ?_
        refine x_iadd hF dX2_sum_44 ?_
        refine x_istore_n (lv' := [(0, .ref (h 0)), (1, .int (nI t)), (2, .int (nI (s0 + (L ((7 * (T (7 * t + i))) + (T (7 * t + nx n i))))))), (3, .int (nI i)), (4, .int (nI (T (7 * t + i)))), (5, .int (nI (T (7 * t + nx n i))))]) hF dX2_sum_45 rfl (by decide) rfl ?_
        refine x_iinc (v := (nI (i + 1))) (lv' := [(0, .ref (h 0)), (1, .int (nI t)), (2, .int (nI (s0 + (L ((7 * (T (7 * t + i))) + (T (7 * t + nx n i))))))), (3, .int (nI (i + 1))), (4, .int (nI (T (7 * t + i)))), (5, .int (nI (T (7 * t + nx n i))))]) hF 3 dX2_sum_46 rfl (ii_1 _) (by decide) rfl ?_
        refine x_goto hF 4 dX2_sum_49 (by decide) ?_
        refine WW.lvs [0, 1, 2, 3] rfl ?_
        exact ih (i + 1) _ (by omega) (by omega) (by rw [← hs, tot_step hr (show i < n by omega), ← Nat.add_assoc]; rfl)
  refine x_iconst hF dX2_sum_0 kc_i0 ?_
  refine x_istore_n (lv' := [(0, .ref (h 0)), (1, .int (nI t)), (2, .int (nI 0))]) hF dX2_sum_1 rfl (by decide) rfl ?_
  refine x_iconst hF dX2_sum_2 kc_i0 ?_
  refine x_istore_n (lv' := [(0, .ref (h 0)), (1, .int (nI t)), (2, .int (nI 0)), (3, .int (nI 0))]) hF dX2_sum_3 rfl (by decide) rfl ?_
  exact loop (n + 1) 0 0 (by omega) (by omega) (by rw [List.drop_zero, Nat.zero_add])
theorem m2_uses {t a b : Nat} {p0 : List Nat} (hn : n ≤ 7) (hn0 : 0 < n) (ha : a < n) (hb : b < n) (hr : RowOk n t T p0) : MtI l yX2_uses cX2_uses 7 .boolean (rmr 1 22) D (tM d) [.ref (h 0), .int (nI t), .int (nI a), .int (nI b)] (wM h d n tr L T G pt) (fun r w1 => w1 = wM h d n tr L T G pt ∧ (r = nI 1 ∧ usd a b p0 ∨ r = nI 0 ∧ ¬ usd a b p0)) := by
  refine MtI.of rfl (Nat.le_of_ble_eq_true rfl) ?_
  intro p e s m args below meth c Q A hF hret
  refine WW.cw (lv2 := [(0, .ref (h 0)), (1, .int (nI t)), (2, .int (nI a)), (3, .int (nI b))]) rfl rfl rfl ?_
  have loop : ∀ (f i : Nat), i ≤ n → n + 1 ≤ i + f → (usd a b p0 ↔ (a, b) ∈ adj 0 (p0.drop i) ∨ (b, a) ∈ adj 0 (p0.drop i)) → WW p l e (rmr 1 22) s m args below meth c Q D A 7 0 0 (wM h d n tr L T G pt) 3 [(0, .ref (h 0)), (1, .int (nI t)), (2, .int (nI a)), (3, .int (nI b)), (4, .int (nI i))] [] := by
    intro f
    induction f with
    | zero =>
      intro i hi hf hs
      exact absurd (show False by omega) id
    | succ f ih =>
      intro i hi hf hs
      refine x_iload hF 4 dX2_uses_3 rfl ?_
      refine x_aload_n hF 0 dX2_uses_5 rfl rfl ?_
      refine x_get (ci := 1) (C := RX2) (T := TX2) (N := 6) (v := .int (nI n)) hF in_X2 0 rfl rfl 0 (by decide) q168 rfl rfl dX2_uses_6 ?_
      refine x_icmp_ge hF 64 dX2_uses_9 (by decide) (by omega) (by omega) (fun c_9 => ?_) (fun c_9 => ?_)
      · refine x_iconst hF dX2_uses_64 kc_i0 ?_
        have ei : i = n := by omega
        rw [ei, row_end hr] at hs
        exact hret _ _ _ _ ⟨rfl, Or.inr ⟨rfl, fun q => by rcases hs.mp q with q | q <;> cases q⟩⟩ rfl dX2_uses_65
      · refine x_aload_n hF 0 dX2_uses_12 rfl rfl ?_
        refine x_iload_n hF 1 dX2_uses_13 rfl rfl ?_
        refine x_iload hF 4 dX2_uses_14 rfl ?_
        refine x_calli (C := RX2) (T := TX2) (N := 6) (ci := 1) (q0 := 0) (b := h 0) (As := [.int (nI t), .int (nI i)]) (rest := []) hF (m2_placeOf (t := t) (k := i) hn hn0 hr.2.2.2.2 (by omega)) 2 (lw_V q215 q217 qs17 q23 q218) rfl rfl (by decide +kernel) ⟨by decide, by decide⟩ rfl rfl rfl rfl (Nat.le_of_ble_eq_true rfl) dX2_uses_16 ⟨Nat.zero_le _, Nat.zero_le _⟩ (fun r_16 w_16 hp_16 => ?_)
        obtain ⟨rfl, rfl⟩ := hp_16
        rw [if_neg (show ¬ i = n by omega)]
        have hu_ := row_lt hr (show i < n by omega)
        refine x_istore (lv' := [(0, .ref (h 0)), (1, .int (nI t)), (2, .int (nI a)), (3, .int (nI b)), (4, .int (nI i)), (5, .int (nI (T (7 * t + i))))]) hF dX2_uses_19 (by decide) rfl ?_
        refine x_aload_n hF 0 dX2_uses_21 rfl rfl ?_
        refine x_iload_n hF 1 dX2_uses_22 rfl rfl ?_
        refine x_iload hF 4 dX2_uses_23 rfl ?_
        refine x_iconst hF dX2_uses_25 kc_i1 ?_
        refine x_iadd hF dX2_uses_26 ?_
        refine x_calli (C := RX2) (T := TX2) (N := 6) (ci := 1) (q0 := 0) (b := h 0) (As := [.int (nI t), .int (nI (i + 1))]) (rest := []) hF (m2_placeOf (t := t) (k := i + 1) hn hn0 hr.2.2.2.2 (by omega)) 2 (lw_V q215 q217 qs17 q23 q218) rfl rfl (by decide +kernel) ⟨by decide, by decide⟩ rfl rfl rfl rfl (Nat.le_of_ble_eq_true rfl) dX2_uses_27 ⟨Nat.zero_le _, Nat.zero_le _⟩ (fun r_27 w_27 hp_27 => ?_)
        obtain ⟨rfl, rfl⟩ := hp_27
        have hv_ := row_nx hr (show i < n by omega)
        refine x_istore (lv' := [(0, .ref (h 0)), (1, .int (nI t)), (2, .int (nI a)), (3, .int (nI b)), (4, .int (nI i)), (5, .int (nI (T (7 * t + i)))), (6, .int (nI (T (7 * t + nx n i))))]) hF dX2_uses_30 (by decide) rfl ?_
        refine x_iload hF 5 dX2_uses_32 rfl ?_
        refine x_iload_n hF 2 dX2_uses_34 rfl rfl ?_
        refine x_icmp_ne hF 44 dX2_uses_35 (by decide) (by omega) (by omega) (fun c_35 => ?_) (fun c_35 => ?_)
        · refine x_iload hF 5 dX2_uses_44 rfl ?_
          refine x_iload_n hF 3 dX2_uses_46 rfl rfl ?_
          refine x_icmp_ne hF 58 dX2_uses_47 (by decide) (by omega) (by omega) (fun c_47 => ?_) (fun c_47 => ?_)
          · refine x_iinc (v := (nI (i + 1))) (lv' := [(0, .ref (h 0)), (1, .int (nI t)), (2, .int (nI a)), (3, .int (nI b)), (4, .int (nI (i + 1))), (5, .int (nI (T (7 * t + i)))), (6, .int (nI (T (7 * t + nx n i))))]) hF 4 dX2_uses_58 rfl (ii_1 _) (by decide) rfl ?_
            refine x_goto hF 3 dX2_uses_61 (by decide) ?_
            refine WW.lvs [0, 1, 2, 3, 4] rfl ?_
            refine ih (i + 1) (by omega) (by omega) ?_
            rw [hs, adj_step hr (show i < n by omega)]
            have n1 : ¬ (a, b) = (T (7 * t + i), T (7 * t + nx n i)) := fun q => by have q1 := congrArg Prod.fst q; have q2 := congrArg Prod.snd q; dsimp only at q1 q2; omega
            have n2 : ¬ (b, a) = (T (7 * t + i), T (7 * t + nx n i)) := fun q => by have q1 := congrArg Prod.fst q; have q2 := congrArg Prod.snd q; dsimp only at q1 q2; omega
            rw [List.mem_cons, List.mem_cons]
            exact ⟨fun q => q.imp (fun q => q.resolve_left n1) (fun q => q.resolve_left n2), fun q => q.imp Or.inr Or.inr⟩
          · refine x_iload hF 6 dX2_uses_50 rfl ?_
            refine x_iload_n hF 2 dX2_uses_52 rfl rfl ?_
            refine x_icmp_ne hF 58 dX2_uses_53 (by decide) (by omega) (by omega) (fun c_53 => ?_) (fun c_53 => ?_)
            · refine x_iinc (v := (nI (i + 1))) (lv' := [(0, .ref (h 0)), (1, .int (nI t)), (2, .int (nI a)), (3, .int (nI b)), (4, .int (nI (i + 1))), (5, .int (nI (T (7 * t + i)))), (6, .int (nI (T (7 * t + nx n i))))]) hF 4 dX2_uses_58 rfl (ii_1 _) (by decide) rfl ?_
              refine x_goto hF 3 dX2_uses_61 (by decide) ?_
              refine WW.lvs [0, 1, 2, 3, 4] rfl ?_
              refine ih (i + 1) (by omega) (by omega) ?_
              rw [hs, adj_step hr (show i < n by omega)]
              have n1 : ¬ (a, b) = (T (7 * t + i), T (7 * t + nx n i)) := fun q => by have q1 := congrArg Prod.fst q; have q2 := congrArg Prod.snd q; dsimp only at q1 q2; omega
              have n2 : ¬ (b, a) = (T (7 * t + i), T (7 * t + nx n i)) := fun q => by have q1 := congrArg Prod.fst q; have q2 := congrArg Prod.snd q; dsimp only at q1 q2; omega
              rw [List.mem_cons, List.mem_cons]
              exact ⟨fun q => q.imp (fun q => q.resolve_left n1) (fun q => q.resolve_left n2), fun q => q.imp Or.inr Or.inr⟩
            · refine x_iconst hF dX2_uses_56 kc_i1 ?_
              exact hret _ _ _ _ ⟨rfl, Or.inl ⟨rfl, hs.mpr (by rw [adj_step hr (show i < n by omega)]; first | (left; rw [c_35, c_41]; exact List.mem_cons_self) | (right; rw [c_47, c_53]; exact List.mem_cons_self))⟩⟩ rfl dX2_uses_57
        · refine x_iload hF 6 dX2_uses_38 rfl ?_
          refine x_iload_n hF 3 dX2_uses_40 rfl rfl ?_
          refine x_icmp_eq hF 56 dX2_uses_41 (by decide) (by omega) (by omega) (fun c_41 => ?_) (fun c_41 => ?_)
          · refine x_iconst hF dX2_uses_56 kc_i1 ?_
            exact hret _ _ _ _ ⟨rfl, Or.inl ⟨rfl, hs.mpr (by rw [adj_step hr (show i < n by omega)]; first | (left; rw [c_35, c_41]; exact List.mem_cons_self) | (right; rw [c_47, c_53]; exact List.mem_cons_self))⟩⟩ rfl dX2_uses_57
          · refine x_iload hF 5 dX2_uses_44 rfl ?_
            refine x_iload_n hF 3 dX2_uses_46 rfl rfl ?_
            refine x_icmp_ne hF 58 dX2_uses_47 (by decide) (by omega) (by omega) (fun c_47 => ?_) (fun c_47 => ?_)
            · refine x_iinc (v := (nI (i + 1))) (lv' := [(0, .ref (h 0)), (1, .int (nI t)), (2, .int (nI a)), (3, .int (nI b)), (4, .int (nI (i + 1))), (5, .int (nI (T (7 * t + i)))), (6, .int (nI (T (7 * t + nx n i))))]) hF 4 dX2_uses_58 rfl (ii_1 _) (by decide) rfl ?_
              refine x_goto hF 3 dX2_uses_61 (by decide) ?_
              refine WW.lvs [0, 1, 2, 3, 4] rfl ?_
              refine ih (i + 1) (by omega) (by omega) ?_
              rw [hs, adj_step hr (show i < n by omega)]
              have n1 : ¬ (a, b) = (T (7 * t + i), T (7 * t + nx n i)) := fun q => by have q1 := congrArg Prod.fst q; have q2 := congrArg Prod.snd q; dsimp only at q1 q2; omega
              have n2 : ¬ (b, a) = (T (7 * t + i), T (7 * t + nx n i)) := fun q => by have q1 := congrArg Prod.fst q; have q2 := congrArg Prod.snd q; dsimp only at q1 q2; omega
              rw [List.mem_cons, List.mem_cons]
              exact ⟨fun q => q.imp (fun q => q.resolve_left n1) (fun q => q.resolve_left n2), fun q => q.imp Or.inr Or.inr⟩
            · refine x_iload hF 6 dX2_uses_50 rfl ?_
              refine x_iload_n hF 2 dX2_uses_52 rfl rfl ?_
              refine x_icmp_ne hF 58 dX2_uses_53 (by decide) (by omega) (by omega) (fun c_53 => ?_) (fun c_53 => ?_)
              · refine x_iinc (v := (nI (i + 1))) (lv' := [(0, .ref (h 0)), (1, .int (nI t)), (2, .int (nI a)), (3, .int (nI b)), (4, .int (nI (i + 1))), (5, .int (nI (T (7 * t + i)))), (6, .int (nI (T (7 * t + nx n i))))]) hF 4 dX2_uses_58 rfl (ii_1 _) (by decide) rfl ?_
                refine x_goto hF 3 dX2_uses_61 (by decide) ?_
                refine WW.lvs [0, 1, 2, 3, 4] rfl ?_
                refine ih (i + 1) (by omega) (by omega) ?_
                rw [hs, adj_step hr (show i < n by omega)]
                have n1 : ¬ (a, b) = (T (7 * t + i), T (7 * t + nx n i)) := fun q => by have q1 := congrArg Prod.fst q; have q2 := congrArg Prod.snd q; dsimp only at q1 q2; omega
                have n2 : ¬ (b, a) = (T (7 * t + i), T (7 * t + nx n i)) := fun q => by have q1 := congrArg Prod.fst q; have q2 := congrArg Prod.snd q; dsimp only at q1 q2; omega
                rw [List.mem_cons, List.mem_cons]
                exact ⟨fun q => q.imp (fun q => q.resolve_left n1) (fun q => q.resolve_left n2), fun q => q.imp Or.inr Or.inr⟩
              · refine x_iconst hF dX2_uses_56 kc_i1 ?_
                exact hret _ _ _ _ ⟨rfl, Or.inl ⟨rfl, hs.mpr (by rw [adj_step hr (show i < n by omega)]; first | (left; rw [c_35, c_41]; exact List.mem_cons_self) | (right; rw [c_47, c_53]; exact List.mem_cons_self))⟩⟩ rfl dX2_uses_57
  refine x_iconst hF dX2_uses_0 kc_i0 ?_
  refine x_istore (lv' := [(0, .ref (h 0)), (1, .int (nI t)), (2, .int (nI a)), (3, .int (nI b)), (4, .int (nI 0))]) hF dX2_uses_1 (by decide) rfl ?_
  exact loop (n + 1) 0 (by omega) (by omega) (by rw [List.drop_zero]; exact Iff.rfl)
end
end
section
/-! TourSolverModel: answers over the trips (printed by a program, wip/D-64046w/src) -/
set_option maxRecDepth 100000
section
variable {l : Launch} {D : va_G} {h : Nat → Nat} {d : Nat → ClassId} {n tr : Nat} {L T G pt : Nat → Nat}
theorem m2_best (hn3 : 3 ≤ n) (hn : n ≤ 7) (hL : LOK n L) (hT : TB n tr T) : MtI l yX2_best cX2_best 3 .int (rmr 2 47) D (tM d) [.ref (h 0)] (wM h d n tr L T G pt) (fun r w1 => (∃ f, FB n tr L f ∧ r = nI f) ∧ w1 = wM h d n tr L T G pt) := by
  refine MtI.of rfl (Nat.le_of_ble_eq_true rfl) ?_
  intro p e s m args below meth c Q A hF hret
  refine WW.cw (lv2 := [(0, .ref (h 0))]) rfl rfl rfl ?_
  have loop : ∀ (f i f0 : Nat), i ≤ tr → tr + 1 ≤ i + f → f0 < i → (∀ j, j < i → vl n L f0 ≤ vl n L j) → (∀ j, j < f0 → vl n L f0 < vl n L j) → WW p l e (rmr 2 47) s m args below meth c Q D A 3 0 0 (wM h d n tr L T G pt) 4 [(0, .ref (h 0)), (1, .int (nI f0)), (2, .int (nI i))] [] := by
    intro f
    induction f with
    | zero =>
      intro i f0 hi hf h1 h2 h3
      exact absurd (show False by omega) id
    | succ f ih =>
      intro i f0 hi hf h1 h2 h3
      have htr := hT.2.1
      refine x_iload_n hF 2 dX2_best_4 rfl rfl ?_
      refine x_aload_n hF 0 dX2_best_5 rfl rfl ?_
      refine x_get (ci := 1) (C := RX2) (T := TX2) (N := 6) (v := .int (nI tr)) hF in_X2 0 rfl rfl 2 (by decide) q170 rfl rfl dX2_best_6 ?_
      refine x_icmp_ge hF 33 dX2_best_9 (by decide) (by omega) (by omega) (fun c_9 => ?_) (fun c_9 => ?_)
      · refine x_iload_n hF 1 dX2_best_33 rfl rfl ?_
        exact hret _ _ _ _ ⟨⟨f0, ⟨by omega, fun j hj => h2 j (by omega), h3⟩, rfl⟩, rfl⟩ rfl dX2_best_34
      · refine x_aload_n hF 0 dX2_best_12 rfl rfl ?_
        refine x_iload_n hF 2 dX2_best_13 rfl rfl ?_
        refine x_calli (C := RX2) (T := TX2) (N := 6) (ci := 1) (q0 := 0) (b := h 0) (As := [.int (nI i)]) (rest := []) hF (m2_sum (t := i) (p0 := row n i) hn (show 0 < n by omega) hL (hT.2.2 i (by omega))) 1 (lw_V q211 q213 qs16 q23 q214) rfl rfl (by decide +kernel) ⟨by decide, by decide⟩ rfl rfl rfl rfl (Nat.le_of_ble_eq_true rfl) dX2_best_14 ⟨Nat.zero_le _, Nat.zero_le _⟩ (fun r_14 w_14 hp_14 => ?_)
        obtain ⟨rfl, rfl⟩ := hp_14
        have hs_14 := vl_le hn (show 0 < n by omega) hL hT (show i < tr by omega)
        refine WW.cw (st2 := [.int (nI (vl n L i))]) rfl rfl rfl ?_
        refine x_aload_n hF 0 dX2_best_17 rfl rfl ?_
        refine x_iload_n hF 1 dX2_best_18 rfl rfl ?_
        refine x_calli (C := RX2) (T := TX2) (N := 6) (ci := 1) (q0 := 0) (b := h 0) (As := [.int (nI f0)]) (rest := [.int (nI (vl n L i))]) hF (m2_sum (t := f0) (p0 := row n f0) hn (show 0 < n by omega) hL (hT.2.2 f0 (by omega))) 1 (lw_V q211 q213 qs16 q23 q214) rfl rfl (by decide +kernel) ⟨by decide, by decide⟩ rfl rfl rfl rfl (Nat.le_of_ble_eq_true rfl) dX2_best_19 ⟨Nat.zero_le _, Nat.zero_le _⟩ (fun r_19 w_19 hp_19 => ?_)
        obtain ⟨rfl, rfl⟩ := hp_19
        have hs_19 := vl_le hn (show 0 < n by omega) hL hT (show f0 < tr by omega)
        refine WW.cw (st2 := [.int (nI (vl n L f0)), .int (nI (vl n L i))]) rfl rfl rfl ?_
        refine x_icmp_ge hF 27 dX2_best_22 (by decide) (by omega) (by omega) (fun c_22 => ?_) (fun c_22 => ?_)
        · refine x_iinc (v := (nI (i + 1))) (lv' := [(0, .ref (h 0)), (1, .int (nI f0)), (2, .int (nI (i + 1)))]) hF 2 dX2_best_27 rfl (ii_1 _) (by decide) rfl ?_
          refine x_goto hF 4 dX2_best_30 (by decide) ?_
          exact ih (i + 1) f0 (by omega) (by omega) (by omega) (lt_s h2 (by omega)) h3
        · refine x_iload_n hF 2 dX2_best_25 rfl rfl ?_
          refine x_istore_n (lv' := [(0, .ref (h 0)), (1, .int (nI i)), (2, .int (nI i))]) hF dX2_best_26 rfl (by decide) rfl ?_
          refine x_iinc (v := (nI (i + 1))) (lv' := [(0, .ref (h 0)), (1, .int (nI i)), (2, .int (nI (i + 1)))]) hF 2 dX2_best_27 rfl (ii_1 _) (by decide) rfl ?_
          refine x_goto hF 4 dX2_best_30 (by decide) ?_
          exact ih (i + 1) i (by omega) (by omega) (by omega) (lt_s (fun j hj => by have := h2 j hj; omega) (Nat.le_refl _)) (fun j hj => by have := h2 j hj; omega)
  refine x_iconst hF dX2_best_0 kc_i0 ?_
  refine x_istore_n (lv' := [(0, .ref (h 0)), (1, .int (nI 0))]) hF dX2_best_1 rfl (by decide) rfl ?_
  refine x_iconst hF dX2_best_2 kc_i1 ?_
  refine x_istore_n (lv' := [(0, .ref (h 0)), (1, .int (nI 0)), (2, .int (nI 1))]) hF dX2_best_3 rfl (by decide) rfl ?_
  have htr := hT.1
  have htp : 0 < tr := by rw [htr]; exact trs_pos hn3 hn
  exact loop tr 1 0 (by omega) (by omega) (by omega) (fun j hj => by rw [show j = 0 by omega]; exact Nat.le_refl _) (fun j hj => by omega)
theorem m2_shortest (hn3 : 3 ≤ n) (hn : n ≤ 7) (hL : LOK n L) (hT : TB n tr T) : MtI l yX2_shortest cX2_shortest 2 .int (rmr 3 69) D (tM d) [.ref (h 0)] (wM h d n tr L T G pt) (fun r w1 => (∃ f, FB n tr L f ∧ r = nI (vl n L f)) ∧ w1 = wM h d n tr L T G pt) := by
  refine MtI.of rfl (Nat.le_of_ble_eq_true rfl) ?_
  intro p e s m args below meth c Q A hF hret
  refine WW.cw (lv2 := [(0, .ref (h 0))]) rfl rfl rfl ?_
  refine x_aload_n hF 0 dX2_shortest_0 rfl rfl ?_
  refine x_calli (C := RX2) (T := TX2) (N := 6) (ci := 1) (q0 := 0) (b := h 0) (As := []) (rest := []) hF (m2_best hn3 hn hL hT) 0 (lw_V q207 q209 qs15 q23 q210) rfl rfl (by decide +kernel) ⟨by decide, by decide⟩ rfl rfl rfl rfl (Nat.le_of_ble_eq_true rfl) dX2_shortest_1 ⟨Nat.zero_le _, Nat.zero_le _⟩ (fun r_1 w_1 hp_1 => ?_)
  obtain ⟨⟨f0, hfb, rfl⟩, rfl⟩ := hp_1
  have hft := hfb.1
  have htr := hT.2.1
  refine x_istore_n (lv' := [(0, .ref (h 0)), (1, .int (nI f0))]) hF dX2_shortest_4 rfl (by decide) rfl ?_
  refine x_aload_n hF 0 dX2_shortest_5 rfl rfl ?_
  refine x_iload_n hF 1 dX2_shortest_6 rfl rfl ?_
  refine x_calli (C := RX2) (T := TX2) (N := 6) (ci := 1) (q0 := 0) (b := h 0) (As := [.int (nI f0)]) (rest := []) hF (m2_sum (t := f0) (p0 := row n f0) hn (show 0 < n by omega) hL (hT.2.2 f0 (by omega))) 1 (lw_V q211 q213 qs16 q23 q214) rfl rfl (by decide +kernel) ⟨by decide, by decide⟩ rfl rfl rfl rfl (Nat.le_of_ble_eq_true rfl) dX2_shortest_7 ⟨Nat.zero_le _, Nat.zero_le _⟩ (fun r_7 w_7 hp_7 => ?_)
  obtain ⟨rfl, rfl⟩ := hp_7
  have hs_7 := vl_le hn (show 0 < n by omega) hL hT (show f0 < tr by omega)
  refine WW.cw (st2 := [.int (nI (vl n L f0))]) rfl rfl rfl ?_
  exact hret _ _ _ _ ⟨⟨f0, hfb, rfl⟩, rfl⟩ rfl dX2_shortest_10
theorem m2_town (hn3 : 3 ≤ n) (hn : n ≤ 7) (hL : LOK n L) (hT : TB n tr T) (u : Int32) : MtI l yX2_town cX2_town 3 .int (rmr 3 69) D (tM d) [.ref (h 0), .int u] (wM h d n tr L T G pt) (fun r w1 => ((¬ twn n u ∧ r = -1) ∨ ∃ j f : Nat, j < n ∧ u = nI j ∧ FB n tr L f ∧ r = nI (T (7 * f + j))) ∧ w1 = wM h d n tr L T G pt) := by
  refine MtI.of rfl (Nat.le_of_ble_eq_true rfl) ?_
  intro p e s m args below meth c Q A hF hret
  refine WW.cw (lv2 := [(0, .ref (h 0)), (1, .int u)]) rfl rfl rfl ?_
  refine x_aload_n hF 0 dX2_town_0 rfl rfl ?_
  refine x_iload_n hF 1 dX2_town_1 rfl rfl ?_
  refine x_calli (C := RX2) (T := TX2) (N := 6) (ci := 1) (q0 := 0) (b := h 0) (As := [.int u]) (rest := []) hF (m2_isTown hn u) 1 (lw_V q195 q197 qs13 q23 q198) rfl rfl (by decide +kernel) ⟨by decide, by decide⟩ rfl rfl rfl rfl (Nat.le_of_ble_eq_true rfl) dX2_town_2 ⟨Nat.zero_le _, Nat.zero_le _⟩ (fun r_2 w_2 hp_2 => ?_)
  obtain ⟨rfl, hp_2⟩ := hp_2
  rcases hp_2 with ⟨rfl, t_2⟩ | ⟨rfl, t_2⟩
  · obtain ⟨j_, hj_, rfl⟩ := t_2
    refine x_if_ne hF 10 dX2_town_5 (by decide) (by omega) (fun c_5 => ?_) (fun c_5 => ?_)
    · refine x_aload_n hF 0 dX2_town_10 rfl rfl ?_
      refine x_calli (C := RX2) (T := TX2) (N := 6) (ci := 1) (q0 := 0) (b := h 0) (As := []) (rest := []) hF (m2_best hn3 hn hL hT) 0 (lw_V q207 q209 qs15 q23 q210) rfl rfl (by decide +kernel) ⟨by decide, by decide⟩ rfl rfl rfl rfl (Nat.le_of_ble_eq_true rfl) dX2_town_11 ⟨Nat.zero_le _, Nat.zero_le _⟩ (fun r_11 w_11 hp_11 => ?_)
      obtain ⟨⟨f0, hfb, rfl⟩, rfl⟩ := hp_11
      have hft := hfb.1
      have htr := hT.2.1
      refine x_istore_n (lv' := [(0, .ref (h 0)), (1, .int (nI j_)), (2, .int (nI f0))]) hF dX2_town_14 rfl (by decide) rfl ?_
      refine x_aload_n hF 0 dX2_town_15 rfl rfl ?_
      refine x_iload_n hF 2 dX2_town_16 rfl rfl ?_
      refine x_iload_n hF 1 dX2_town_17 rfl rfl ?_
      refine x_calli (C := RX2) (T := TX2) (N := 6) (ci := 1) (q0 := 0) (b := h 0) (As := [.int (nI f0), .int (nI j_)]) (rest := []) hF (m2_placeOf (t := f0) (k := j_) hn (show 0 < n by omega) (hT.2.2 f0 hft).2.2.2.2 (by omega)) 2 (lw_V q215 q217 qs17 q23 q218) rfl rfl (by decide +kernel) ⟨by decide, by decide⟩ rfl rfl rfl rfl (Nat.le_of_ble_eq_true rfl) dX2_town_18 ⟨Nat.zero_le _, Nat.zero_le _⟩ (fun r_18 w_18 hp_18 => ?_)
      obtain ⟨rfl, rfl⟩ := hp_18
      rw [if_neg (show ¬ j_ = n by omega)]
      exact hret _ _ _ _ ⟨Or.inr ⟨j_, f0, hj_, rfl, hfb, rfl⟩, rfl⟩ rfl dX2_town_21
    · omega
  · refine x_if_ne hF 10 dX2_town_5 (by decide) (by omega) (fun c_5 => ?_) (fun c_5 => ?_)
    · omega
    · refine x_iconst hF dX2_town_8 kc_im1 ?_
      exact hret _ _ _ _ ⟨Or.inl ⟨t_2, rfl⟩, rfl⟩ rfl dX2_town_9
theorem m2_trips (hn3 : 3 ≤ n) (hn : n ≤ 7) (hL : LOK n L) (hT : TB n tr T) : MtI l yX2_trips cX2_trips 4 .int (rmr 4 90) D (tM d) [.ref (h 0)] (wM h d n tr L T G pt) (fun r w1 => (∃ f, FB n tr L f ∧ r = nI (ctn (fun j => vl n L j = vl n L f) tr)) ∧ w1 = wM h d n tr L T G pt) := by
  refine MtI.of rfl (Nat.le_of_ble_eq_true rfl) ?_
  intro p e s m args below meth c Q A hF hret
  refine WW.cw (lv2 := [(0, .ref (h 0))]) rfl rfl rfl ?_
  have loop : ∀ f0 : Nat, FB n tr L f0 → ∀ (f i : Nat), i ≤ tr → tr + 1 ≤ i + f → WW p l e (rmr 4 90) s m args below meth c Q D A 4 0 0 (wM h d n tr L T G pt) 9 [(0, .ref (h 0)), (1, .int (nI (vl n L f0))), (2, .int (nI (ctn (fun j => vl n L j = vl n L f0) i))), (3, .int (nI i))] [] := by
    intro f0 hfb
    intro f
    induction f with
    | zero =>
      intro i hi hf
      exact absurd (show False by omega) id
    | succ f ih =>
      intro i hi hf
      have htr := hT.2.1
      have hs0 := vl_le hn (show 0 < n by omega) hL hT hfb.1
      have hci := ctn_le (fun j => vl n L j = vl n L f0) i
      refine x_iload_n hF 3 dX2_trips_9 rfl rfl ?_
      refine x_aload_n hF 0 dX2_trips_10 rfl rfl ?_
      refine x_get (ci := 1) (C := RX2) (T := TX2) (N := 6) (v := .int (nI tr)) hF in_X2 0 rfl rfl 2 (by decide) q170 rfl rfl dX2_trips_11 ?_
      refine x_icmp_ge hF 35 dX2_trips_14 (by decide) (by omega) (by omega) (fun c_14 => ?_) (fun c_14 => ?_)
      · refine x_iload_n hF 2 dX2_trips_35 rfl rfl ?_
        have ei : i = tr := by omega
        subst ei
        exact hret _ _ _ _ ⟨⟨f0, hfb, rfl⟩, rfl⟩ rfl dX2_trips_36
      · refine x_aload_n hF 0 dX2_trips_17 rfl rfl ?_
        refine x_iload_n hF 3 dX2_trips_18 rfl rfl ?_
        refine x_calli (C := RX2) (T := TX2) (N := 6) (ci := 1) (q0 := 0) (b := h 0) (As := [.int (nI i)]) (rest := []) hF (m2_sum (t := i) (p0 := row n i) hn (show 0 < n by omega) hL (hT.2.2 i (by omega))) 1 (lw_V q211 q213 qs16 q23 q214) rfl rfl (by decide +kernel) ⟨by decide, by decide⟩ rfl rfl rfl rfl (Nat.le_of_ble_eq_true rfl) dX2_trips_19 ⟨Nat.zero_le _, Nat.zero_le _⟩ (fun r_19 w_19 hp_19 => ?_)
        obtain ⟨rfl, rfl⟩ := hp_19
        have hs_19 := vl_le hn (show 0 < n by omega) hL hT (show i < tr by omega)
        refine WW.cw (st2 := [.int (nI (vl n L i))]) rfl rfl rfl ?_
        refine x_iload_n hF 1 dX2_trips_22 rfl rfl ?_
        refine x_icmp_ne hF 29 dX2_trips_23 (by decide) (by omega) (by omega) (fun c_23 => ?_) (fun c_23 => ?_)
        · refine x_iinc (v := (nI (i + 1))) (lv' := [(0, .ref (h 0)), (1, .int (nI (vl n L f0))), (2, .int (nI (ctn (fun j => vl n L j = vl n L f0) i))), (3, .int (nI (i + 1)))]) hF 3 dX2_trips_29 rfl (ii_1 _) (by decide) rfl ?_
          refine x_goto hF 9 dX2_trips_32 (by decide) ?_
          rw [← ctn_f (P := fun j => vl n L j = vl n L f0) c_23]
          exact ih (i + 1) (by omega) (by omega)
        · refine x_iinc (v := (nI ((ctn (fun j => vl n L j = vl n L f0) i) + 1))) (lv' := [(0, .ref (h 0)), (1, .int (nI (vl n L f0))), (2, .int (nI ((ctn (fun j => vl n L j = vl n L f0) i) + 1))), (3, .int (nI i))]) hF 2 dX2_trips_26 rfl (ii_1 _) (by decide) rfl ?_
          refine x_iinc (v := (nI (i + 1))) (lv' := [(0, .ref (h 0)), (1, .int (nI (vl n L f0))), (2, .int (nI ((ctn (fun j => vl n L j = vl n L f0) i) + 1))), (3, .int (nI (i + 1)))]) hF 3 dX2_trips_29 rfl (ii_1 _) (by decide) rfl ?_
          refine x_goto hF 9 dX2_trips_32 (by decide) ?_
          rw [← ctn_t (P := fun j => vl n L j = vl n L f0) c_23]
          exact ih (i + 1) (by omega) (by omega)
  refine x_aload_n hF 0 dX2_trips_0 rfl rfl ?_
  refine x_calli (C := RX2) (T := TX2) (N := 6) (ci := 1) (q0 := 0) (b := h 0) (As := []) (rest := []) hF (m2_shortest hn3 hn hL hT) 0 (lw_V q227 q204 q205 q23 q206) rfl rfl (by decide +kernel) ⟨by decide, by decide⟩ rfl rfl rfl rfl (Nat.le_of_ble_eq_true rfl) dX2_trips_1 ⟨Nat.zero_le _, Nat.zero_le _⟩ (fun r_1 w_1 hp_1 => ?_)
  obtain ⟨⟨f0, hfb, rfl⟩, rfl⟩ := hp_1
  refine x_istore_n (lv' := [(0, .ref (h 0)), (1, .int (nI (vl n L f0)))]) hF dX2_trips_4 rfl (by decide) rfl ?_
  refine x_iconst hF dX2_trips_5 kc_i0 ?_
  refine x_istore_n (lv' := [(0, .ref (h 0)), (1, .int (nI (vl n L f0))), (2, .int (nI 0))]) hF dX2_trips_6 rfl (by decide) rfl ?_
  refine x_iconst hF dX2_trips_7 kc_i0 ?_
  refine x_istore_n (lv' := [(0, .ref (h 0)), (1, .int (nI (vl n L f0))), (2, .int (nI 0)), (3, .int (nI 0))]) hF dX2_trips_8 rfl (by decide) rfl ?_
  exact loop f0 hfb (tr + 1) 0 (by omega) (by omega)
theorem m2_least (hn3 : 3 ≤ n) (hn : n ≤ 7) (hL : LOK n L) (hT : TB n tr T) {a b us : Nat} (ha : a < n) (hb : b < n) (hus : us ≤ 1) : MtI l yX2_least cX2_least 7 .int (rmr 2 48) D (tM d) [.ref (h 0), .int (nI a), .int (nI b), .int (nI us)] (wM h d n tr L T G pt) (fun r w1 => ((r = -1 ∧ ∀ j, j < tr → ¬ cnd n a b us j) ∨ ∃ f, r = nI (vl n L f) ∧ f < tr ∧ cnd n a b us f ∧ ∀ j, j < tr → cnd n a b us j → vl n L f ≤ vl n L j) ∧ w1 = wM h d n tr L T G pt) := by
  refine MtI.of rfl (Nat.le_of_ble_eq_true rfl) ?_
  intro p e s m args below meth c Q A hF hret
  refine WW.cw (lv2 := [(0, .ref (h 0)), (1, .int (nI a)), (2, .int (nI b)), (3, .int (nI us))]) rfl rfl rfl ?_
  have loop : ∀ (f i : Nat) (le : Int32), i ≤ tr → tr + 1 ≤ i + f → ((le = -1 ∧ ∀ j, j < i → ¬ cnd n a b us j) ∨ ∃ f, le = nI (vl n L f) ∧ f < i ∧ cnd n a b us f ∧ ∀ j, j < i → cnd n a b us j → vl n L f ≤ vl n L j) → WW p l e (rmr 2 48) s m args below meth c Q D A 7 0 0 (wM h d n tr L T G pt) 6 [(0, .ref (h 0)), (1, .int (nI a)), (2, .int (nI b)), (3, .int (nI us)), (4, .int le), (5, .int (nI i))] [] := by
    intro f
    induction f with
    | zero =>
      intro i le hi hf hb1
      exact absurd (show False by omega) id
    | succ f ih =>
      intro i le hi hf hb1
      have htr := hT.2.1
      refine x_iload hF 5 dX2_least_6 rfl ?_
      refine x_aload_n hF 0 dX2_least_8 rfl rfl ?_
      refine x_get (ci := 1) (C := RX2) (T := TX2) (N := 6) (v := .int (nI tr)) hF in_X2 0 rfl rfl 2 (by decide) q170 rfl rfl dX2_least_9 ?_
      refine x_icmp_ge hF 66 dX2_least_12 (by decide) (by omega) (by omega) (fun c_12 => ?_) (fun c_12 => ?_)
      · refine x_iload hF 4 dX2_least_66 rfl ?_
        have ei : i = tr := by omega
        subst ei
        exact hret _ _ _ _ ⟨hb1, rfl⟩ rfl dX2_least_68
      · refine x_aload_n hF 0 dX2_least_15 rfl rfl ?_
        refine x_iload hF 5 dX2_least_16 rfl ?_
        refine x_iload_n hF 1 dX2_least_18 rfl rfl ?_
        refine x_iload_n hF 2 dX2_least_19 rfl rfl ?_
        refine x_calli (C := RX2) (T := TX2) (N := 6) (ci := 1) (q0 := 0) (b := h 0) (As := [.int (nI i), .int (nI a), .int (nI b)]) (rest := []) hF (m2_uses (t := i) (a := a) (b := b) (p0 := row n i) hn (show 0 < n by omega) ha hb (hT.2.2 i (by omega))) 3 (lw_V q236 q238 qs19 q23 q239) rfl rfl (by decide +kernel) ⟨by decide, by decide⟩ rfl rfl rfl rfl (Nat.le_of_ble_eq_true rfl) dX2_least_20 ⟨Nat.zero_le _, Nat.zero_le _⟩ (fun r_20 w_20 hp_20 => ?_)
        obtain ⟨rfl, hp_20⟩ := hp_20
        rcases hp_20 with ⟨rfl, t_20⟩ | ⟨rfl, t_20⟩
        · have hcd : cnd n a b us i ↔ 1 = us := ⟨fun q => by rcases q with q | q; exact q.2.symm; exact absurd t_20 q.1, fun q => Or.inl ⟨t_20, q.symm⟩⟩
          refine x_iload_n hF 3 dX2_least_23 rfl rfl ?_
          refine x_icmp_ne hF 36 dX2_least_24 (by decide) (by omega) (by omega) (fun c_24 => ?_) (fun c_24 => ?_)
          · refine x_iconst hF dX2_least_36 kc_im1 ?_
            refine x_istore (lv' := [(0, .ref (h 0)), (1, .int (nI a)), (2, .int (nI b)), (3, .int (nI us)), (4, .int le), (5, .int (nI i)), (6, .int (-1))]) hF dX2_least_37 (by decide) rfl ?_
            refine x_iload hF 6 dX2_least_39 rfl ?_
            refine x_if_ltR hF 60 dX2_least_41 (by decide) (fun c_41 => ?_) (fun c_41 => ?_)
            · refine x_iinc (v := (nI (i + 1))) (lv' := [(0, .ref (h 0)), (1, .int (nI a)), (2, .int (nI b)), (3, .int (nI us)), (4, .int le), (5, .int (nI (i + 1))), (6, .int (-1))]) hF 5 dX2_least_60 rfl (ii_1 _) (by decide) rfl ?_
              refine x_goto hF 6 dX2_least_63 (by decide) ?_
              refine WW.lvs [0, 1, 2, 3, 4, 5] rfl ?_
              refine ih (i + 1) le (by omega) (by omega) ?_
              rcases hb1 with ⟨e, hb1⟩ | ⟨f1, e, q1, q2, q3⟩
              · exact Or.inl ⟨e, lt_s hb1 (fun q => c_24 (hcd.mp q))⟩
              · exact Or.inr ⟨f1, e, by omega, q2, lt_s q3 (fun q => absurd (hcd.mp q) c_24)⟩
            · exact absurd (by decide) c_41
          · refine x_aload_n hF 0 dX2_least_27 rfl rfl ?_
            refine x_iload hF 5 dX2_least_28 rfl ?_
            refine x_calli (C := RX2) (T := TX2) (N := 6) (ci := 1) (q0 := 0) (b := h 0) (As := [.int (nI i)]) (rest := []) hF (m2_sum (t := i) (p0 := row n i) hn (show 0 < n by omega) hL (hT.2.2 i (by omega))) 1 (lw_V q211 q213 qs16 q23 q214) rfl rfl (by decide +kernel) ⟨by decide, by decide⟩ rfl rfl rfl rfl (Nat.le_of_ble_eq_true rfl) dX2_least_30 ⟨Nat.zero_le _, Nat.zero_le _⟩ (fun r_30 w_30 hp_30 => ?_)
            obtain ⟨rfl, rfl⟩ := hp_30
            have hs_30 := vl_le hn (show 0 < n by omega) hL hT (show i < tr by omega)
            refine WW.cw (st2 := [.int (nI (vl n L i))]) rfl rfl rfl ?_
            refine x_goto hF 37 dX2_least_33 (by decide) ?_
            rcases hb1 with ⟨rfl, hb1⟩ | ⟨f1, rfl, q1, q2, q3⟩
            · refine x_istore (lv' := [(0, .ref (h 0)), (1, .int (nI a)), (2, .int (nI b)), (3, .int (nI us)), (4, .int (-1)), (5, .int (nI i)), (6, .int (nI (vl n L i)))]) hF dX2_least_37 (by decide) rfl ?_
              refine x_iload hF 6 dX2_least_39 rfl ?_
              refine x_if_lt hF 60 dX2_least_41 (by decide) (by omega) ?_
              refine x_iload hF 4 dX2_least_44 rfl ?_
              refine x_if_ltR hF 56 dX2_least_46 (by decide) (fun c_46 => ?_) (fun c_46 => ?_)
              · refine x_iload hF 6 dX2_least_56 rfl ?_
                refine x_istore (lv' := [(0, .ref (h 0)), (1, .int (nI a)), (2, .int (nI b)), (3, .int (nI us)), (4, .int (nI (vl n L i))), (5, .int (nI i)), (6, .int (nI (vl n L i)))]) hF dX2_least_58 (by decide) rfl ?_
                refine x_iinc (v := (nI (i + 1))) (lv' := [(0, .ref (h 0)), (1, .int (nI a)), (2, .int (nI b)), (3, .int (nI us)), (4, .int (nI (vl n L i))), (5, .int (nI (i + 1))), (6, .int (nI (vl n L i)))]) hF 5 dX2_least_60 rfl (ii_1 _) (by decide) rfl ?_
                refine x_goto hF 6 dX2_least_63 (by decide) ?_
                refine WW.lvs [0, 1, 2, 3, 4, 5] rfl ?_
                exact ih (i + 1) _ (by omega) (by omega) (Or.inr ⟨i, rfl, by omega, hcd.mpr c_24, lt_s (fun j hj q => absurd q (hb1 j hj)) (fun _ => Nat.le_refl _)⟩)
              · exact absurd (by decide) c_46
            · have hs1 := vl_le hn (show 0 < n by omega) hL hT (show f1 < tr by omega)
              refine x_istore (lv' := [(0, .ref (h 0)), (1, .int (nI a)), (2, .int (nI b)), (3, .int (nI us)), (4, .int (nI (vl n L f1))), (5, .int (nI i)), (6, .int (nI (vl n L i)))]) hF dX2_least_37 (by decide) rfl ?_
              refine x_iload hF 6 dX2_least_39 rfl ?_
              refine x_if_lt hF 60 dX2_least_41 (by decide) (by omega) ?_
              refine x_iload hF 4 dX2_least_44 rfl ?_
              refine x_if_lt hF 56 dX2_least_46 (by decide) (by omega) ?_
              refine x_iload hF 6 dX2_least_49 rfl ?_
              refine x_iload hF 4 dX2_least_51 rfl ?_
              refine x_icmp_ge hF 60 dX2_least_53 (by decide) (by omega) (by omega) (fun c_53 => ?_) (fun c_53 => ?_)
              · refine x_iinc (v := (nI (i + 1))) (lv' := [(0, .ref (h 0)), (1, .int (nI a)), (2, .int (nI b)), (3, .int (nI us)), (4, .int (nI (vl n L f1))), (5, .int (nI (i + 1))), (6, .int (nI (vl n L i)))]) hF 5 dX2_least_60 rfl (ii_1 _) (by decide) rfl ?_
                refine x_goto hF 6 dX2_least_63 (by decide) ?_
                refine WW.lvs [0, 1, 2, 3, 4, 5] rfl ?_
                exact ih (i + 1) _ (by omega) (by omega) (Or.inr ⟨f1, rfl, by omega, q2, lt_s q3 (fun _ => by omega)⟩)
              · refine x_iload hF 6 dX2_least_56 rfl ?_
                refine x_istore (lv' := [(0, .ref (h 0)), (1, .int (nI a)), (2, .int (nI b)), (3, .int (nI us)), (4, .int (nI (vl n L i))), (5, .int (nI i)), (6, .int (nI (vl n L i)))]) hF dX2_least_58 (by decide) rfl ?_
                refine x_iinc (v := (nI (i + 1))) (lv' := [(0, .ref (h 0)), (1, .int (nI a)), (2, .int (nI b)), (3, .int (nI us)), (4, .int (nI (vl n L i))), (5, .int (nI (i + 1))), (6, .int (nI (vl n L i)))]) hF 5 dX2_least_60 rfl (ii_1 _) (by decide) rfl ?_
                refine x_goto hF 6 dX2_least_63 (by decide) ?_
                refine WW.lvs [0, 1, 2, 3, 4, 5] rfl ?_
                exact ih (i + 1) _ (by omega) (by omega) (Or.inr ⟨i, rfl, by omega, hcd.mpr c_24, lt_s (fun j hj q => by have := q3 j hj q; omega) (fun _ => Nat.le_refl _)⟩)
        · have hcd : cnd n a b us i ↔ 0 = us := ⟨fun q => by rcases q with q | q; exact absurd q.1 t_20; exact q.2.symm, fun q => Or.inr ⟨t_20, q.symm⟩⟩
          refine x_iload_n hF 3 dX2_least_23 rfl rfl ?_
          refine x_icmp_ne hF 36 dX2_least_24 (by decide) (by omega) (by omega) (fun c_24 => ?_) (fun c_24 => ?_)
          · refine x_iconst hF dX2_least_36 kc_im1 ?_
            refine x_istore (lv' := [(0, .ref (h 0)), (1, .int (nI a)), (2, .int (nI b)), (3, .int (nI us)), (4, .int le), (5, .int (nI i)), (6, .int (-1))]) hF dX2_least_37 (by decide) rfl ?_
            refine x_iload hF 6 dX2_least_39 rfl ?_
            refine x_if_ltR hF 60 dX2_least_41 (by decide) (fun c_41 => ?_) (fun c_41 => ?_)
            · refine x_iinc (v := (nI (i + 1))) (lv' := [(0, .ref (h 0)), (1, .int (nI a)), (2, .int (nI b)), (3, .int (nI us)), (4, .int le), (5, .int (nI (i + 1))), (6, .int (-1))]) hF 5 dX2_least_60 rfl (ii_1 _) (by decide) rfl ?_
              refine x_goto hF 6 dX2_least_63 (by decide) ?_
              refine WW.lvs [0, 1, 2, 3, 4, 5] rfl ?_
              refine ih (i + 1) le (by omega) (by omega) ?_
              rcases hb1 with ⟨e, hb1⟩ | ⟨f1, e, q1, q2, q3⟩
              · exact Or.inl ⟨e, lt_s hb1 (fun q => c_24 (hcd.mp q))⟩
              · exact Or.inr ⟨f1, e, by omega, q2, lt_s q3 (fun q => absurd (hcd.mp q) c_24)⟩
            · exact absurd (by decide) c_41
          · refine x_aload_n hF 0 dX2_least_27 rfl rfl ?_
            refine x_iload hF 5 dX2_least_28 rfl ?_
            refine x_calli (C := RX2) (T := TX2) (N := 6) (ci := 1) (q0 := 0) (b := h 0) (As := [.int (nI i)]) (rest := []) hF (m2_sum (t := i) (p0 := row n i) hn (show 0 < n by omega) hL (hT.2.2 i (by omega))) 1 (lw_V q211 q213 qs16 q23 q214) rfl rfl (by decide +kernel) ⟨by decide, by decide⟩ rfl rfl rfl rfl (Nat.le_of_ble_eq_true rfl) dX2_least_30 ⟨Nat.zero_le _, Nat.zero_le _⟩ (fun r_30 w_30 hp_30 => ?_)
            obtain ⟨rfl, rfl⟩ := hp_30
            have hs_30 := vl_le hn (show 0 < n by omega) hL hT (show i < tr by omega)
            refine WW.cw (st2 := [.int (nI (vl n L i))]) rfl rfl rfl ?_
            refine x_goto hF 37 dX2_least_33 (by decide) ?_
            rcases hb1 with ⟨rfl, hb1⟩ | ⟨f1, rfl, q1, q2, q3⟩
            · refine x_istore (lv' := [(0, .ref (h 0)), (1, .int (nI a)), (2, .int (nI b)), (3, .int (nI us)), (4, .int (-1)), (5, .int (nI i)), (6, .int (nI (vl n L i)))]) hF dX2_least_37 (by decide) rfl ?_
              refine x_iload hF 6 dX2_least_39 rfl ?_
              refine x_if_lt hF 60 dX2_least_41 (by decide) (by omega) ?_
              refine x_iload hF 4 dX2_least_44 rfl ?_
              refine x_if_ltR hF 56 dX2_least_46 (by decide) (fun c_46 => ?_) (fun c_46 => ?_)
              · refine x_iload hF 6 dX2_least_56 rfl ?_
                refine x_istore (lv' := [(0, .ref (h 0)), (1, .int (nI a)), (2, .int (nI b)), (3, .int (nI us)), (4, .int (nI (vl n L i))), (5, .int (nI i)), (6, .int (nI (vl n L i)))]) hF dX2_least_58 (by decide) rfl ?_
                refine x_iinc (v := (nI (i + 1))) (lv' := [(0, .ref (h 0)), (1, .int (nI a)), (2, .int (nI b)), (3, .int (nI us)), (4, .int (nI (vl n L i))), (5, .int (nI (i + 1))), (6, .int (nI (vl n L i)))]) hF 5 dX2_least_60 rfl (ii_1 _) (by decide) rfl ?_
                refine x_goto hF 6 dX2_least_63 (by decide) ?_
                refine WW.lvs [0, 1, 2, 3, 4, 5] rfl ?_
                exact ih (i + 1) _ (by omega) (by omega) (Or.inr ⟨i, rfl, by omega, hcd.mpr c_24, lt_s (fun j hj q => absurd q (hb1 j hj)) (fun _ => Nat.le_refl _)⟩)
              · exact absurd (by decide) c_46
            · have hs1 := vl_le hn (show 0 < n by omega) hL hT (show f1 < tr by omega)
              refine x_istore (lv' := [(0, .ref (h 0)), (1, .int (nI a)), (2, .int (nI b)), (3, .int (nI us)), (4, .int (nI (vl n L f1))), (5, .int (nI i)), (6, .int (nI (vl n L i)))]) hF dX2_least_37 (by decide) rfl ?_
              refine x_iload hF 6 dX2_least_39 rfl ?_
              refine x_if_lt hF 60 dX2_least_41 (by decide) (by omega) ?_
              refine x_iload hF 4 dX2_least_44 rfl ?_
              refine x_if_lt hF 56 dX2_least_46 (by decide) (by omega) ?_
              refine x_iload hF 6 dX2_least_49 rfl ?_
              refine x_iload hF 4 dX2_least_51 rfl ?_
              refine x_icmp_ge hF 60 dX2_least_53 (by decide) (by omega) (by omega) (fun c_53 => ?_) (fun c_53 => ?_)
              · refine x_iinc (v := (nI (i + 1))) (lv' := [(0, .ref (h 0)), (1, .int (nI a)), (2, .int (nI b)), (3, .int (nI us)), (4, .int (nI (vl n L f1))), (5, .int (nI (i + 1))), (6, .int (nI (vl n L i)))]) hF 5 dX2_least_60 rfl (ii_1 _) (by decide) rfl ?_
                refine x_goto hF 6 dX2_least_63 (by decide) ?_
                refine WW.lvs [0, 1, 2, 3, 4, 5] rfl ?_
                exact ih (i + 1) _ (by omega) (by omega) (Or.inr ⟨f1, rfl, by omega, q2, lt_s q3 (fun _ => by omega)⟩)
              · refine x_iload hF 6 dX2_least_56 rfl ?_
                refine x_istore (lv' := [(0, .ref (h 0)), (1, .int (nI a)), (2, .int (nI b)), (3, .int (nI us)), (4, .int (nI (vl n L i))), (5, .int (nI i)), (6, .int (nI (vl n L i)))]) hF dX2_least_58 (by decide) rfl ?_
                refine x_iinc (v := (nI (i + 1))) (lv' := [(0, .ref (h 0)), (1, .int (nI a)), (2, .int (nI b)), (3, .int (nI us)), (4, .int (nI (vl n L i))), (5, .int (nI (i + 1))), (6, .int (nI (vl n L i)))]) hF 5 dX2_least_60 rfl (ii_1 _) (by decide) rfl ?_
                refine x_goto hF 6 dX2_least_63 (by decide) ?_
                refine WW.lvs [0, 1, 2, 3, 4, 5] rfl ?_
                exact ih (i + 1) _ (by omega) (by omega) (Or.inr ⟨i, rfl, by omega, hcd.mpr c_24, lt_s (fun j hj q => by have := q3 j hj q; omega) (fun _ => Nat.le_refl _)⟩)
  refine x_iconst hF dX2_least_0 kc_im1 ?_
  refine x_istore (lv' := [(0, .ref (h 0)), (1, .int (nI a)), (2, .int (nI b)), (3, .int (nI us)), (4, .int (-1))]) hF dX2_least_1 (by decide) rfl ?_
  refine x_iconst hF dX2_least_3 kc_i0 ?_
  refine x_istore (lv' := [(0, .ref (h 0)), (1, .int (nI a)), (2, .int (nI b)), (3, .int (nI us)), (4, .int (-1)), (5, .int (nI 0))]) hF dX2_least_4 (by decide) rfl ?_
  exact loop (tr + 1) 0 (-1) (by omega) (by omega) (Or.inl ⟨rfl, lt_0⟩)
theorem m2_using (hn3 : 3 ≤ n) (hn : n ≤ 7) (hL : LOK n L) (hT : TB n tr T) (u v : Int32) : MtI l yX2_using cX2_using 3 .int (rmr 3 74) D (tM d) [.ref (h 0), .int u, .int v] (wM h d n tr L T G pt) (fun r w1 => ((¬ cpl n u v ∧ r = -1) ∨ ∃ (a b : Nat) (r0 : Int32), a < n ∧ b < n ∧ ¬ a = b ∧ u = nI a ∧ v = nI b ∧ ((r0 = -1 ∧ ∀ j, j < tr → ¬ cnd n a b 1 j) ∨ ∃ f, r0 = nI (vl n L f) ∧ f < tr ∧ cnd n a b 1 f ∧ ∀ j, j < tr → cnd n a b 1 j → vl n L f ≤ vl n L j) ∧ r = r0) ∧ w1 = wM h d n tr L T G pt) := by
  refine MtI.of rfl (Nat.le_of_ble_eq_true rfl) ?_
  intro p e s m args below meth c Q A hF hret
  refine WW.cw (lv2 := [(0, .ref (h 0)), (1, .int u), (2, .int v)]) rfl rfl rfl ?_
  refine x_aload_n hF 0 dX2_using_0 rfl rfl ?_
  refine x_iload_n hF 1 dX2_using_1 rfl rfl ?_
  refine x_iload_n hF 2 dX2_using_2 rfl rfl ?_
  refine x_calli (C := RX2) (T := TX2) (N := 6) (ci := 1) (q0 := 0) (b := h 0) (As := [.int u, .int v]) (rest := []) hF (m2_isCouple hn u v) 2 (lw_V q191 q193 qs12 q23 q194) rfl rfl (by decide +kernel) ⟨by decide, by decide⟩ rfl rfl rfl rfl (Nat.le_of_ble_eq_true rfl) dX2_using_3 ⟨Nat.zero_le _, Nat.zero_le _⟩ (fun r_3 w_3 hp_3 => ?_)
  obtain ⟨rfl, hp_3⟩ := hp_3
  rcases hp_3 with ⟨rfl, t_3⟩ | ⟨rfl, t_3⟩
  · obtain ⟨⟨a_, ha_, rfl⟩, ⟨b_, hb_, rfl⟩, hab⟩ := id t_3
    have hab_ : ¬ a_ = b_ := fun q => hab (by rw [q])
    refine x_if_eq hF 19 dX2_using_6 (by decide) (by omega) (fun c_6 => ?_) (fun c_6 => ?_)
    · omega
    · refine x_aload_n hF 0 dX2_using_9 rfl rfl ?_
      refine x_iload_n hF 1 dX2_using_10 rfl rfl ?_
      refine x_iload_n hF 2 dX2_using_11 rfl rfl ?_
      refine x_iconst hF dX2_using_12 kc_i1 ?_
      refine x_calli (C := RX2) (T := TX2) (N := 6) (ci := 1) (q0 := 0) (b := h 0) (As := [.int (nI a_), .int (nI b_), .int (nI 1)]) (rest := []) hF (m2_least (a := a_) (b := b_) (us := 1) hn3 hn hL hT ha_ hb_ (by omega)) 3 (lw_V q232 q234 qs18 q23 q235) rfl rfl (by decide +kernel) ⟨by decide, by decide⟩ rfl rfl rfl rfl (Nat.le_of_ble_eq_true rfl) dX2_using_13 ⟨Nat.zero_le _, Nat.zero_le _⟩ (fun r_13 w_13 hp_13 => ?_)
      obtain ⟨hle, rfl⟩ := hp_13
      refine x_goto hF 20 dX2_using_16 (by decide) ?_
      exact hret _ _ _ _ ⟨Or.inr ⟨a_, b_, _, ha_, hb_, hab_, rfl, rfl, hle, rfl⟩, rfl⟩ rfl dX2_using_20
  · refine x_if_eq hF 19 dX2_using_6 (by decide) (by omega) (fun c_6 => ?_) (fun c_6 => ?_)
    · refine x_iconst hF dX2_using_19 kc_im1 ?_
      exact hret _ _ _ _ ⟨Or.inl ⟨t_3, rfl⟩, rfl⟩ rfl dX2_using_20
    · omega
theorem m2_avoiding (hn3 : 3 ≤ n) (hn : n ≤ 7) (hL : LOK n L) (hT : TB n tr T) (u v : Int32) : MtI l yX2_avoiding cX2_avoiding 3 .int (rmr 3 74) D (tM d) [.ref (h 0), .int u, .int v] (wM h d n tr L T G pt) (fun r w1 => ((¬ (cpl n u v ∧ ¬ n = 3) ∧ r = -1) ∨ ∃ (a b : Nat) (r0 : Int32), a < n ∧ b < n ∧ ¬ a = b ∧ ¬ n = 3 ∧ u = nI a ∧ v = nI b ∧ ((r0 = -1 ∧ ∀ j, j < tr → ¬ cnd n a b 0 j) ∨ ∃ f, r0 = nI (vl n L f) ∧ f < tr ∧ cnd n a b 0 f ∧ ∀ j, j < tr → cnd n a b 0 j → vl n L f ≤ vl n L j) ∧ r = r0) ∧ w1 = wM h d n tr L T G pt) := by
  refine MtI.of rfl (Nat.le_of_ble_eq_true rfl) ?_
  intro p e s m args below meth c Q A hF hret
  refine WW.cw (lv2 := [(0, .ref (h 0)), (1, .int u), (2, .int v)]) rfl rfl rfl ?_
  refine x_aload_n hF 0 dX2_avoiding_0 rfl rfl ?_
  refine x_iload_n hF 1 dX2_avoiding_1 rfl rfl ?_
  refine x_iload_n hF 2 dX2_avoiding_2 rfl rfl ?_
  refine x_calli (C := RX2) (T := TX2) (N := 6) (ci := 1) (q0 := 0) (b := h 0) (As := [.int u, .int v]) (rest := []) hF (m2_isCouple hn u v) 2 (lw_V q191 q193 qs12 q23 q194) rfl rfl (by decide +kernel) ⟨by decide, by decide⟩ rfl rfl rfl rfl (Nat.le_of_ble_eq_true rfl) dX2_avoiding_3 ⟨Nat.zero_le _, Nat.zero_le _⟩ (fun r_3 w_3 hp_3 => ?_)
  obtain ⟨rfl, hp_3⟩ := hp_3
  rcases hp_3 with ⟨rfl, t_3⟩ | ⟨rfl, t_3⟩
  · obtain ⟨⟨a_, ha_, rfl⟩, ⟨b_, hb_, rfl⟩, hab⟩ := id t_3
    have hab_ : ¬ a_ = b_ := fun q => hab (by rw [q])
    refine x_if_eq hF 27 dX2_avoiding_6 (by decide) (by omega) (fun c_6 => ?_) (fun c_6 => ?_)
    · omega
    · refine x_aload_n hF 0 dX2_avoiding_9 rfl rfl ?_
      refine x_get (ci := 1) (C := RX2) (T := TX2) (N := 6) (v := .int (nI n)) hF in_X2 0 rfl rfl 0 (by decide) q168 rfl rfl dX2_avoiding_10 ?_
      refine x_iconst hF dX2_avoiding_13 kc_i3 ?_
      refine x_icmp_le hF 27 dX2_avoiding_14 (by decide) (by omega) (by omega) (fun c_14 => ?_) (fun c_14 => ?_)
      · refine x_iconst hF dX2_avoiding_27 kc_im1 ?_
        exact hret _ _ _ _ ⟨Or.inl ⟨fun q => by first | exact t_3 q.1 | omega, rfl⟩, rfl⟩ rfl dX2_avoiding_28
      · refine x_aload_n hF 0 dX2_avoiding_17 rfl rfl ?_
        refine x_iload_n hF 1 dX2_avoiding_18 rfl rfl ?_
        refine x_iload_n hF 2 dX2_avoiding_19 rfl rfl ?_
        refine x_iconst hF dX2_avoiding_20 kc_i0 ?_
        refine x_calli (C := RX2) (T := TX2) (N := 6) (ci := 1) (q0 := 0) (b := h 0) (As := [.int (nI a_), .int (nI b_), .int (nI 0)]) (rest := []) hF (m2_least (a := a_) (b := b_) (us := 0) hn3 hn hL hT ha_ hb_ (by omega)) 3 (lw_V q232 q234 qs18 q23 q235) rfl rfl (by decide +kernel) ⟨by decide, by decide⟩ rfl rfl rfl rfl (Nat.le_of_ble_eq_true rfl) dX2_avoiding_21 ⟨Nat.zero_le _, Nat.zero_le _⟩ (fun r_21 w_21 hp_21 => ?_)
        obtain ⟨hle, rfl⟩ := hp_21
        refine x_goto hF 28 dX2_avoiding_24 (by decide) ?_
        exact hret _ _ _ _ ⟨Or.inr ⟨a_, b_, _, ha_, hb_, hab_, by omega, rfl, rfl, hle, rfl⟩, rfl⟩ rfl dX2_avoiding_28
  · refine x_if_eq hF 27 dX2_avoiding_6 (by decide) (by omega) (fun c_6 => ?_) (fun c_6 => ?_)
    · refine x_iconst hF dX2_avoiding_27 kc_im1 ?_
      exact hret _ _ _ _ ⟨Or.inl ⟨fun q => by first | exact t_3 q.1 | omega, rfl⟩, rfl⟩ rfl dX2_avoiding_28
    · omega
theorem m2_walk (hn3 : 3 ≤ n) (hn : n ≤ 7) (hL : LOK n L) (hT : TB n tr T) (u v : Int32) : MtI l yX2_walk cX2_walk 3 .int (rmr 3 74) D (tM d) [.ref (h 0), .int u, .int v] (wM h d n tr L T G pt) (fun r w1 => ((¬ cpl n u v ∧ r = -1) ∨ ∃ (a b : Nat) (r0 : Int32), a < n ∧ b < n ∧ ¬ a = b ∧ u = nI a ∧ v = nI b ∧ ((r0 = -1 ∧ ∀ j, j < tr → ¬ cnd n a b 1 j) ∨ ∃ f, r0 = nI (vl n L f) ∧ f < tr ∧ cnd n a b 1 f ∧ ∀ j, j < tr → cnd n a b 1 j → vl n L f ≤ vl n L j) ∧ r = r0 - nI (L (7 * a + b))) ∧ w1 = wM h d n tr L T G pt) := by
  refine MtI.of rfl (Nat.le_of_ble_eq_true rfl) ?_
  intro p e s m args below meth c Q A hF hret
  refine WW.cw (lv2 := [(0, .ref (h 0)), (1, .int u), (2, .int v)]) rfl rfl rfl ?_
  refine x_aload_n hF 0 dX2_walk_0 rfl rfl ?_
  refine x_iload_n hF 1 dX2_walk_1 rfl rfl ?_
  refine x_iload_n hF 2 dX2_walk_2 rfl rfl ?_
  refine x_calli (C := RX2) (T := TX2) (N := 6) (ci := 1) (q0 := 0) (b := h 0) (As := [.int u, .int v]) (rest := []) hF (m2_isCouple hn u v) 2 (lw_V q191 q193 qs12 q23 q194) rfl rfl (by decide +kernel) ⟨by decide, by decide⟩ rfl rfl rfl rfl (Nat.le_of_ble_eq_true rfl) dX2_walk_3 ⟨Nat.zero_le _, Nat.zero_le _⟩ (fun r_3 w_3 hp_3 => ?_)
  obtain ⟨rfl, hp_3⟩ := hp_3
  rcases hp_3 with ⟨rfl, t_3⟩ | ⟨rfl, t_3⟩
  · obtain ⟨⟨a_, ha_, rfl⟩, ⟨b_, hb_, rfl⟩, hab⟩ := id t_3
    have hab_ : ¬ a_ = b_ := fun q => hab (by rw [q])
    refine x_if_eq hF 31 dX2_walk_6 (by decide) (by omega) (fun c_6 => ?_) (fun c_6 => ?_)
    · omega
    · refine x_aload_n hF 0 dX2_walk_9 rfl rfl ?_
      refine x_iload_n hF 1 dX2_walk_10 rfl rfl ?_
      refine x_iload_n hF 2 dX2_walk_11 rfl rfl ?_
      refine x_iconst hF dX2_walk_12 kc_i1 ?_
      refine x_calli (C := RX2) (T := TX2) (N := 6) (ci := 1) (q0 := 0) (b := h 0) (As := [.int (nI a_), .int (nI b_), .int (nI 1)]) (rest := []) hF (m2_least (a := a_) (b := b_) (us := 1) hn3 hn hL hT ha_ hb_ (by omega)) 3 (lw_V q232 q234 qs18 q23 q235) rfl rfl (by decide +kernel) ⟨by decide, by decide⟩ rfl rfl rfl rfl (Nat.le_of_ble_eq_true rfl) dX2_walk_13 ⟨Nat.zero_le _, Nat.zero_le _⟩ (fun r_13 w_13 hp_13 => ?_)
      obtain ⟨hle, rfl⟩ := hp_13
      refine x_aload_n hF 0 dX2_walk_16 rfl rfl ?_
      refine x_get (ci := 1) (C := RX2) (T := TX2) (N := 6) (v := .ref (h 1)) hF in_X2 0 rfl rfl 1 (by decide) q169 rfl rfl dX2_walk_17 ?_
      refine x_bipush hF dX2_walk_20 kc_b7 ?_
      refine x_iload_n hF 1 dX2_walk_22 rfl rfl ?_
      refine x_imul hF dX2_walk_23 ?_
      refine x_iload_n hF 2 dX2_walk_24 rfl rfl ?_
      refine x_iadd hF dX2_walk_25 ?_
      refine x_iald hF 1 0 rfl rfl (by decide) (by omega) dX2_walk_26 ?_
      refine x_isubR (v := r_13 - nI (L (7 * a_ + b_))) hF dX2_walk_27 rfl ?_
      refine x_goto hF 32 dX2_walk_28 (by decide) ?_
      exact hret _ _ _ _ ⟨Or.inr ⟨a_, b_, _, ha_, hb_, hab_, rfl, rfl, hle, rfl⟩, rfl⟩ rfl dX2_walk_32
  · refine x_if_eq hF 31 dX2_walk_6 (by decide) (by omega) (fun c_6 => ?_) (fun c_6 => ?_)
    · refine x_iconst hF dX2_walk_31 kc_im1 ?_
      exact hret _ _ _ _ ⟨Or.inl ⟨t_3, rfl⟩, rfl⟩ rfl dX2_walk_32
    · omega
end
end
section
/-! PURE: the sweeps of 'parts' -/
def SW (w : Nat → Nat → Nat) (n k : Nat) (f0 f : Nat → Nat) (e : Nat) : Prop := (∀ u, f u ≤ f0 u) ∧ lab w n k f ∧ ∀ y x, y < n → x < n → ¬ y = x → 7 * y + x < e → w y x ≤ k → f y ≤ f0 x
theorem sw_keep {w : Nat → Nat → Nat} {n k e : Nat} {f0 f : Nat → Nat} (h : SW w n k f0 f e) (hc : ∀ y x, y < n → x < n → ¬ y = x → 7 * y + x = e → w y x ≤ k → f y ≤ f x) : SW w n k f0 f (e + 1) := by
  refine ⟨h.1, h.2.1, fun y x hy hx hyx he hw => ?_⟩
  by_cases e2 : 7 * y + x = e
  · exact Nat.le_trans (hc y x hy hx hyx e2 hw) (h.1 x)
  · exact h.2.2 y x hy hx hyx (by omega) hw
theorem sw_up {w : Nat → Nat → Nat} {n k e u v : Nat} {f0 f : Nat → Nat} (hn : n ≤ 7) (h : SW w n k f0 f e) (hu : u < n) (hv : v < n) (huv : ¬ u = v) (he : 7 * u + v = e) (hw : w u v ≤ k) (hl : f v < f u) : SW w n k f0 (va_up f u (f v)) (e + 1) := by
  have le : ∀ x, va_up f u (f v) x ≤ f x := fun x => by
    by_cases q : x = u
    · rw [q, va_up_self]; omega
    · rw [va_up_ne _ _ q]; exact Nat.le_refl _
  refine ⟨fun x => Nat.le_trans (le x) (h.1 x), fun x hx => ?_, fun y x hy hx hyx he2 hw2 => ?_⟩
  · by_cases q : x = u
    · rw [q, va_up_self]
      exact ⟨cn_tr (h.2.1 v hv).1 (cn_sy (cn_ed hu hv huv hw)), by have := (h.2.1 u hu).2; omega⟩
    · rw [va_up_ne _ _ q]
      exact h.2.1 x hx
  · by_cases q : 7 * y + x = e
    · have : y = u ∧ x = v := by omega
      rw [this.1, this.2, va_up_self]
      exact h.1 v
    · exact Nat.le_trans (le y) (h.2.2 y x hy hx hyx (by omega) hw2)
/-- the number of parts that pairs of at most k leave -/
noncomputable def npt (n : Nat) (L : Nat → Nat) (k : Nat) : Nat := ctn (fun u => mi (mx L) n k u = u) n
theorem npt_pos {n k : Nat} {L : Nat → Nat} (hn : 0 < n) : 1 ≤ npt n L k := ctn_in hn (Nat.le_zero.mp (mi_le (cn_rf (mx L) n k 0)))
theorem npt_le {n k : Nat} {L : Nat → Nat} : npt n L k ≤ n := ctn_le _ n
theorem lab_0 {w : Nat → Nat → Nat} {n k : Nat} {f : Nat → Nat} (hf : ∀ u, u < n → f u = u) : lab w n k f := fun u hu => by
  rw [hf u hu]
  exact ⟨cn_rf w n k u, Nat.le_refl _⟩
theorem set_0 {w : Nat → Nat → Nat} {n k : Nat} {f : Nat → Nat} (hn : 0 < n) (hf : ∀ u, u < n → f u = u) : 0 + 1 ≤ ctn (fun u => f u = mi w n k u) n ∨ ∀ u, u < n → f u = mi w n k u :=
  Or.inl (ctn_in hn (by rw [hf 0 hn]; exact (Nat.le_zero.mp (mi_le (cn_rf w n k 0))).symm))
theorem npt_of {n k : Nat} {L f : Nat → Nat} (h : ∀ u, u < n → f u = mi (mx L) n k u) : ctn (fun u => f u = u) n = npt n L k := ctn_congr (fun u hu => by rw [h u hu])
theorem sw_swp {w : Nat → Nat → Nat} {n k : Nat} {f0 f : Nat → Nat} (hn : n ≤ 7) (h : SW w n k f0 f 49) : swp w n k f0 f := ⟨h.1, fun y x hy hx hyx hw => h.2.2 y x hy hx hyx (by omega) hw⟩
end
section
/-! TourSolverModel: parts, reach, net, shift (printed by a program, wip/D-64046w/src) -/
set_option maxRecDepth 100000
section
variable {l : Launch} {D : va_G} {h : Nat → Nat} {d : Nat → ClassId} {n tr : Nat} {L T G pt : Nat → Nat}
theorem m2_parts {k : Nat} (hn3 : 3 ≤ n) (hn : n ≤ 7) (hL : LOK n L) (hk : k < 60) : MtI l yX2_parts cX2_parts 6 .int (rmr 0 0) D (tM d) [.ref (h 0), .int (nI k)] (wM h d n tr L T G pt) (fun r w1 => ∃ pt' : Nat → Nat, r = nI (npt n L k) ∧ w1 = wM h d n tr L T G pt') := by
  refine MtI.of rfl (Nat.le_of_ble_eq_true rfl) ?_
  intro p e s m args below meth c Q A hF hret
  refine WW.cw (lv2 := [(0, .ref (h 0)), (1, .int (nI k))]) rfl rfl rfl ?_
  have loopD : ∀ pt1 : Nat → Nat, lab (mx L) n k pt1 → (∀ u, u < n → pt1 u = mi (mx L) n k u) → ∀ (f i : Nat), i ≤ n → n + 1 ≤ i + f → WW p l e (rmr 0 0) s m args below meth c Q D A 6 0 0 (wM h d n tr L T G pt1) 135 [(0, .ref (h 0)), (1, .int (nI k)), (2, .int (nI (ctn (fun u => pt1 u = u) i))), (3, .int (nI i))] [] := by
    intro pt1 hlab hset
    intro f
    induction f with
    | zero =>
      intro i hi hf
      exact absurd (show False by omega) id
    | succ f ih =>
      intro i hi hf
      refine x_iload_n hF 3 dX2_parts_135 rfl rfl ?_
      refine x_aload_n hF 0 dX2_parts_136 rfl rfl ?_
      refine x_get (ci := 1) (C := RX2) (T := TX2) (N := 6) (v := .int (nI n)) hF in_X2 0 rfl rfl 0 (by decide) q168 rfl rfl dX2_parts_137 ?_
      refine x_icmp_ge hF 162 dX2_parts_140 (by decide) (by omega) (by omega) (fun c_140 => ?_) (fun c_140 => ?_)
      · refine x_iload_n hF 2 dX2_parts_162 rfl rfl ?_
        have ei : i = n := by omega
        subst ei
        exact hret _ _ _ _ ⟨pt1, by rw [npt_of hset], rfl⟩ rfl dX2_parts_163
      · refine x_aload_n hF 0 dX2_parts_143 rfl rfl ?_
        refine x_get (ci := 1) (C := RX2) (T := TX2) (N := 6) (v := .ref (h 4)) hF in_X2 0 rfl rfl 5 (by decide) q173 rfl rfl dX2_parts_144 ?_
        refine x_iload_n hF 3 dX2_parts_147 rfl rfl ?_
        refine x_iald hF 4 3 rfl rfl (by decide) (by omega) dX2_parts_148 ?_
        have hb_148 := (hlab i (by omega)).2
        refine x_iload_n hF 3 dX2_parts_149 rfl rfl ?_
        refine x_icmp_ne hF 156 dX2_parts_150 (by decide) (by omega) (by omega) (fun c_150 => ?_) (fun c_150 => ?_)
        · refine x_iinc (v := (nI (i + 1))) (lv' := [(0, .ref (h 0)), (1, .int (nI k)), (2, .int (nI (ctn (fun u => pt1 u = u) i))), (3, .int (nI (i + 1)))]) hF 3 dX2_parts_156 rfl (ii_1 _) (by decide) rfl ?_
          refine x_goto hF 135 dX2_parts_159 (by decide) ?_
          rw [← ctn_f (P := fun u => pt1 u = u) c_150]
          exact ih (i + 1) (by omega) (by omega)
        · refine x_iinc (v := (nI ((ctn (fun u => pt1 u = u) i) + 1))) (lv' := [(0, .ref (h 0)), (1, .int (nI k)), (2, .int (nI ((ctn (fun u => pt1 u = u) i) + 1))), (3, .int (nI i))]) hF 2 dX2_parts_153 rfl (ii_1 _) (by decide) rfl ?_
          refine x_iinc (v := (nI (i + 1))) (lv' := [(0, .ref (h 0)), (1, .int (nI k)), (2, .int (nI ((ctn (fun u => pt1 u = u) i) + 1))), (3, .int (nI (i + 1)))]) hF 3 dX2_parts_156 rfl (ii_1 _) (by decide) rfl ?_
          refine x_goto hF 135 dX2_parts_159 (by decide) ?_
          rw [← ctn_t (P := fun u => pt1 u = u) c_150]
          exact ih (i + 1) (by omega) (by omega)
  have loopC : ∀ (rd : Nat) (pt0 : Nat → Nat), (∀ pt1 : Nat → Nat, SW (mx L) n k pt0 pt1 49 → WW p l e (rmr 0 0) s m args below meth c Q D A 6 0 0 (wM h d n tr L T G pt1) 25 [(0, .ref (h 0)), (1, .int (nI k)), (2, .int (nI (rd + 1)))] []) → ∀ (f i : Nat) (pt1 : Nat → Nat), i ≤ 49 → 50 ≤ i + f → SW (mx L) n k pt0 pt1 i → WW p l e (rmr 0 0) s m args below meth c Q D A 6 0 0 (wM h d n tr L T G pt1) 35 [(0, .ref (h 0)), (1, .int (nI k)), (2, .int (nI rd)), (3, .int (nI i))] [] := by
    intro rd pt0 K
    intro f
    induction f with
    | zero =>
      intro i pt1 hi hf hs
      exact absurd (show False by omega) id
    | succ f ih =>
      intro i pt1 hi hf hs
      have hdm := Nat.div_add_mod i 7
      have hm7 : i % 7 < 7 := Nat.mod_lt _ (by decide)
      refine x_iload_n hF 3 dX2_parts_35 rfl rfl ?_
      refine x_bipush hF dX2_parts_36 kc_b49 ?_
      refine x_icmp_ge hF 125 dX2_parts_38 (by decide) (by omega) (by omega) (fun c_38 => ?_) (fun c_38 => ?_)
      · refine x_iinc (v := (nI (rd + 1))) (lv' := [(0, .ref (h 0)), (1, .int (nI k)), (2, .int (nI (rd + 1))), (3, .int (nI i))]) hF 2 dX2_parts_125 rfl (ii_1 _) (by decide) rfl ?_
        refine x_goto hF 25 dX2_parts_128 (by decide) ?_
        refine WW.lvs [0, 1, 2] rfl ?_
        have ei : i = 49 := by omega
        subst ei
        exact K pt1 hs
      · refine x_iload_n hF 3 dX2_parts_41 rfl rfl ?_
        refine x_bipush hF dX2_parts_42 kc_b7 ?_
        refine x_idiv hF dX2_parts_44 (by omega) (by omega) (by omega) ?_
        refine x_istore (lv' := [(0, .ref (h 0)), (1, .int (nI k)), (2, .int (nI rd)), (3, .int (nI i)), (4, .int (nI (i / 7)))]) hF dX2_parts_45 (by decide) rfl ?_
        refine x_iload_n hF 3 dX2_parts_47 rfl rfl ?_
        refine x_bipush hF dX2_parts_48 kc_b7 ?_
        refine x_irem hF dX2_parts_50 (by omega) (by omega) (by omega) ?_
        refine x_istore (lv' := [(0, .ref (h 0)), (1, .int (nI k)), (2, .int (nI rd)), (3, .int (nI i)), (4, .int (nI (i / 7))), (5, .int (nI (i % 7)))]) hF dX2_parts_51 (by decide) rfl ?_
        refine x_iload hF 4 dX2_parts_53 rfl ?_
        refine x_aload_n hF 0 dX2_parts_55 rfl rfl ?_
        refine x_get (ci := 1) (C := RX2) (T := TX2) (N := 6) (v := .int (nI n)) hF in_X2 0 rfl rfl 0 (by decide) q168 rfl rfl dX2_parts_56 ?_
        refine x_icmp_ge hF 119 dX2_parts_59 (by decide) (by omega) (by omega) (fun c_59 => ?_) (fun c_59 => ?_)
        · refine x_iinc (v := (nI (i + 1))) (lv' := [(0, .ref (h 0)), (1, .int (nI k)), (2, .int (nI rd)), (3, .int (nI (i + 1))), (4, .int (nI (i / 7))), (5, .int (nI (i % 7)))]) hF 3 dX2_parts_119 rfl (ii_1 _) (by decide) rfl ?_
          refine x_goto hF 35 dX2_parts_122 (by decide) ?_
          refine WW.lvs [0, 1, 2, 3] rfl ?_
          refine ih (i + 1) pt1 (by omega) (by omega) (sw_keep hs (fun y x hy hx hyx e9 hw => ?_))
          have ey : y = i / 7 ∧ x = i % 7 := by omega
          have hw2 : L (7 * y + x) ≤ k := hw
          rw [e9] at hw2
          rw [ey.1, ey.2]
          omega
        · refine x_iload hF 5 dX2_parts_62 rfl ?_
          refine x_aload_n hF 0 dX2_parts_64 rfl rfl ?_
          refine x_get (ci := 1) (C := RX2) (T := TX2) (N := 6) (v := .int (nI n)) hF in_X2 0 rfl rfl 0 (by decide) q168 rfl rfl dX2_parts_65 ?_
          refine x_icmp_ge hF 119 dX2_parts_68 (by decide) (by omega) (by omega) (fun c_68 => ?_) (fun c_68 => ?_)
          · refine x_iinc (v := (nI (i + 1))) (lv' := [(0, .ref (h 0)), (1, .int (nI k)), (2, .int (nI rd)), (3, .int (nI (i + 1))), (4, .int (nI (i / 7))), (5, .int (nI (i % 7)))]) hF 3 dX2_parts_119 rfl (ii_1 _) (by decide) rfl ?_
            refine x_goto hF 35 dX2_parts_122 (by decide) ?_
            refine WW.lvs [0, 1, 2, 3] rfl ?_
            refine ih (i + 1) pt1 (by omega) (by omega) (sw_keep hs (fun y x hy hx hyx e9 hw => ?_))
            have ey : y = i / 7 ∧ x = i % 7 := by omega
            have hw2 : L (7 * y + x) ≤ k := hw
            rw [e9] at hw2
            rw [ey.1, ey.2]
            omega
          · refine x_iload hF 4 dX2_parts_71 rfl ?_
            refine x_iload hF 5 dX2_parts_73 rfl ?_
            refine x_icmp_eq hF 119 dX2_parts_75 (by decide) (by omega) (by omega) (fun c_75 => ?_) (fun c_75 => ?_)
            · refine x_iinc (v := (nI (i + 1))) (lv' := [(0, .ref (h 0)), (1, .int (nI k)), (2, .int (nI rd)), (3, .int (nI (i + 1))), (4, .int (nI (i / 7))), (5, .int (nI (i % 7)))]) hF 3 dX2_parts_119 rfl (ii_1 _) (by decide) rfl ?_
              refine x_goto hF 35 dX2_parts_122 (by decide) ?_
              refine WW.lvs [0, 1, 2, 3] rfl ?_
              refine ih (i + 1) pt1 (by omega) (by omega) (sw_keep hs (fun y x hy hx hyx e9 hw => ?_))
              have ey : y = i / 7 ∧ x = i % 7 := by omega
              have hw2 : L (7 * y + x) ≤ k := hw
              rw [e9] at hw2
              rw [ey.1, ey.2]
              omega
            · refine x_aload_n hF 0 dX2_parts_78 rfl rfl ?_
              refine x_get (ci := 1) (C := RX2) (T := TX2) (N := 6) (v := .ref (h 1)) hF in_X2 0 rfl rfl 1 (by decide) q169 rfl rfl dX2_parts_79 ?_
              refine x_iload_n hF 3 dX2_parts_82 rfl rfl ?_
              refine x_iald hF 1 0 rfl rfl (by decide) (by omega) dX2_parts_83 ?_
              have hb_83 := hL.1 i
              refine x_iload_n hF 1 dX2_parts_84 rfl rfl ?_
              refine x_icmp_gt hF 119 dX2_parts_85 (by decide) (by omega) (by omega) (fun c_85 => ?_) (fun c_85 => ?_)
              · refine x_iinc (v := (nI (i + 1))) (lv' := [(0, .ref (h 0)), (1, .int (nI k)), (2, .int (nI rd)), (3, .int (nI (i + 1))), (4, .int (nI (i / 7))), (5, .int (nI (i % 7)))]) hF 3 dX2_parts_119 rfl (ii_1 _) (by decide) rfl ?_
                refine x_goto hF 35 dX2_parts_122 (by decide) ?_
                refine WW.lvs [0, 1, 2, 3] rfl ?_
                refine ih (i + 1) pt1 (by omega) (by omega) (sw_keep hs (fun y x hy hx hyx e9 hw => ?_))
                have ey : y = i / 7 ∧ x = i % 7 := by omega
                have hw2 : L (7 * y + x) ≤ k := hw
                rw [e9] at hw2
                rw [ey.1, ey.2]
                omega
              · refine x_aload_n hF 0 dX2_parts_88 rfl rfl ?_
                refine x_get (ci := 1) (C := RX2) (T := TX2) (N := 6) (v := .ref (h 4)) hF in_X2 0 rfl rfl 5 (by decide) q173 rfl rfl dX2_parts_89 ?_
                refine x_iload hF 5 dX2_parts_92 rfl ?_
                refine x_iald hF 4 3 rfl rfl (by decide) (by omega) dX2_parts_94 ?_
                have hb_94 := (hs.2.1 (i % 7) (by omega)).2
                refine x_aload_n hF 0 dX2_parts_95 rfl rfl ?_
                refine x_get (ci := 1) (C := RX2) (T := TX2) (N := 6) (v := .ref (h 4)) hF in_X2 0 rfl rfl 5 (by decide) q173 rfl rfl dX2_parts_96 ?_
                refine x_iload hF 4 dX2_parts_99 rfl ?_
                refine x_iald hF 4 3 rfl rfl (by decide) (by omega) dX2_parts_101 ?_
                have hb_101 := (hs.2.1 (i / 7) (by omega)).2
                refine x_icmp_ge hF 119 dX2_parts_102 (by decide) (by omega) (by omega) (fun c_102 => ?_) (fun c_102 => ?_)
                · refine x_iinc (v := (nI (i + 1))) (lv' := [(0, .ref (h 0)), (1, .int (nI k)), (2, .int (nI rd)), (3, .int (nI (i + 1))), (4, .int (nI (i / 7))), (5, .int (nI (i % 7)))]) hF 3 dX2_parts_119 rfl (ii_1 _) (by decide) rfl ?_
                  refine x_goto hF 35 dX2_parts_122 (by decide) ?_
                  refine WW.lvs [0, 1, 2, 3] rfl ?_
                  refine ih (i + 1) pt1 (by omega) (by omega) (sw_keep hs (fun y x hy hx hyx e9 hw => ?_))
                  have ey : y = i / 7 ∧ x = i % 7 := by omega
                  have hw2 : L (7 * y + x) ≤ k := hw
                  rw [e9] at hw2
                  rw [ey.1, ey.2]
                  omega
                · refine x_aload_n hF 0 dX2_parts_105 rfl rfl ?_
                  refine x_get (ci := 1) (C := RX2) (T := TX2) (N := 6) (v := .ref (h 4)) hF in_X2 0 rfl rfl 5 (by decide) q173 rfl rfl dX2_parts_106 ?_
                  refine x_iload hF 4 dX2_parts_109 rfl ?_
                  refine x_aload_n hF 0 dX2_parts_111 rfl rfl ?_
                  refine x_get (ci := 1) (C := RX2) (T := TX2) (N := 6) (v := .ref (h 4)) hF in_X2 0 rfl rfl 5 (by decide) q173 rfl rfl dX2_parts_112 ?_
                  refine x_iload hF 5 dX2_parts_115 rfl ?_
                  refine x_iald hF 4 3 rfl rfl (by decide) (by omega) dX2_parts_117 ?_
                  have hb_117 := (hs.2.1 (i % 7) (by omega)).2
                  refine x_iast (w' := wM h d n tr L T G (va_up pt1 (i / 7) (pt1 (i % 7)))) hF 4 3 rfl rfl (by decide) (by omega) rfl dX2_parts_118 ?_
                  refine x_iinc (v := (nI (i + 1))) (lv' := [(0, .ref (h 0)), (1, .int (nI k)), (2, .int (nI rd)), (3, .int (nI (i + 1))), (4, .int (nI (i / 7))), (5, .int (nI (i % 7)))]) hF 3 dX2_parts_119 rfl (ii_1 _) (by decide) rfl ?_
                  refine x_goto hF 35 dX2_parts_122 (by decide) ?_
                  refine WW.lvs [0, 1, 2, 3] rfl ?_
                  refine ih (i + 1) _ (by omega) (by omega) (sw_up hn hs (by omega) (by omega) c_75 hdm (show L (7 * (i / 7) + i % 7) ≤ k from by rw [hdm]; exact c_85) c_102)
  have loopB : ∀ (f rd : Nat) (pt1 : Nat → Nat), rd ≤ n → n + 1 ≤ rd + f → lab (mx L) n k pt1 → (rd + 1 ≤ ctn (fun u => pt1 u = mi (mx L) n k u) n ∨ ∀ u, u < n → pt1 u = mi (mx L) n k u) → WW p l e (rmr 0 0) s m args below meth c Q D A 6 0 0 (wM h d n tr L T G pt1) 25 [(0, .ref (h 0)), (1, .int (nI k)), (2, .int (nI rd))] [] := by
    intro f
    induction f with
    | zero =>
      intro rd pt1 hi hf hlab hset
      exact absurd (show False by omega) id
    | succ f ih =>
      intro rd pt1 hi hf hlab hset
      refine x_iload_n hF 2 dX2_parts_25 rfl rfl ?_
      refine x_aload_n hF 0 dX2_parts_26 rfl rfl ?_
      refine x_get (ci := 1) (C := RX2) (T := TX2) (N := 6) (v := .int (nI n)) hF in_X2 0 rfl rfl 0 (by decide) q168 rfl rfl dX2_parts_27 ?_
      refine x_icmp_ge hF 131 dX2_parts_30 (by decide) (by omega) (by omega) (fun c_30 => ?_) (fun c_30 => ?_)
      · refine x_iconst hF dX2_parts_131 kc_i0 ?_
        refine x_istore_n (lv' := [(0, .ref (h 0)), (1, .int (nI k)), (2, .int (nI 0))]) hF dX2_parts_132 rfl (by decide) rfl ?_
        refine x_iconst hF dX2_parts_133 kc_i0 ?_
        refine x_istore_n (lv' := [(0, .ref (h 0)), (1, .int (nI k)), (2, .int (nI 0)), (3, .int (nI 0))]) hF dX2_parts_134 rfl (by decide) rfl ?_
        have er : rd = n := by omega
        subst er
        exact loopD pt1 hlab (set_done hset) (rd + 1) 0 (by omega) (by omega)
      · refine x_iconst hF dX2_parts_33 kc_i0 ?_
        refine x_istore_n (lv' := [(0, .ref (h 0)), (1, .int (nI k)), (2, .int (nI rd)), (3, .int (nI 0))]) hF dX2_parts_34 rfl (by decide) rfl ?_
        exact loopC rd pt1 (fun pt2 hs2 => ih (rd + 1) pt2 (by omega) (by omega) hs2.2.1 (set_step (fun x y hx hy => hL.2 x y hx hy) hlab hs2.2.1 (sw_swp hn hs2) hset)) 50 0 pt1 (by omega) (by omega) ⟨fun _ => Nat.le_refl _, hlab, fun y x _ _ _ q => absurd q (Nat.not_lt_zero _)⟩
  have loopA : ∀ (f i : Nat) (pt1 : Nat → Nat), i ≤ n → n + 1 ≤ i + f → (∀ j, j < i → pt1 j = j) → WW p l e (rmr 0 0) s m args below meth c Q D A 6 0 0 (wM h d n tr L T G pt1) 2 [(0, .ref (h 0)), (1, .int (nI k)), (2, .int (nI i))] [] := by
    intro f
    induction f with
    | zero =>
      intro i pt1 hi hf hj
      exact absurd (show False by omega) id
    | succ f ih =>
      intro i pt1 hi hf hj
      refine x_iload_n hF 2 dX2_parts_2 rfl rfl ?_
      refine x_aload_n hF 0 dX2_parts_3 rfl rfl ?_
      refine x_get (ci := 1) (C := RX2) (T := TX2) (N := 6) (v := .int (nI n)) hF in_X2 0 rfl rfl 0 (by decide) q168 rfl rfl dX2_parts_4 ?_
      refine x_icmp_ge hF 23 dX2_parts_7 (by decide) (by omega) (by omega) (fun c_7 => ?_) (fun c_7 => ?_)
      · refine x_iconst hF dX2_parts_23 kc_i0 ?_
        refine x_istore_n (lv' := [(0, .ref (h 0)), (1, .int (nI k)), (2, .int (nI 0))]) hF dX2_parts_24 rfl (by decide) rfl ?_
        have ei : i = n := by omega
        subst ei
        exact loopB (i + 1) 0 pt1 (by omega) (by omega) (lab_0 hj) (set_0 (by omega) hj)
      · refine x_aload_n hF 0 dX2_parts_10 rfl rfl ?_
        refine x_get (ci := 1) (C := RX2) (T := TX2) (N := 6) (v := .ref (h 4)) hF in_X2 0 rfl rfl 5 (by decide) q173 rfl rfl dX2_parts_11 ?_
        refine x_iload_n hF 2 dX2_parts_14 rfl rfl ?_
        refine x_iload_n hF 2 dX2_parts_15 rfl rfl ?_
        refine x_iast (w' := wM h d n tr L T G (va_up pt1 i i)) hF 4 3 rfl rfl (by decide) (by omega) rfl dX2_parts_16 ?_
        refine x_iinc (v := (nI (i + 1))) (lv' := [(0, .ref (h 0)), (1, .int (nI k)), (2, .int (nI (i + 1)))]) hF 2 dX2_parts_17 rfl (ii_1 _) (by decide) rfl ?_
        refine x_goto hF 2 dX2_parts_20 (by decide) ?_
        exact ih (i + 1) _ (by omega) (by omega) (lt_s (fun j q => by rw [va_up_ne _ _ (by omega)]; exact hj j q) (va_up_self _ _ _))
  refine x_iconst hF dX2_parts_0 kc_i0 ?_
  refine x_istore_n (lv' := [(0, .ref (h 0)), (1, .int (nI k)), (2, .int (nI 0))]) hF dX2_parts_1 rfl (by decide) rfl ?_
  exact loopA (n + 1) 0 pt (by omega) (by omega) lt_0
theorem m2_reach (hn3 : 3 ≤ n) (hn : n ≤ 7) (hL : LOK n L) : MtI l yX2_reach cX2_reach 2 .int (rmr 1 25) D (tM d) [.ref (h 0)] (wM h d n tr L T G pt) (fun r w1 => ∃ (q : Nat) (pt' : Nat → Nat), r = nI q ∧ q ≤ 60 ∧ (q = 60 ∨ npt n L q = 1) ∧ (∀ j, j < q → ¬ npt n L j = 1) ∧ w1 = wM h d n tr L T G pt') := by
  refine MtI.of rfl (Nat.le_of_ble_eq_true rfl) ?_
  intro p e s m args below meth c Q A hF hret
  refine WW.cw (lv2 := [(0, .ref (h 0))]) rfl rfl rfl ?_
  have loop : ∀ (f i : Nat) (pt1 : Nat → Nat), i ≤ 60 → 61 ≤ i + f → (∀ j, j < i → ¬ npt n L j = 1) → WW p l e (rmr 1 25) s m args below meth c Q D A 2 0 0 (wM h d n tr L T G pt1) 2 [(0, .ref (h 0)), (1, .int (nI i))] [] := by
    intro f
    induction f with
    | zero =>
      intro i pt1 hi hf hj
      exact absurd (show False by omega) id
    | succ f ih =>
      intro i pt1 hi hf hj
      refine x_iload_n hF 1 dX2_reach_2 rfl rfl ?_
      refine x_bipush hF dX2_reach_3 kc_b60 ?_
      refine x_icmp_ge hF 25 dX2_reach_5 (by decide) (by omega) (by omega) (fun c_5 => ?_) (fun c_5 => ?_)
      · refine x_bipush hF dX2_reach_25 kc_b60 ?_
        have ei : i = 60 := by omega
        subst ei
        exact hret _ _ _ _ ⟨60, _, rfl, by omega, Or.inl rfl, hj, rfl⟩ rfl dX2_reach_27
      · refine x_aload_n hF 0 dX2_reach_8 rfl rfl ?_
        refine x_iload_n hF 1 dX2_reach_9 rfl rfl ?_
        refine x_calli (C := RX2) (T := TX2) (N := 6) (ci := 1) (q0 := 0) (b := h 0) (As := [.int (nI i)]) (rest := []) hF (m2_parts (k := i) hn3 hn hL (by omega)) 1 (lw_V q252 q254 qs20 q23 q255) rfl rfl (by decide +kernel) ⟨by decide, by decide⟩ rfl rfl rfl rfl (Nat.le_of_ble_eq_true rfl) dX2_reach_10 ⟨Nat.zero_le _, Nat.zero_le _⟩ (fun r_10 w_10 hp_10 => ?_)
        obtain ⟨pt', rfl, rfl⟩ := hp_10
        have hnp := npt_le (n := n) (k := i) (L := L)
        have hnq := npt_pos (n := n) (k := i) (L := L) (by omega)
        refine x_iconst hF dX2_reach_13 kc_i1 ?_
        refine x_icmp_ne hF 19 dX2_reach_14 (by decide) (by omega) (by omega) (fun c_14 => ?_) (fun c_14 => ?_)
        · refine x_iinc (v := (nI (i + 1))) (lv' := [(0, .ref (h 0)), (1, .int (nI (i + 1)))]) hF 1 dX2_reach_19 rfl (ii_1 _) (by decide) rfl ?_
          refine x_goto hF 2 dX2_reach_22 (by decide) ?_
          exact ih (i + 1) _ (by omega) (by omega) (lt_s hj c_14)
        · refine x_iload_n hF 1 dX2_reach_17 rfl rfl ?_
          exact hret _ _ _ _ ⟨i, _, rfl, hi, Or.inr c_14, hj, rfl⟩ rfl dX2_reach_18
  refine x_iconst hF dX2_reach_0 kc_i0 ?_
  refine x_istore_n (lv' := [(0, .ref (h 0)), (1, .int (nI 0))]) hF dX2_reach_1 rfl (by decide) rfl ?_
  exact loop 61 0 pt (by omega) (by omega) lt_0
theorem m2_net (hn3 : 3 ≤ n) (hn : n ≤ 7) (hL : LOK n L) : MtI l yX2_net cX2_net 3 .int (rmr 1 25) D (tM d) [.ref (h 0)] (wM h d n tr L T G pt) (fun r w1 => ∃ pt' : Nat → Nat, r = nI (sumK (fun k => npt n L k - 1) 60) ∧ w1 = wM h d n tr L T G pt') := by
  refine MtI.of rfl (Nat.le_of_ble_eq_true rfl) ?_
  intro p e s m args below meth c Q A hF hret
  refine WW.cw (lv2 := [(0, .ref (h 0))]) rfl rfl rfl ?_
  have loop : ∀ (f i : Nat) (pt1 : Nat → Nat), i ≤ 60 → 61 ≤ i + f → WW p l e (rmr 1 25) s m args below meth c Q D A 3 0 0 (wM h d n tr L T G pt1) 4 [(0, .ref (h 0)), (1, .int (nI (sumK (fun k => npt n L k - 1) i))), (2, .int (nI i))] [] := by
    intro f
    induction f with
    | zero =>
      intro i pt1 hi hf
      exact absurd (show False by omega) id
    | succ f ih =>
      intro i pt1 hi hf
      refine x_iload_n hF 2 dX2_net_4 rfl rfl ?_
      refine x_bipush hF dX2_net_5 kc_b60 ?_
      refine x_icmp_ge hF 26 dX2_net_7 (by decide) (by omega) (by omega) (fun c_7 => ?_) (fun c_7 => ?_)
      · refine x_iload_n hF 1 dX2_net_26 rfl rfl ?_
        have ei : i = 60 := by omega
        subst ei
        exact hret _ _ _ _ ⟨_, rfl, rfl⟩ rfl dX2_net_27
      · refine x_iload_n hF 1 dX2_net_10 rfl rfl ?_
        refine x_aload_n hF 0 dX2_net_11 rfl rfl ?_
        refine x_iload_n hF 2 dX2_net_12 rfl rfl ?_
        refine x_calli (C := RX2) (T := TX2) (N := 6) (ci := 1) (q0 := 0) (b := h 0) (As := [.int (nI i)]) (rest := [.int (nI (sumK (fun k => npt n L k - 1) i))]) hF (m2_parts (k := i) hn3 hn hL (by omega)) 1 (lw_V q252 q254 qs20 q23 q255) rfl rfl (by decide +kernel) ⟨by decide, by decide⟩ rfl rfl rfl rfl (Nat.le_of_ble_eq_true rfl) dX2_net_13 ⟨Nat.zero_le _, Nat.zero_le _⟩ (fun r_13 w_13 hp_13 => ?_)
        obtain ⟨pt', rfl, rfl⟩ := hp_13
        have hnp := npt_le (n := n) (k := i) (L := L)
        have hnq := npt_pos (n := n) (k := i) (L := L) (by omega)
        refine x_iconst hF dX2_net_16 kc_i1 ?_
        refine x_isub hF dX2_net_17 (by omega) ?_
        refine x_iadd hF dX2_net_18 ?_
        refine x_istore_n (lv' := [(0, .ref (h 0)), (1, .int (nI ((sumK (fun k => npt n L k - 1) i) + ((npt n L i) - 1)))), (2, .int (nI i))]) hF dX2_net_19 rfl (by decide) rfl ?_
        refine x_iinc (v := (nI (i + 1))) (lv' := [(0, .ref (h 0)), (1, .int (nI ((sumK (fun k => npt n L k - 1) i) + ((npt n L i) - 1)))), (2, .int (nI (i + 1)))]) hF 2 dX2_net_20 rfl (ii_1 _) (by decide) rfl ?_
        refine x_goto hF 4 dX2_net_23 (by decide) ?_
        exact ih (i + 1) _ (by omega) (by omega)
  refine x_iconst hF dX2_net_0 kc_i0 ?_
  refine x_istore_n (lv' := [(0, .ref (h 0)), (1, .int (nI 0))]) hF dX2_net_1 rfl (by decide) rfl ?_
  refine x_iconst hF dX2_net_2 kc_i0 ?_
  refine x_istore_n (lv' := [(0, .ref (h 0)), (1, .int (nI 0)), (2, .int (nI 0))]) hF dX2_net_3 rfl (by decide) rfl ?_
  exact loop 61 0 pt (by omega) (by omega)
theorem m2_shift (hn3 : 3 ≤ n) (hn : n ≤ 7) (hL : LOK n L) (u mo : Int32) : MtI l yX2_shift cX2_shift 7 .int (rmr 1 25) D (tM d) [.ref (h 0), .int u, .int mo] (wM h d n tr L T G pt) (fun r w1 => (¬ (twn n u ∧ ¬ mo < -60 ∧ mo ≤ nI 60) ∧ r = -1 ∧ w1 = wM h d n tr L T G pt) ∨ ∃ a : Nat, a < n ∧ u = nI a ∧ (¬ mo < -60 ∧ mo ≤ nI 60) ∧ r = nI (shf a mo.toInt L n).2 ∧ w1 = wM h d n tr ((shf a mo.toInt L n).1) T G pt) := by
  refine MtI.of rfl (Nat.le_of_ble_eq_true rfl) ?_
  intro p e s m args below meth c Q A hF hret
  refine WW.cw (lv2 := [(0, .ref (h 0)), (1, .int u), (2, .int mo)]) rfl rfl rfl ?_
  have loop : ¬ mo < -60 → mo ≤ nI 60 → ∀ a : Nat, u = nI a → a < n → ∀ (f i ci : Nat) (Li : Nat → Nat), i ≤ n → n + 1 ≤ i + f → Li = (shf a mo.toInt L i).1 → ci = (shf a mo.toInt L i).2 → WW p l e (rmr 1 25) s m args below meth c Q D A 7 0 0 (wM h d n tr Li T G pt) 27 [(0, .ref (h 0)), (1, .int (nI a)), (2, .int mo), (3, .int (nI ci)), (4, .int (nI i))] [] := by
    intro hm1 hm2 a hu ha
    intro f
    induction f with
    | zero =>
      intro i ci Li hi hf hLi hci
      exact absurd (show False by omega) id
    | succ f ih =>
      intro i ci Li hi hf hLi hci
      have hok := shf_ok (z := mo.toInt) hn hL ha i hi
      rw [← hLi] at hok
      have hcn := shf_cnt (a := a) (z := mo.toInt) (L := L) i
      rw [← hci] at hcn
      refine x_iload hF 4 dX2_shift_27 rfl ?_
      refine x_aload_n hF 0 dX2_shift_29 rfl rfl ?_
      refine x_get (ci := 1) (C := RX2) (T := TX2) (N := 6) (v := .int (nI n)) hF in_X2 0 rfl rfl 0 (by decide) q168 rfl rfl dX2_shift_30 ?_
      refine x_icmp_ge hF 112 dX2_shift_33 (by decide) (by omega) (by omega) (fun c_33 => ?_) (fun c_33 => ?_)
      · refine x_iload_n hF 3 dX2_shift_112 rfl rfl ?_
        have ei : i = n := by omega
        subst ei
        subst hLi
        subst hci
        exact hret _ _ _ _ (Or.inr ⟨a, ha, hu, ⟨hm1, hm2⟩, rfl, rfl⟩) rfl dX2_shift_113
      · refine x_iload hF 4 dX2_shift_36 rfl ?_
        refine x_iload_n hF 1 dX2_shift_38 rfl rfl ?_
        refine x_icmp_eq hF 106 dX2_shift_39 (by decide) (by omega) (by omega) (fun c_39 => ?_) (fun c_39 => ?_)
        · refine x_iinc (v := (nI (i + 1))) (lv' := [(0, .ref (h 0)), (1, .int (nI a)), (2, .int mo), (3, .int (nI ci)), (4, .int (nI (i + 1)))]) hF 4 dX2_shift_106 rfl (ii_1 _) (by decide) rfl ?_
          refine x_goto hF 27 dX2_shift_109 (by decide) ?_
          subst c_39
          exact ih (i + 1) ci Li (by omega) (by omega) (by rw [shf_same]; exact hLi) (by rw [shf_same]; exact hci)
        · refine x_aload_n hF 0 dX2_shift_42 rfl rfl ?_
          refine x_get (ci := 1) (C := RX2) (T := TX2) (N := 6) (v := .ref (h 1)) hF in_X2 0 rfl rfl 1 (by decide) q169 rfl rfl dX2_shift_43 ?_
          refine x_bipush hF dX2_shift_46 kc_b7 ?_
          refine x_iload_n hF 1 dX2_shift_48 rfl rfl ?_
          refine x_imul hF dX2_shift_49 ?_
          refine x_iload hF 4 dX2_shift_50 rfl ?_
          refine x_iadd hF dX2_shift_52 ?_
          refine x_iald hF 1 0 rfl rfl (by decide) (by omega) dX2_shift_53 ?_
          refine x_istore (lv' := [(0, .ref (h 0)), (1, .int (nI a)), (2, .int mo), (3, .int (nI ci)), (4, .int (nI i)), (5, .int (nI (Li ((7 * a) + i))))]) hF dX2_shift_54 (by decide) rfl ?_
          rcases clip_cases (hok.1 (7 * a + i)) hm1 hm2 with ⟨k1, kc⟩ | ⟨k1, k2, kc⟩ | ⟨k_, k1, k2, kc⟩
          all_goals have hLc := hok.1 (7 * a + i)
          · refine x_iload hF 5 dX2_shift_56 rfl ?_
            refine x_iload_n hF 2 dX2_shift_58 rfl rfl ?_
            refine x_iaddR (v := nI (Li (7 * a + i)) + mo) hF dX2_shift_59 rfl ?_
            refine x_if_geR hF 67 dX2_shift_60 (by decide) (fun c_60 => ?_) (fun c_60 => ?_)
            · exact absurd c_60 (Int32.not_le.mpr k1)
            · refine x_iconst hF dX2_shift_63 kc_i0 ?_
              refine x_goto hF 85 dX2_shift_64 (by decide) ?_
              refine x_istore (lv' := [(0, .ref (h 0)), (1, .int (nI a)), (2, .int mo), (3, .int (nI ci)), (4, .int (nI i)), (5, .int (nI (Li ((7 * a) + i)))), (6, .int (nI 0))]) hF dX2_shift_85 (by decide) rfl ?_
              refine x_iload hF 6 dX2_shift_87 rfl ?_
              refine x_iload hF 5 dX2_shift_89 rfl ?_
              refine x_icmp_eq hF 97 dX2_shift_91 (by decide) (by omega) (by omega) (fun c_91 => ?_) (fun c_91 => ?_)
              · refine x_aload_n hF 0 dX2_shift_97 rfl rfl ?_
                refine x_iload_n hF 1 dX2_shift_98 rfl rfl ?_
                refine x_iload hF 4 dX2_shift_99 rfl ?_
                refine x_iload hF 6 dX2_shift_101 rfl ?_
                refine x_callv (C := RX2) (T := TX2) (N := 6) (ci := 1) (q0 := 0) (b := h 0) (As := [.int (nI a), .int (nI i), .int (nI 0)]) (rest := []) hF (m2_put (L := Li) (a := a) (b := i) (k := 0) (by omega) (by omega)) 3 (lw_V q199 q201 qs14 q23 q202) rfl rfl (by decide +kernel) ⟨by decide, by decide⟩ rfl rfl rfl rfl (Nat.le_of_ble_eq_true rfl) dX2_shift_103 ⟨Nat.zero_le _, Nat.zero_le _⟩ (fun w_103 hp_103 => ?_)
                obtain rfl := hp_103
                refine x_iinc (v := (nI (i + 1))) (lv' := [(0, .ref (h 0)), (1, .int (nI a)), (2, .int mo), (3, .int (nI ci)), (4, .int (nI (i + 1))), (5, .int (nI (Li ((7 * a) + i)))), (6, .int (nI 0))]) hF 4 dX2_shift_106 rfl (ii_1 _) (by decide) rfl ?_
                refine x_goto hF 27 dX2_shift_109 (by decide) ?_
                refine WW.lvs [0, 1, 2, 3, 4] rfl ?_
                exact ih (i + 1) ci (up2 Li a i 0) (by omega) (by omega) (by rw [shf_new (fun q => c_39 q), ← hLi]; show _ = up2 Li a i (clip _); rw [kc]) (by rw [shf_new (fun q => c_39 q), ← hLi, ← hci]; show _ = (if clip _ = _ then ci else ci + 1); rw [kc, if_pos c_91])
              · refine x_iinc (v := (nI (ci + 1))) (lv' := [(0, .ref (h 0)), (1, .int (nI a)), (2, .int mo), (3, .int (nI (ci + 1))), (4, .int (nI i)), (5, .int (nI (Li ((7 * a) + i)))), (6, .int (nI 0))]) hF 3 dX2_shift_94 rfl (ii_1 _) (by decide) rfl ?_
                refine x_aload_n hF 0 dX2_shift_97 rfl rfl ?_
                refine x_iload_n hF 1 dX2_shift_98 rfl rfl ?_
                refine x_iload hF 4 dX2_shift_99 rfl ?_
                refine x_iload hF 6 dX2_shift_101 rfl ?_
                refine x_callv (C := RX2) (T := TX2) (N := 6) (ci := 1) (q0 := 0) (b := h 0) (As := [.int (nI a), .int (nI i), .int (nI 0)]) (rest := []) hF (m2_put (L := Li) (a := a) (b := i) (k := 0) (by omega) (by omega)) 3 (lw_V q199 q201 qs14 q23 q202) rfl rfl (by decide +kernel) ⟨by decide, by decide⟩ rfl rfl rfl rfl (Nat.le_of_ble_eq_true rfl) dX2_shift_103 ⟨Nat.zero_le _, Nat.zero_le _⟩ (fun w_103 hp_103 => ?_)
                obtain rfl := hp_103
                refine x_iinc (v := (nI (i + 1))) (lv' := [(0, .ref (h 0)), (1, .int (nI a)), (2, .int mo), (3, .int (nI (ci + 1))), (4, .int (nI (i + 1))), (5, .int (nI (Li ((7 * a) + i)))), (6, .int (nI 0))]) hF 4 dX2_shift_106 rfl (ii_1 _) (by decide) rfl ?_
                refine x_goto hF 27 dX2_shift_109 (by decide) ?_
                refine WW.lvs [0, 1, 2, 3, 4] rfl ?_
                exact ih (i + 1) (ci + 1) (up2 Li a i 0) (by omega) (by omega) (by rw [shf_new (fun q => c_39 q), ← hLi]; show _ = up2 Li a i (clip _); rw [kc]) (by rw [shf_new (fun q => c_39 q), ← hLi, ← hci]; show _ = (if clip _ = _ then ci else ci + 1); rw [kc, if_neg c_91])
          · refine x_iload hF 5 dX2_shift_56 rfl ?_
            refine x_iload_n hF 2 dX2_shift_58 rfl rfl ?_
            refine x_iaddR (v := nI (Li (7 * a + i)) + mo) hF dX2_shift_59 rfl ?_
            refine x_if_geR hF 67 dX2_shift_60 (by decide) (fun c_60 => ?_) (fun c_60 => ?_)
            · refine x_iload hF 5 dX2_shift_67 rfl ?_
              refine x_iload_n hF 2 dX2_shift_69 rfl rfl ?_
              refine x_iaddR (v := nI (Li (7 * a + i)) + mo) hF dX2_shift_70 rfl ?_
              refine x_bipush hF dX2_shift_71 kc_b60 ?_
              refine x_icmp_leR hF 81 dX2_shift_73 (by decide) (fun c_73 => ?_) (fun c_73 => ?_)
              · exact absurd c_73 (Int32.not_le.mpr k2)
              · refine x_bipush hF dX2_shift_76 kc_b60 ?_
                refine x_goto hF 85 dX2_shift_78 (by decide) ?_
                refine x_istore (lv' := [(0, .ref (h 0)), (1, .int (nI a)), (2, .int mo), (3, .int (nI ci)), (4, .int (nI i)), (5, .int (nI (Li ((7 * a) + i)))), (6, .int (nI 60))]) hF dX2_shift_85 (by decide) rfl ?_
                refine x_iload hF 6 dX2_shift_87 rfl ?_
                refine x_iload hF 5 dX2_shift_89 rfl ?_
                refine x_icmp_eq hF 97 dX2_shift_91 (by decide) (by omega) (by omega) (fun c_91 => ?_) (fun c_91 => ?_)
                · refine x_aload_n hF 0 dX2_shift_97 rfl rfl ?_
                  refine x_iload_n hF 1 dX2_shift_98 rfl rfl ?_
                  refine x_iload hF 4 dX2_shift_99 rfl ?_
                  refine x_iload hF 6 dX2_shift_101 rfl ?_
                  refine x_callv (C := RX2) (T := TX2) (N := 6) (ci := 1) (q0 := 0) (b := h 0) (As := [.int (nI a), .int (nI i), .int (nI 60)]) (rest := []) hF (m2_put (L := Li) (a := a) (b := i) (k := 60) (by omega) (by omega)) 3 (lw_V q199 q201 qs14 q23 q202) rfl rfl (by decide +kernel) ⟨by decide, by decide⟩ rfl rfl rfl rfl (Nat.le_of_ble_eq_true rfl) dX2_shift_103 ⟨Nat.zero_le _, Nat.zero_le _⟩ (fun w_103 hp_103 => ?_)
                  obtain rfl := hp_103
                  refine x_iinc (v := (nI (i + 1))) (lv' := [(0, .ref (h 0)), (1, .int (nI a)), (2, .int mo), (3, .int (nI ci)), (4, .int (nI (i + 1))), (5, .int (nI (Li ((7 * a) + i)))), (6, .int (nI 60))]) hF 4 dX2_shift_106 rfl (ii_1 _) (by decide) rfl ?_
                  refine x_goto hF 27 dX2_shift_109 (by decide) ?_
                  refine WW.lvs [0, 1, 2, 3, 4] rfl ?_
                  exact ih (i + 1) ci (up2 Li a i 60) (by omega) (by omega) (by rw [shf_new (fun q => c_39 q), ← hLi]; show _ = up2 Li a i (clip _); rw [kc]) (by rw [shf_new (fun q => c_39 q), ← hLi, ← hci]; show _ = (if clip _ = _ then ci else ci + 1); rw [kc, if_pos c_91])
                · refine x_iinc (v := (nI (ci + 1))) (lv' := [(0, .ref (h 0)), (1, .int (nI a)), (2, .int mo), (3, .int (nI (ci + 1))), (4, .int (nI i)), (5, .int (nI (Li ((7 * a) + i)))), (6, .int (nI 60))]) hF 3 dX2_shift_94 rfl (ii_1 _) (by decide) rfl ?_
                  refine x_aload_n hF 0 dX2_shift_97 rfl rfl ?_
                  refine x_iload_n hF 1 dX2_shift_98 rfl rfl ?_
                  refine x_iload hF 4 dX2_shift_99 rfl ?_
                  refine x_iload hF 6 dX2_shift_101 rfl ?_
                  refine x_callv (C := RX2) (T := TX2) (N := 6) (ci := 1) (q0 := 0) (b := h 0) (As := [.int (nI a), .int (nI i), .int (nI 60)]) (rest := []) hF (m2_put (L := Li) (a := a) (b := i) (k := 60) (by omega) (by omega)) 3 (lw_V q199 q201 qs14 q23 q202) rfl rfl (by decide +kernel) ⟨by decide, by decide⟩ rfl rfl rfl rfl (Nat.le_of_ble_eq_true rfl) dX2_shift_103 ⟨Nat.zero_le _, Nat.zero_le _⟩ (fun w_103 hp_103 => ?_)
                  obtain rfl := hp_103
                  refine x_iinc (v := (nI (i + 1))) (lv' := [(0, .ref (h 0)), (1, .int (nI a)), (2, .int mo), (3, .int (nI (ci + 1))), (4, .int (nI (i + 1))), (5, .int (nI (Li ((7 * a) + i)))), (6, .int (nI 60))]) hF 4 dX2_shift_106 rfl (ii_1 _) (by decide) rfl ?_
                  refine x_goto hF 27 dX2_shift_109 (by decide) ?_
                  refine WW.lvs [0, 1, 2, 3, 4] rfl ?_
                  exact ih (i + 1) (ci + 1) (up2 Li a i 60) (by omega) (by omega) (by rw [shf_new (fun q => c_39 q), ← hLi]; show _ = up2 Li a i (clip _); rw [kc]) (by rw [shf_new (fun q => c_39 q), ← hLi, ← hci]; show _ = (if clip _ = _ then ci else ci + 1); rw [kc, if_neg c_91])
            · exact absurd (Int32.not_lt.mp k1) c_60
          · refine x_iload hF 5 dX2_shift_56 rfl ?_
            refine x_iload_n hF 2 dX2_shift_58 rfl rfl ?_
            refine x_iaddR (v := nI k_) hF dX2_shift_59 k2 ?_
            refine x_if_ge hF 67 dX2_shift_60 (by decide) (by omega) ?_
            refine x_iload hF 5 dX2_shift_67 rfl ?_
            refine x_iload_n hF 2 dX2_shift_69 rfl rfl ?_
            refine x_iaddR (v := nI k_) hF dX2_shift_70 k2 ?_
            refine x_bipush hF dX2_shift_71 kc_b60 ?_
            refine x_icmp_le hF 81 dX2_shift_73 (by decide) (by omega) (by omega) (fun c_73 => ?_) (fun c_73 => ?_)
            · refine x_iload hF 5 dX2_shift_81 rfl ?_
              refine x_iload_n hF 2 dX2_shift_83 rfl rfl ?_
              refine x_iaddR (v := nI k_) hF dX2_shift_84 k2 ?_
              refine x_istore (lv' := [(0, .ref (h 0)), (1, .int (nI a)), (2, .int mo), (3, .int (nI ci)), (4, .int (nI i)), (5, .int (nI (Li ((7 * a) + i)))), (6, .int (nI k_))]) hF dX2_shift_85 (by decide) rfl ?_
              refine x_iload hF 6 dX2_shift_87 rfl ?_
              refine x_iload hF 5 dX2_shift_89 rfl ?_
              refine x_icmp_eq hF 97 dX2_shift_91 (by decide) (by omega) (by omega) (fun c_91 => ?_) (fun c_91 => ?_)
              · refine x_aload_n hF 0 dX2_shift_97 rfl rfl ?_
                refine x_iload_n hF 1 dX2_shift_98 rfl rfl ?_
                refine x_iload hF 4 dX2_shift_99 rfl ?_
                refine x_iload hF 6 dX2_shift_101 rfl ?_
                refine x_callv (C := RX2) (T := TX2) (N := 6) (ci := 1) (q0 := 0) (b := h 0) (As := [.int (nI a), .int (nI i), .int (nI k_)]) (rest := []) hF (m2_put (L := Li) (a := a) (b := i) (k := k_) (by omega) (by omega)) 3 (lw_V q199 q201 qs14 q23 q202) rfl rfl (by decide +kernel) ⟨by decide, by decide⟩ rfl rfl rfl rfl (Nat.le_of_ble_eq_true rfl) dX2_shift_103 ⟨Nat.zero_le _, Nat.zero_le _⟩ (fun w_103 hp_103 => ?_)
                obtain rfl := hp_103
                refine x_iinc (v := (nI (i + 1))) (lv' := [(0, .ref (h 0)), (1, .int (nI a)), (2, .int mo), (3, .int (nI ci)), (4, .int (nI (i + 1))), (5, .int (nI (Li ((7 * a) + i)))), (6, .int (nI k_))]) hF 4 dX2_shift_106 rfl (ii_1 _) (by decide) rfl ?_
                refine x_goto hF 27 dX2_shift_109 (by decide) ?_
                refine WW.lvs [0, 1, 2, 3, 4] rfl ?_
                exact ih (i + 1) ci (up2 Li a i k_) (by omega) (by omega) (by rw [shf_new (fun q => c_39 q), ← hLi]; show _ = up2 Li a i (clip _); rw [kc]) (by rw [shf_new (fun q => c_39 q), ← hLi, ← hci]; show _ = (if clip _ = _ then ci else ci + 1); rw [kc, if_pos c_91])
              · refine x_iinc (v := (nI (ci + 1))) (lv' := [(0, .ref (h 0)), (1, .int (nI a)), (2, .int mo), (3, .int (nI (ci + 1))), (4, .int (nI i)), (5, .int (nI (Li ((7 * a) + i)))), (6, .int (nI k_))]) hF 3 dX2_shift_94 rfl (ii_1 _) (by decide) rfl ?_
                refine x_aload_n hF 0 dX2_shift_97 rfl rfl ?_
                refine x_iload_n hF 1 dX2_shift_98 rfl rfl ?_
                refine x_iload hF 4 dX2_shift_99 rfl ?_
                refine x_iload hF 6 dX2_shift_101 rfl ?_
                refine x_callv (C := RX2) (T := TX2) (N := 6) (ci := 1) (q0 := 0) (b := h 0) (As := [.int (nI a), .int (nI i), .int (nI k_)]) (rest := []) hF (m2_put (L := Li) (a := a) (b := i) (k := k_) (by omega) (by omega)) 3 (lw_V q199 q201 qs14 q23 q202) rfl rfl (by decide +kernel) ⟨by decide, by decide⟩ rfl rfl rfl rfl (Nat.le_of_ble_eq_true rfl) dX2_shift_103 ⟨Nat.zero_le _, Nat.zero_le _⟩ (fun w_103 hp_103 => ?_)
                obtain rfl := hp_103
                refine x_iinc (v := (nI (i + 1))) (lv' := [(0, .ref (h 0)), (1, .int (nI a)), (2, .int mo), (3, .int (nI (ci + 1))), (4, .int (nI (i + 1))), (5, .int (nI (Li ((7 * a) + i)))), (6, .int (nI k_))]) hF 4 dX2_shift_106 rfl (ii_1 _) (by decide) rfl ?_
                refine x_goto hF 27 dX2_shift_109 (by decide) ?_
                refine WW.lvs [0, 1, 2, 3, 4] rfl ?_
                exact ih (i + 1) (ci + 1) (up2 Li a i k_) (by omega) (by omega) (by rw [shf_new (fun q => c_39 q), ← hLi]; show _ = up2 Li a i (clip _); rw [kc]) (by rw [shf_new (fun q => c_39 q), ← hLi, ← hci]; show _ = (if clip _ = _ then ci else ci + 1); rw [kc, if_neg c_91])
            · omega
  refine x_aload_n hF 0 dX2_shift_0 rfl rfl ?_
  refine x_iload_n hF 1 dX2_shift_1 rfl rfl ?_
  refine x_calli (C := RX2) (T := TX2) (N := 6) (ci := 1) (q0 := 0) (b := h 0) (As := [.int u]) (rest := []) hF (m2_isTown hn u) 1 (lw_V q195 q197 qs13 q23 q198) rfl rfl (by decide +kernel) ⟨by decide, by decide⟩ rfl rfl rfl rfl (Nat.le_of_ble_eq_true rfl) dX2_shift_2 ⟨Nat.zero_le _, Nat.zero_le _⟩ (fun r_2 w_2 hp_2 => ?_)
  obtain ⟨rfl, hp_2⟩ := hp_2
  rcases hp_2 with ⟨rfl, t_2⟩ | ⟨rfl, t_2⟩
  · obtain ⟨a_, ha_, eu⟩ := id t_2
    rw [eu]
    refine x_if_eq hF 20 dX2_shift_5 (by decide) (by omega) (fun c_5 => ?_) (fun c_5 => ?_)
    · omega
    · refine x_iload_n hF 2 dX2_shift_8 rfl rfl ?_
      refine x_bipush hF dX2_shift_9 kc_bm60 ?_
      refine x_icmp_ltR hF 20 dX2_shift_11 (by decide) (fun c_11 => ?_) (fun c_11 => ?_)
      · refine x_iconst hF dX2_shift_20 kc_im1 ?_
        exact hret _ _ _ _ (Or.inl ⟨fun q => by first | exact t_2 q.1 | exact q.2.1 c_11 | exact c_17 q.2.2, rfl, rfl⟩) rfl dX2_shift_21
      · refine x_iload_n hF 2 dX2_shift_14 rfl rfl ?_
        refine x_bipush hF dX2_shift_15 kc_b60 ?_
        refine x_icmp_leR hF 22 dX2_shift_17 (by decide) (fun c_17 => ?_) (fun c_17 => ?_)
        · refine x_iconst hF dX2_shift_22 kc_i0 ?_
          refine x_istore_n (lv' := [(0, .ref (h 0)), (1, .int (nI a_)), (2, .int mo), (3, .int (nI 0))]) hF dX2_shift_23 rfl (by decide) rfl ?_
          refine x_iconst hF dX2_shift_24 kc_i0 ?_
          refine x_istore (lv' := [(0, .ref (h 0)), (1, .int (nI a_)), (2, .int mo), (3, .int (nI 0)), (4, .int (nI 0))]) hF dX2_shift_25 (by decide) rfl ?_
          exact loop c_11 c_17 a_ eu ha_ (n + 1) 0 0 L (by omega) (by omega) rfl rfl
        · refine x_iconst hF dX2_shift_20 kc_im1 ?_
          exact hret _ _ _ _ (Or.inl ⟨fun q => by first | exact t_2 q.1 | exact q.2.1 c_11 | exact c_17 q.2.2, rfl, rfl⟩) rfl dX2_shift_21
  · refine x_if_eq hF 20 dX2_shift_5 (by decide) (by omega) (fun c_5 => ?_) (fun c_5 => ?_)
    · refine x_iconst hF dX2_shift_20 kc_im1 ?_
      exact hret _ _ _ _ (Or.inl ⟨fun q => by first | exact t_2 q.1 | exact q.2.1 c_11 | exact c_17 q.2.2, rfl, rfl⟩) rfl dX2_shift_21
    · omega
end
end
section
/-! PURE: the table of trips, level by level -/
def nlev (n : Nat) (l : List (List Nat)) : List (List Nat) := l.flatMap (fun p => (nxt n 0 p).map (fun v => p ++ [v]))
def gst (n : Nat) (lev : List (List Nat)) (e : Nat) : List (List Nat) := if (lev.getD (e / n) []).contains (e % n) then [] else [lev.getD (e / n) [] ++ [e % n]]
def acc (n : Nat) (lev : List (List Nat)) : Nat → List (List Nat)
  | 0 => []
  | e + 1 => acc n lev e ++ gst n lev e
theorem acc_mono {n : Nat} {lev : List (List Nat)} {e : Nat} : ∀ k, (acc n lev e).length ≤ (acc n lev (e + k)).length
  | 0 => Nat.le_refl _
  | k + 1 => by
    have := acc_mono (n := n) (lev := lev) (e := e) k
    show _ ≤ (acc n lev (e + k) ++ gst n lev (e + k)).length
    rw [List.length_append]
    omega
theorem acc_row {n : Nat} {lev : List (List Nat)} {t : Nat} {p : List Nat} (hn : 0 < n) (hp : lev[t]? = some p) : ∀ j, j ≤ n → acc n lev (t * n + j) = acc n lev (t * n) ++ ((List.range j).filter (fun x => !(p.contains x))).map (fun v => p ++ [v])
  | 0, _ => by simp
  | j + 1, hj => by
    have ih := acc_row hn hp j (by omega)
    show acc n lev (t * n + j) ++ gst n lev (t * n + j) = _
    have e1 : (t * n + j) / n = t := by
      rw [Nat.mul_comm, Nat.mul_add_div hn, Nat.div_eq_of_lt (by omega), Nat.add_zero]
    have e2 : (t * n + j) % n = j := by
      rw [Nat.mul_comm, Nat.mul_add_mod, Nat.mod_eq_of_lt (by omega)]
    have e3 : lev.getD t [] = p := by rw [List.getD_eq_getElem?_getD, hp]; rfl
    rw [ih, List.range_succ, List.filter_append, List.map_append, List.append_assoc]
    congr 1
    congr 1
    unfold gst
    rw [e1, e2, e3]
    by_cases h : p.contains j = true
    · rw [if_pos h]
      simp only [List.filter_cons, List.filter_nil, h]
      rfl
    · rw [if_neg h]
      have h : p.contains j = false := by simpa using h
      simp only [List.filter_cons, List.filter_nil, h]
      rfl
theorem nxt_eq {n : Nat} {p : List Nat} (h0 : 0 ∈ p) : nxt n 0 p = (List.range n).filter (fun x => !(p.contains x)) := by
  unfold nxt
  refine List.filter_congr (fun x _ => ?_)
  by_cases h : x ∈ p
  · simp [h]
  · have : ¬ x = 0 := fun q => h (by rw [q]; exact h0)
    simp [this]
theorem acc_take {n : Nat} {lev : List (List Nat)} (hn : 0 < n) (h0 : ∀ p, p ∈ lev → 0 ∈ p) : ∀ t, t ≤ lev.length → acc n lev (t * n) = nlev n (lev.take t)
  | 0, _ => by simp [acc, nlev]
  | t + 1, ht => by
    have ih := acc_take hn h0 t (by omega)
    have hp : lev[t]? = some lev[t] := List.getElem?_eq_getElem (by omega)
    have e := acc_row hn hp n (Nat.le_refl _)
    rw [show (t + 1) * n = t * n + n from Nat.succ_mul t n, e, ih, List.take_add_one, hp]
    unfold nlev
    rw [List.flatMap_append]
    congr 1
    show _ = List.flatMap _ [lev[t]]
    rw [List.flatMap_cons, List.flatMap_nil, List.append_nil, nxt_eq (h0 _ (List.mem_of_getElem? hp))]
theorem acc_all {n : Nat} {lev : List (List Nat)} (hn : 0 < n) (h0 : ∀ p, p ∈ lev → 0 ∈ p) : acc n lev (lev.length * n) = nlev n lev := by
  rw [acc_take hn h0 _ (Nat.le_refl _), List.take_length]
/-- rows of the table -/
def RW (sz : Nat) (l : List (List Nat)) (G : Nat → Nat) : Prop := ∀ (j : Nat) (p : List Nat), l[j]? = some p → p.length = sz ∧ ∀ k : Nat, k < sz → p[k]? = some (G (7 * j + k))
theorem rw_mem {sz t v : Nat} {lev : List (List Nat)} {T : Nat → Nat} {p : List Nat} (h : RW sz lev T) (hp : lev[t]? = some p) : p.contains v = true ↔ ∃ j, j < sz ∧ T (7 * t + j) = v := by
  have h2 := h t p hp
  rw [List.contains_iff_mem]
  constructor
  · intro hv
    obtain ⟨j, hj⟩ := List.getElem?_of_mem hv
    have hjl : j < sz := by rw [← h2.1]; exact (List.getElem?_eq_some_iff.mp hj).1
    refine ⟨j, hjl, ?_⟩
    rw [h2.2 j hjl] at hj
    exact Option.some.inj hj
  · rintro ⟨j, hj, e⟩
    have := h2.2 j hj
    rw [e] at this
    exact List.mem_of_getElem? this
theorem rw_add {sz t v : Nat} {lev l : List (List Nat)} {T G1 G2 : Nat → Nat} {p : List Nat} (hs : sz < 7) (h : RW sz lev T) (hp : lev[t]? = some p) (h1 : RW (sz + 1) l G1) (h2 : ∀ j, j < sz → G2 (7 * l.length + j) = T (7 * t + j)) (h3 : ∀ x, x < 7 * l.length → G2 x = G1 x) : RW (sz + 1) (l ++ [p ++ [v]]) (va_up G2 (7 * l.length + sz) v) := by
  intro j q hq
  have hpl := h t p hp
  rcases Nat.lt_or_ge j l.length with hj | hj
  · rw [List.getElem?_append_left hj] at hq
    have := h1 j q hq
    refine ⟨this.1, fun k hk => ?_⟩
    rw [this.2 k hk, va_up_ne _ _ (by omega), h3 _ (by omega)]
  · rw [List.getElem?_append_right hj] at hq
    have e0 : j - l.length = 0 := by
      rcases Nat.eq_zero_or_pos (j - l.length) with e | e
      · exact e
      · rw [List.getElem?_eq_none (by simp; omega)] at hq; cases hq
    rw [e0] at hq
    have eq : q = p ++ [v] := by simpa using hq.symm
    have ej : j = l.length := by omega
    rw [eq, ej]
    refine ⟨by simp [hpl.1], fun k hk => ?_⟩
    by_cases e : k = sz
    · rw [e, va_up_self, List.getElem?_append_right (by rw [hpl.1]; exact Nat.le_refl _), hpl.1, Nat.sub_self]
      rfl
    · rw [va_up_ne _ _ (by omega), h2 k (by omega), List.getElem?_append_left (by rw [hpl.1]; omega), hpl.2 k (by omega)]
theorem rw_congr {sz : Nat} {l : List (List Nat)} {G1 G2 : Nat → Nat} (hs : sz ≤ 7) (h : RW sz l G1) (he : ∀ x, x < 7 * l.length → G2 x = G1 x) : RW sz l G2 := by
  intro j p hp
  have hj : j < l.length := (List.getElem?_eq_some_iff.mp hp).1
  refine ⟨(h j p hp).1, fun k hk => ?_⟩
  rw [(h j p hp).2 k hk, he _ (by omega)]
-- the levels
def itl (n : Nat) : Nat → List (List Nat) → List (List Nat)
  | 0, l => l
  | m + 1, l => itl n m (nlev n l)
theorem itl_cmp (n : Nat) : ∀ (m : Nat) (l : List (List Nat)), itl n m l = l.flatMap (cmp n 0 m)
  | 0, l => by
    show l = l.flatMap (fun p => [p])
    simp
  | m + 1, l => by
    show itl n m (nlev n l) = _
    rw [itl_cmp n m (nlev n l)]
    unfold nlev
    rw [List.flatMap_assoc]
    congr 1
    funext p
    rw [List.flatMap_map]
    rfl
theorem itl_succ (n : Nat) : ∀ (m : Nat) (l : List (List Nat)), itl n (m + 1) l = nlev n (itl n m l)
  | 0, _ => rfl
  | m + 1, l => itl_succ n m (nlev n l)
theorem itl_0 (n m : Nat) : itl n m [[0]] = cmp n 0 m [0] := by
  rw [itl_cmp]
  simp
theorem len_720 : ∀ n, n < 8 → ∀ m, m < 7 → (cmp n 0 m [0]).length ≤ 720 := by decide +kernel
theorem itl_len {n m : Nat} (hn : n ≤ 7) (hm : m < 7) : (itl n m [[0]]).length ≤ 720 := by
  rw [itl_0]
  exact len_720 n (by omega) m hm
theorem itl_in {n m : Nat} : ∀ p, p ∈ itl n m [[0]] → 0 ∈ p := by
  intro p hp
  rw [itl_0] at hp
  obtain ⟨q, e, _⟩ := cmp_app hp
  rw [e]
  simp
theorem rw_0 {n0 : Nat} : RW 1 (itl n0 0 [[0]]) (fun _ => 0) := by
  intro j p hp
  cases j with
  | zero =>
    cases hp
    exact ⟨rfl, fun k hk => by rw [show k = 0 by omega]; rfl⟩
  | succ j =>
    exfalso
    have : ([[0]] : List (List Nat))[j + 1]? = some p := hp
    simp at this
theorem tb_of {n tr : Nat} {T : Nat → Nat} (hn3 : 3 ≤ n) (hn : n ≤ 7) (ht : tr = (itl n (n - 1) [[0]]).length) (h : RW n (itl n (n - 1) [[0]]) T) : TB n tr T := by
  have hl := itl_len (m := n - 1) hn (by omega)
  rw [itl_0] at ht h hl
  refine ⟨ht, by rw [ht]; exact hl, fun t htt => ?_⟩
  have hp : (cmp n 0 (n - 1) [0])[t]? = some (row n t) := by
    unfold row trs
    rw [List.getD_eq_getElem?_getD, List.getElem?_eq_getElem (by omega)]
    rfl
  have h1 := h t _ hp
  have h2 := cmp_lt (show 0 < n by omega) (List.mem_of_getElem? hp)
  refine ⟨h1.1, h1.2, h2.1, ?_, by omega⟩
  obtain ⟨q, e, _⟩ := cmp_app (List.mem_of_getElem? hp)
  have h3 := h1.2 0 (by omega)
  rw [e] at h3
  have h4 : some 0 = some (T (7 * t + 0)) := h3
  exact (Option.some.inj h4).symm
theorem itl_lt {n m : Nat} (hn : 0 < n) : ∀ p, p ∈ itl n m [[0]] → ∀ x, x ∈ p → x < n := by
  intro p hp
  rw [itl_0] at hp
  exact (cmp_lt hn hp).1
end
section
/-! TourSolverModel: lengthen, its constructor (printed by a program, wip/D-64046w/src) -/
set_option maxRecDepth 100000
section
variable {l : Launch} {D : va_G} {h : Nat → Nat} {d : Nat → ClassId} {n tr : Nat} {L T G pt : Nat → Nat}
theorem m2_lengthen {sz : Nat} {lev : List (List Nat)} (hn3 : 3 ≤ n) (hn : n ≤ 7) (hs : sz < n) (htr : tr = lev.length) (h1 : lev.length ≤ 720) (h2 : (nlev n lev).length ≤ 720) (hRW : RW sz lev T) (h0 : ∀ p, p ∈ lev → 0 ∈ p) (hlt : ∀ p, p ∈ lev → ∀ x, x ∈ p → x < n) : MtV l yX2_lengthen cX2_lengthen 7 (rmr 0 0) D (tM d) [.ref (h 0), .int (nI sz)] (wM h d n tr L T G pt) (fun w1 => ∃ T' G' : Nat → Nat, RW (sz + 1) (nlev n lev) T' ∧ w1 = wM h d n ((nlev n lev).length) L T' G' pt) := by
  refine MtV.of rfl (Nat.le_of_ble_eq_true rfl) ?_
  intro p e s m args below meth c Q A hF hret
  refine WW.cw (lv2 := [(0, .ref (h 0)), (1, .int (nI sz))]) rfl rfl rfl ?_
  have hn0 : 0 < n := by omega
  have hTb : ∀ t j, t < tr → j < sz → T (7 * t + j) < 2147483648 := fun t j ht hj => by
    have hp : lev[t]? = some lev[t] := List.getElem?_eq_getElem (by omega)
    have := hlt _ (List.mem_of_getElem? hp) _ (List.mem_of_getElem? ((hRW t _ hp).2 j hj))
    omega
  have htn : tr * n ≤ 720 * 7 := Nat.mul_le_mul (by omega) hn
  have hall : acc n lev (tr * n) = nlev n lev := by rw [htr]; exact acc_all hn0 h0
  have hle : ∀ e, e ≤ tr * n → (acc n lev e).length ≤ 720 := fun e he => by
    have q := acc_mono (n := n) (lev := lev) (e := e) (tr * n - e)
    rw [show e + (tr * n - e) = tr * n by omega, hall] at q
    omega
  have loopE : ∀ (G1 : Nat → Nat), RW (sz + 1) (nlev n lev) G1 → ∀ (f i : Nat) (T1 : Nat → Nat), i ≤ 7 * (nlev n lev).length → 7 * (nlev n lev).length + 1 ≤ i + f → (∀ j, j < i → T1 j = G1 j) → WW p l e (rmr 0 0) s m args below meth c Q D A 7 0 0 (wM h d n ((nlev n lev).length) L T1 G1 pt) 146 [(0, .ref (h 0)), (1, .int (nI sz)), (2, .int (nI ((nlev n lev).length))), (3, .int (nI i))] [] := by
    intro G1 hG1
    intro f
    induction f with
    | zero =>
      intro i T1 hi hf hj
      exact absurd (show False by omega) id
    | succ f ih =>
      intro i T1 hi hf hj
      refine x_iload_n hF 3 dX2_lengthen_146 rfl rfl ?_
      refine x_bipush hF dX2_lengthen_147 kc_b7 ?_
      refine x_iload_n hF 2 dX2_lengthen_149 rfl rfl ?_
      refine x_imul hF dX2_lengthen_150 ?_
      refine x_icmp_ge hF 172 dX2_lengthen_151 (by decide) (by omega) (by omega) (fun c_151 => ?_) (fun c_151 => ?_)
      · exact hret _ _ _ ⟨T1, G1, rw_congr (by omega) hG1 (fun x hx => hj x (by omega)), rfl⟩ dX2_lengthen_172
      · refine x_aload_n hF 0 dX2_lengthen_154 rfl rfl ?_
        refine x_get (ci := 1) (C := RX2) (T := TX2) (N := 6) (v := .ref (h 2)) hF in_X2 0 rfl rfl 3 (by decide) q171 rfl rfl dX2_lengthen_155 ?_
        refine x_iload_n hF 3 dX2_lengthen_158 rfl rfl ?_
        refine x_aload_n hF 0 dX2_lengthen_159 rfl rfl ?_
        refine x_get (ci := 1) (C := RX2) (T := TX2) (N := 6) (v := .ref (h 3)) hF in_X2 0 rfl rfl 4 (by decide) q172 rfl rfl dX2_lengthen_160 ?_
        refine x_iload_n hF 3 dX2_lengthen_163 rfl rfl ?_
        refine x_iald hF 3 2 rfl rfl (by decide) (by omega) dX2_lengthen_164 ?_
        refine x_iast (w' := wM h d n ((nlev n lev).length) L (va_up T1 i (G1 i)) G1 pt) hF 2 1 rfl rfl (by decide) (by omega) rfl dX2_lengthen_165 ?_
        refine x_iinc (v := (nI (i + 1))) (lv' := [(0, .ref (h 0)), (1, .int (nI sz)), (2, .int (nI ((nlev n lev).length))), (3, .int (nI (i + 1)))]) hF 3 dX2_lengthen_166 rfl (ii_1 _) (by decide) rfl ?_
        refine x_goto hF 146 dX2_lengthen_169 (by decide) ?_
        exact ih (i + 1) _ (by omega) (by omega) (lt_s (fun j q => by rw [va_up_ne _ _ (by omega)]; exact hj j q) (va_up_self _ _ _))
  have loopC : ∀ (i mo fr : Nat) (G1 : Nat → Nat), i / n < tr → mo < 720 → (∀ G2 : Nat → Nat, (∀ j, j < sz → G2 (7 * mo + j) = T (7 * (i / n) + j)) → (∀ x, x < 7 * mo → G2 x = G1 x) → WW p l e (rmr 0 0) s m args below meth c Q D A 7 0 0 (wM h d n tr L T G2 pt) 113 [(0, .ref (h 0)), (1, .int (nI sz)), (2, .int (nI mo)), (3, .int (nI i)), (4, .int (nI (i / n)))] []) → ∀ (f k : Nat) (G2 : Nat → Nat), k ≤ sz → sz + 1 ≤ k + f → (∀ j, j < k → G2 (7 * mo + j) = T (7 * (i / n) + j)) → (∀ x, x < 7 * mo → G2 x = G1 x) → WW p l e (rmr 0 0) s m args below meth c Q D A 7 0 0 (wM h d n tr L T G2 pt) 76 [(0, .ref (h 0)), (1, .int (nI sz)), (2, .int (nI mo)), (3, .int (nI i)), (4, .int (nI (i / n))), (5, .int (nI fr)), (6, .int (nI k))] [] := by
    intro i mo fr G1 hit hmo K
    intro f
    induction f with
    | zero =>
      intro k G2 hk hf e1 e2
      exact absurd (show False by omega) id
    | succ f ih =>
      intro k G2 hk hf e1 e2
      refine x_iload hF 6 dX2_lengthen_76 rfl ?_
      refine x_iload_n hF 1 dX2_lengthen_78 rfl rfl ?_
      refine x_icmp_ge hF 113 dX2_lengthen_79 (by decide) (by omega) (by omega) (fun c_79 => ?_) (fun c_79 => ?_)
      · refine WW.lvs [0, 1, 2, 3, 4] rfl ?_
        exact K G2 (fun j q => e1 j (by omega)) e2
      · refine x_aload_n hF 0 dX2_lengthen_82 rfl rfl ?_
        refine x_get (ci := 1) (C := RX2) (T := TX2) (N := 6) (v := .ref (h 3)) hF in_X2 0 rfl rfl 4 (by decide) q172 rfl rfl dX2_lengthen_83 ?_
        refine x_bipush hF dX2_lengthen_86 kc_b7 ?_
        refine x_iload_n hF 2 dX2_lengthen_88 rfl rfl ?_
        refine x_imul hF dX2_lengthen_89 ?_
        refine x_iload hF 6 dX2_lengthen_90 rfl ?_
        refine x_iadd hF dX2_lengthen_92 ?_
        refine x_aload_n hF 0 dX2_lengthen_93 rfl rfl ?_
        refine x_get (ci := 1) (C := RX2) (T := TX2) (N := 6) (v := .ref (h 2)) hF in_X2 0 rfl rfl 3 (by decide) q171 rfl rfl dX2_lengthen_94 ?_
        refine x_bipush hF dX2_lengthen_97 kc_b7 ?_
        refine x_iload hF 4 dX2_lengthen_99 rfl ?_
        refine x_imul hF dX2_lengthen_101 ?_
        refine x_iload hF 6 dX2_lengthen_102 rfl ?_
        refine x_iadd hF dX2_lengthen_104 ?_
        refine x_iald hF 2 1 rfl rfl (by decide) (by omega) dX2_lengthen_105 ?_
        refine x_iast (w' := wM h d n tr L T (va_up G2 ((7 * mo) + k) (T ((7 * (i / n)) + k))) pt) hF 3 2 rfl rfl (by decide) (by omega) rfl dX2_lengthen_106 ?_
        refine x_iinc (v := (nI (k + 1))) (lv' := [(0, .ref (h 0)), (1, .int (nI sz)), (2, .int (nI mo)), (3, .int (nI i)), (4, .int (nI (i / n))), (5, .int (nI fr)), (6, .int (nI (k + 1)))]) hF 6 dX2_lengthen_107 rfl (ii_1 _) (by decide) rfl ?_
        refine x_goto hF 76 dX2_lengthen_110 (by decide) ?_
        exact ih (k + 1) _ (by omega) (by omega) (lt_s (fun j q => by rw [va_up_ne _ _ (by omega)]; exact e1 j q) (va_up_self _ _ _)) (fun x hx => by rw [va_up_ne _ _ (by omega)]; exact e2 x hx)
  have loopF : ∀ (i mo : Nat) (G1 : Nat → Nat), i < 5041 → i / n < tr → (∀ fr : Nat, ((fr = 1 ∧ ∀ j, j < sz → ¬ T (7 * (i / n) + j) = i % n) ∨ (fr = 0 ∧ ∃ j, j < sz ∧ T (7 * (i / n) + j) = i % n)) → WW p l e (rmr 0 0) s m args below meth c Q D A 7 0 0 (wM h d n tr L T G1 pt) 68 [(0, .ref (h 0)), (1, .int (nI sz)), (2, .int (nI mo)), (3, .int (nI i)), (4, .int (nI (i / n))), (5, .int (nI fr))] []) → ∀ (f k fr : Nat), k ≤ sz → sz + 1 ≤ k + f → ((fr = 1 ∧ ∀ j, j < k → ¬ T (7 * (i / n) + j) = i % n) ∨ (fr = 0 ∧ ∃ j, j < k ∧ T (7 * (i / n) + j) = i % n)) → WW p l e (rmr 0 0) s m args below meth c Q D A 7 0 0 (wM h d n tr L T G1 pt) 31 [(0, .ref (h 0)), (1, .int (nI sz)), (2, .int (nI mo)), (3, .int (nI i)), (4, .int (nI (i / n))), (5, .int (nI fr)), (6, .int (nI k))] [] := by
    intro i mo G1 hi hit K
    intro f
    induction f with
    | zero =>
      intro k fr hk hf e1
      exact absurd (show False by omega) id
    | succ f ih =>
      intro k fr hk hf e1
      have him : i % n < n := Nat.mod_lt _ hn0
      refine x_iload hF 6 dX2_lengthen_31 rfl ?_
      refine x_iload_n hF 1 dX2_lengthen_33 rfl rfl ?_
      refine x_icmp_ge hF 68 dX2_lengthen_34 (by decide) (by omega) (by omega) (fun c_34 => ?_) (fun c_34 => ?_)
      · refine WW.lvs [0, 1, 2, 3, 4, 5] rfl ?_
        have ek : k = sz := by omega
        subst ek
        exact K fr e1
      · refine x_aload_n hF 0 dX2_lengthen_37 rfl rfl ?_
        refine x_get (ci := 1) (C := RX2) (T := TX2) (N := 6) (v := .ref (h 2)) hF in_X2 0 rfl rfl 3 (by decide) q171 rfl rfl dX2_lengthen_38 ?_
        refine x_bipush hF dX2_lengthen_41 kc_b7 ?_
        refine x_iload hF 4 dX2_lengthen_43 rfl ?_
        refine x_imul hF dX2_lengthen_45 ?_
        refine x_iload hF 6 dX2_lengthen_46 rfl ?_
        refine x_iadd hF dX2_lengthen_48 ?_
        refine x_iald hF 2 1 rfl rfl (by decide) (by omega) dX2_lengthen_49 ?_
        refine x_iload_n hF 3 dX2_lengthen_50 rfl rfl ?_
        refine x_aload_n hF 0 dX2_lengthen_51 rfl rfl ?_
        refine x_get (ci := 1) (C := RX2) (T := TX2) (N := 6) (v := .int (nI n)) hF in_X2 0 rfl rfl 0 (by decide) q168 rfl rfl dX2_lengthen_52 ?_
        refine x_irem hF dX2_lengthen_55 (by omega) (by omega) (by omega) ?_
        refine x_icmp_ne hF 62 dX2_lengthen_56 (by decide) (by exact hTb _ _ hit (by omega)) (by omega) (fun c_56 => ?_) (fun c_56 => ?_)
        · refine x_iinc (v := (nI (k + 1))) (lv' := [(0, .ref (h 0)), (1, .int (nI sz)), (2, .int (nI mo)), (3, .int (nI i)), (4, .int (nI (i / n))), (5, .int (nI fr)), (6, .int (nI (k + 1)))]) hF 6 dX2_lengthen_62 rfl (ii_1 _) (by decide) rfl ?_
          refine x_goto hF 31 dX2_lengthen_65 (by decide) ?_
          exact ih (k + 1) fr (by omega) (by omega) (e1.elim (fun q => Or.inl ⟨q.1, lt_s q.2 c_56⟩) (fun q => Or.inr ⟨q.1, by obtain ⟨j, j1, j2⟩ := q.2; exact ⟨j, by omega, j2⟩⟩))
        · refine x_iconst hF dX2_lengthen_59 kc_i0 ?_
          refine x_istore (lv' := [(0, .ref (h 0)), (1, .int (nI sz)), (2, .int (nI mo)), (3, .int (nI i)), (4, .int (nI (i / n))), (5, .int (nI 0)), (6, .int (nI k))]) hF dX2_lengthen_60 (by decide) rfl ?_
          refine x_iinc (v := (nI (k + 1))) (lv' := [(0, .ref (h 0)), (1, .int (nI sz)), (2, .int (nI mo)), (3, .int (nI i)), (4, .int (nI (i / n))), (5, .int (nI 0)), (6, .int (nI (k + 1)))]) hF 6 dX2_lengthen_62 rfl (ii_1 _) (by decide) rfl ?_
          refine x_goto hF 31 dX2_lengthen_65 (by decide) ?_
          exact ih (k + 1) 0 (by omega) (by omega) (Or.inr ⟨rfl, k, by omega, c_56⟩)
  have loopM : ∀ (f i mo : Nat) (G1 : Nat → Nat), i ≤ tr * n → tr * n + 1 ≤ i + f → mo = (acc n lev i).length → RW (sz + 1) (acc n lev i) G1 → WW p l e (rmr 0 0) s m args below meth c Q D A 7 0 0 (wM h d n tr L T G1 pt) 4 [(0, .ref (h 0)), (1, .int (nI sz)), (2, .int (nI mo)), (3, .int (nI i))] [] := by
    intro f
    induction f with
    | zero =>
      intro i mo G1 hi hf hmo hG1
      exact absurd (show False by omega) id
    | succ f ih =>
      intro i mo G1 hi hf hmo hG1
      have hml := hle i hi
      refine x_iload_n hF 3 dX2_lengthen_4 rfl rfl ?_
      refine x_aload_n hF 0 dX2_lengthen_5 rfl rfl ?_
      refine x_get (ci := 1) (C := RX2) (T := TX2) (N := 6) (v := .int (nI tr)) hF in_X2 0 rfl rfl 2 (by decide) q170 rfl rfl dX2_lengthen_6 ?_
      refine x_aload_n hF 0 dX2_lengthen_9 rfl rfl ?_
      refine x_get (ci := 1) (C := RX2) (T := TX2) (N := 6) (v := .int (nI n)) hF in_X2 0 rfl rfl 0 (by decide) q168 rfl rfl dX2_lengthen_10 ?_
      refine x_imul hF dX2_lengthen_13 ?_
      refine x_icmp_ge hF 139 dX2_lengthen_14 (by decide) (by omega) (by omega) (fun c_14 => ?_) (fun c_14 => ?_)
      · have ei : i = tr * n := by omega
        subst ei
        rw [hall] at hmo hG1
        subst hmo
        refine x_aload_n hF 0 dX2_lengthen_139 rfl rfl ?_
        refine x_iload_n hF 2 dX2_lengthen_140 rfl rfl ?_
        refine x_put (ci := 1) (C := RX2) (T := TX2) (N := 6) (w' := wM h d n ((nlev n lev).length) L T G1 pt) hF in_X2 tyX2 tyX2_ok nmX2 0 rfl rfl 2 (by decide) q170 rfl rfl rfl rfl (Nat.le_of_ble_eq_true rfl) rfl dX2_lengthen_141 ?_
        refine x_iconst hF dX2_lengthen_144 kc_i0 ?_
        refine x_istore_n (lv' := [(0, .ref (h 0)), (1, .int (nI sz)), (2, .int (nI ((nlev n lev).length))), (3, .int (nI 0))]) hF dX2_lengthen_145 rfl (by decide) rfl ?_
        exact loopE G1 hG1 (7 * (nlev n lev).length + 1) 0 T (by omega) (by omega) lt_0
      · refine x_iload_n hF 3 dX2_lengthen_17 rfl rfl ?_
        refine x_aload_n hF 0 dX2_lengthen_18 rfl rfl ?_
        refine x_get (ci := 1) (C := RX2) (T := TX2) (N := 6) (v := .int (nI n)) hF in_X2 0 rfl rfl 0 (by decide) q168 rfl rfl dX2_lengthen_19 ?_
        refine x_idiv hF dX2_lengthen_22 (by omega) (by omega) (by omega) ?_
        refine x_istore (lv' := [(0, .ref (h 0)), (1, .int (nI sz)), (2, .int (nI mo)), (3, .int (nI i)), (4, .int (nI (i / n)))]) hF dX2_lengthen_23 (by decide) rfl ?_
        refine x_iconst hF dX2_lengthen_25 kc_i1 ?_
        refine x_istore (lv' := [(0, .ref (h 0)), (1, .int (nI sz)), (2, .int (nI mo)), (3, .int (nI i)), (4, .int (nI (i / n))), (5, .int (nI 1))]) hF dX2_lengthen_26 (by decide) rfl ?_
        refine x_iconst hF dX2_lengthen_28 kc_i0 ?_
        refine x_istore (lv' := [(0, .ref (h 0)), (1, .int (nI sz)), (2, .int (nI mo)), (3, .int (nI i)), (4, .int (nI (i / n))), (5, .int (nI 1)), (6, .int (nI 0))]) hF dX2_lengthen_29 (by decide) rfl ?_
        have hit : i / n < tr := (Nat.div_lt_iff_lt_mul hn0).mpr c_14
        have hmle := hle (i + 1) (by omega)
        have hp : lev[i / n]? = some (lev.getD (i / n) []) := by rw [List.getD_eq_getElem?_getD, List.getElem?_eq_getElem (by omega)]; rfl
        have hcon := rw_mem (v := i % n) hRW hp
        have hacc : acc n lev (i + 1) = acc n lev i ++ gst n lev i := rfl
        refine loopF i mo G1 (by omega) hit (fun fr e1 => ?_) (sz + 1) 0 1 (by omega) (by omega) (Or.inl ⟨rfl, lt_0⟩)
        refine x_iload hF 5 dX2_lengthen_68 rfl ?_
        refine x_if_eq hF 133 dX2_lengthen_70 (by decide) (by omega) (fun c_70 => ?_) (fun c_70 => ?_)
        · refine x_iinc (v := (nI (i + 1))) (lv' := [(0, .ref (h 0)), (1, .int (nI sz)), (2, .int (nI mo)), (3, .int (nI (i + 1))), (4, .int (nI (i / n))), (5, .int (nI fr))]) hF 3 dX2_lengthen_133 rfl (ii_1 _) (by decide) rfl ?_
          refine x_goto hF 4 dX2_lengthen_136 (by decide) ?_
          refine WW.lvs [0, 1, 2, 3] rfl ?_
          have hg : gst n lev i = [] := by
            unfold gst
            rcases e1 with e1 | e1
            · omega
            · rw [if_pos (hcon.mpr e1.2)]
          refine ih (i + 1) mo G1 (by omega) (by omega) (by rw [hacc, hg, List.append_nil]; exact hmo) (by rw [hacc, hg, List.append_nil]; exact hG1)
        · refine x_iconst hF dX2_lengthen_73 kc_i0 ?_
          refine x_istore (lv' := [(0, .ref (h 0)), (1, .int (nI sz)), (2, .int (nI mo)), (3, .int (nI i)), (4, .int (nI (i / n))), (5, .int (nI fr)), (6, .int (nI 0))]) hF dX2_lengthen_74 (by decide) rfl ?_
          have hg : gst n lev i = [lev.getD (i / n) [] ++ [i % n]] := by
            unfold gst
            rcases e1 with e1 | e1
            · rw [if_neg (fun q => by obtain ⟨j, j1, j2⟩ := hcon.mp q; exact e1.2 j j1 j2)]
            · omega
          have hlen : (acc n lev (i + 1)).length = mo + 1 := by rw [hacc, hg, List.length_append, ← hmo]; rfl
          refine loopC i mo fr G1 hit (by omega) (fun G2 e2 e3 => ?_) (sz + 1) 0 G1 (by omega) (by omega) (fun j q => absurd q (Nat.not_lt_zero _)) (fun x _ => rfl)
          refine x_aload_n hF 0 dX2_lengthen_113 rfl rfl ?_
          refine x_get (ci := 1) (C := RX2) (T := TX2) (N := 6) (v := .ref (h 3)) hF in_X2 0 rfl rfl 4 (by decide) q172 rfl rfl dX2_lengthen_114 ?_
          refine x_bipush hF dX2_lengthen_117 kc_b7 ?_
          refine x_iload_n hF 2 dX2_lengthen_119 rfl rfl ?_
          refine x_imul hF dX2_lengthen_120 ?_
          refine x_iload_n hF 1 dX2_lengthen_121 rfl rfl ?_
          refine x_iadd hF dX2_lengthen_122 ?_
          refine x_iload_n hF 3 dX2_lengthen_123 rfl rfl ?_
          refine x_aload_n hF 0 dX2_lengthen_124 rfl rfl ?_
          refine x_get (ci := 1) (C := RX2) (T := TX2) (N := 6) (v := .int (nI n)) hF in_X2 0 rfl rfl 0 (by decide) q168 rfl rfl dX2_lengthen_125 ?_
          refine x_irem hF dX2_lengthen_128 (by omega) (by omega) (by omega) ?_
          refine x_iast (w' := wM h d n tr L T (va_up G2 ((7 * mo) + sz) (i % n)) pt) hF 3 2 rfl rfl (by decide) (by omega) rfl dX2_lengthen_129 ?_
          refine x_iinc (v := (nI (mo + 1))) (lv' := [(0, .ref (h 0)), (1, .int (nI sz)), (2, .int (nI (mo + 1))), (3, .int (nI i)), (4, .int (nI (i / n)))]) hF 2 dX2_lengthen_130 rfl (ii_1 _) (by decide) rfl ?_
          refine x_iinc (v := (nI (i + 1))) (lv' := [(0, .ref (h 0)), (1, .int (nI sz)), (2, .int (nI (mo + 1))), (3, .int (nI (i + 1))), (4, .int (nI (i / n)))]) hF 3 dX2_lengthen_133 rfl (ii_1 _) (by decide) rfl ?_
          refine x_goto hF 4 dX2_lengthen_136 (by decide) ?_
          refine WW.lvs [0, 1, 2, 3] rfl ?_
          refine ih (i + 1) (mo + 1) _ (by omega) (by omega) hlen.symm ?_
          rw [hacc, hg]
          subst hmo
          exact rw_add (by omega) hRW hp hG1 e2 e3
  refine x_iconst hF dX2_lengthen_0 kc_i0 ?_
  refine x_istore_n (lv' := [(0, .ref (h 0)), (1, .int (nI sz)), (2, .int (nI 0))]) hF dX2_lengthen_1 rfl (by decide) rfl ?_
  refine x_iconst hF dX2_lengthen_2 kc_i0 ?_
  refine x_istore_n (lv' := [(0, .ref (h 0)), (1, .int (nI sz)), (2, .int (nI 0)), (3, .int (nI 0))]) hF dX2_lengthen_3 rfl (by decide) rfl ?_
  exact loopM (tr * n + 1) 0 0 G (by omega) (by omega) rfl (fun j p q => by cases j <;> cases q)
theorem m2_init_tail {p : Program} {e : Env} {R : Room} {s : State} {m : MethodId} {args : Array Value} {below : List Frame} {meth : Method} {c : Code} {Q : State → Prop} {A : Nat → Prop} {ce sl : Nat} (hF : FX p s m args c D A cX2_init 3 RX2 (tM d)) (hR1 : 1 ≤ R.frames) (hR2 : 26 ≤ R.locals) (hR3 : ce ≤ R.cells ∧ sl ≤ R.slots) (u : Int32) (hret : ∀ (w1 : va_W) (pc : Nat) (lv : List (Nat × Value)), (∃ (tr : Nat) (T : Nat → Nat), TB (tcl u) tr T ∧ WM h d (tcl u) tr (Lk 49) T w1) → decode cX2_init pc = .ok (.return_, 1) → WW p l e R s m args below meth c Q D A 3 ce sl w1 pc lv []) : WW p l e R s m args below meth c Q D A 3 ce sl (wM h d 0 1 (Lk 0) (fun _ => 0) (fun _ => 0) (fun _ => 0)) 43 [(0, .ref (h 0)), (1, .int u)] [] := by
  have htc := tcl_in u
  have loopS : ∀ (n : Nat), n = tcl u → ∀ (f sz tr : Nat) (T G : Nat → Nat), 1 ≤ sz → sz ≤ n → n + 1 ≤ sz + f → tr = (itl n (sz - 1) [[0]]).length → RW sz (itl n (sz - 1) [[0]]) T → WW p l e R s m args below meth c Q D A 3 ce sl (wM h d n tr (Lk 49) T G (fun _ => 0)) 92 [(0, .ref (h 0)), (1, .int u), (2, .int (nI sz))] [] := by
    intro n en
    intro f
    induction f with
    | zero =>
      intro sz tr T G hs1 hs2 hf htr hT
      exact absurd (show False by omega) id
    | succ f ih =>
      intro sz tr T G hs1 hs2 hf htr hT
      refine x_iload_n hF 2 dX2_init_92 rfl rfl ?_
      refine x_aload_n hF 0 dX2_init_93 rfl rfl ?_
      refine x_get (ci := 1) (C := RX2) (T := TX2) (N := 6) (v := .int (nI n)) hF in_X2 0 rfl rfl 0 (by decide) q168 rfl rfl dX2_init_94 ?_
      refine x_icmp_ge hF 111 dX2_init_97 (by decide) (by omega) (by omega) (fun c_97 => ?_) (fun c_97 => ?_)
      · have ei : sz = n := by omega
        subst ei
        have hTB := tb_of (by omega) (by omega) htr hT
        subst en
        exact hret _ _ _ ⟨_, _, hTB, _, _, rfl⟩ dX2_init_111
      · refine x_aload_n hF 0 dX2_init_100 rfl rfl ?_
        refine x_iload_n hF 2 dX2_init_101 rfl rfl ?_
        refine x_callv (C := RX2) (T := TX2) (N := 6) (ci := 1) (q0 := 0) (b := h 0) (As := [.int (nI sz)]) (rest := []) hF (m2_lengthen (sz := sz) (lev := itl n (sz - 1) [[0]]) (by omega) (by omega) (by omega) htr (itl_len (by omega) (by omega)) (by rw [← itl_succ]; exact itl_len (by omega) (by omega)) hT itl_in (itl_lt (by omega))) 1 (lw_V q164 q166 qs11 q23 q167) rfl rfl (by decide +kernel) ⟨hR1, hR2⟩ rfl rfl rfl rfl (Nat.le_of_ble_eq_true rfl) dX2_init_102 hR3 (fun w_102 hp_102 => ?_)
        obtain ⟨T', G', hT', rfl⟩ := hp_102
        refine x_iinc (v := (nI (sz + 1))) (lv' := [(0, .ref (h 0)), (1, .int u), (2, .int (nI (sz + 1)))]) hF 2 dX2_init_105 rfl (ii_1 _) (by decide) rfl ?_
        refine x_goto hF 92 dX2_init_108 (by decide) ?_
        have ei : itl n (sz + 1 - 1) [[0]] = nlev n (itl n (sz - 1) [[0]]) := by rw [← itl_succ, show sz + 1 - 1 = sz - 1 + 1 by omega]
        exact ih (sz + 1) _ T' G' (by omega) (by omega) (by omega) (by rw [ei]) (by rw [ei]; exact hT')
  have loop : ∀ (n : Nat), n = tcl u → ∀ (f i : Nat), i ≤ 49 → 50 ≤ i + f → WW p l e R s m args below meth c Q D A 3 ce sl (wM h d n 1 (Lk i) (fun _ => 0) (fun _ => 0) (fun _ => 0)) 70 [(0, .ref (h 0)), (1, .int u), (2, .int (nI i))] [] := by
    intro n en
    intro f
    induction f with
    | zero =>
      intro i hi hf
      exact absurd (show False by omega) id
    | succ f ih =>
      intro i hi hf
      refine x_iload_n hF 2 dX2_init_70 rfl rfl ?_
      refine x_bipush hF dX2_init_71 kc_b49 ?_
      refine x_icmp_ge hF 90 dX2_init_73 (by decide) (by omega) (by omega) (fun c_73 => ?_) (fun c_73 => ?_)
      · refine x_iconst hF dX2_init_90 kc_i1 ?_
        refine x_istore_n (lv' := [(0, .ref (h 0)), (1, .int u), (2, .int (nI 1))]) hF dX2_init_91 rfl (by decide) rfl ?_
        have ei : i = 49 := by omega
        subst ei
        exact loopS n en n 1 1 _ _ (by omega) (by omega) (by omega) rfl rw_0
      · refine x_aload_n hF 0 dX2_init_76 rfl rfl ?_
        refine x_get (ci := 1) (C := RX2) (T := TX2) (N := 6) (v := .ref (h 1)) hF in_X2 0 rfl rfl 1 (by decide) q169 rfl rfl dX2_init_77 ?_
        refine x_iload_n hF 2 dX2_init_80 rfl rfl ?_
        refine x_bipush hF dX2_init_81 kc_b60 ?_
        refine x_iast (w' := wM h d n 1 (va_up (Lk i) i 60) (fun _ => 0) (fun _ => 0) (fun _ => 0)) hF 1 0 rfl rfl (by decide) (by omega) rfl dX2_init_83 ?_
        refine x_iinc (v := (nI (i + 1))) (lv' := [(0, .ref (h 0)), (1, .int u), (2, .int (nI (i + 1)))]) hF 2 dX2_init_84 rfl (ii_1 _) (by decide) rfl ?_
        refine x_goto hF 70 dX2_init_87 (by decide) ?_
        rw [Lk_s]
        exact ih (i + 1) (by omega) (by omega)
  rcases tcl_cases u with ⟨k1, kc⟩ | ⟨k1, k2, kc⟩ | ⟨k_, k1, k2, k3, kc⟩
  · refine x_aload_n hF 0 dX2_init_43 rfl rfl ?_
    refine x_iload_n hF 1 dX2_init_44 rfl rfl ?_
    refine x_iconst hF dX2_init_45 kc_i3 ?_
    refine x_icmp_geR hF 53 dX2_init_46 (by decide) (fun c_46 => ?_) (fun c_46 => ?_)
    · exact absurd c_46 (Int32.not_le.mpr k1)
    · refine x_iconst hF dX2_init_49 kc_i3 ?_
      refine x_goto hF 65 dX2_init_50 (by decide) ?_
      refine x_put (ci := 1) (C := RX2) (T := TX2) (N := 6) (w' := wM h d 3 1 (Lk 0) (fun _ => 0) (fun _ => 0) (fun _ => 0)) hF in_X2 tyX2 tyX2_ok nmX2 0 rfl rfl 0 (by decide) q168 rfl rfl rfl rfl (Nat.le_of_ble_eq_true rfl) rfl dX2_init_65 ?_
      refine x_iconst hF dX2_init_68 kc_i0 ?_
      refine x_istore_n (lv' := [(0, .ref (h 0)), (1, .int u), (2, .int (nI 0))]) hF dX2_init_69 rfl (by decide) rfl ?_
      exact loop 3 (by omega) 50 0 (by omega) (by omega)
  · refine x_aload_n hF 0 dX2_init_43 rfl rfl ?_
    refine x_iload_n hF 1 dX2_init_44 rfl rfl ?_
    refine x_iconst hF dX2_init_45 kc_i3 ?_
    refine x_icmp_geR hF 53 dX2_init_46 (by decide) (fun c_46 => ?_) (fun c_46 => ?_)
    · refine x_iload_n hF 1 dX2_init_53 rfl rfl ?_
      refine x_bipush hF dX2_init_54 kc_b7 ?_
      refine x_icmp_leR hF 64 dX2_init_56 (by decide) (fun c_56 => ?_) (fun c_56 => ?_)
      · exact absurd c_56 (Int32.not_le.mpr k2)
      · refine x_bipush hF dX2_init_59 kc_b7 ?_
        refine x_goto hF 65 dX2_init_61 (by decide) ?_
        refine x_put (ci := 1) (C := RX2) (T := TX2) (N := 6) (w' := wM h d 7 1 (Lk 0) (fun _ => 0) (fun _ => 0) (fun _ => 0)) hF in_X2 tyX2 tyX2_ok nmX2 0 rfl rfl 0 (by decide) q168 rfl rfl rfl rfl (Nat.le_of_ble_eq_true rfl) rfl dX2_init_65 ?_
        refine x_iconst hF dX2_init_68 kc_i0 ?_
        refine x_istore_n (lv' := [(0, .ref (h 0)), (1, .int u), (2, .int (nI 0))]) hF dX2_init_69 rfl (by decide) rfl ?_
        exact loop 7 (by omega) 50 0 (by omega) (by omega)
    · exact absurd (Int32.not_lt.mp k1) c_46
  · subst k3
    refine x_aload_n hF 0 dX2_init_43 rfl rfl ?_
    refine x_iload_n hF 1 dX2_init_44 rfl rfl ?_
    refine x_iconst hF dX2_init_45 kc_i3 ?_
    refine x_icmp_ge hF 53 dX2_init_46 (by decide) (by omega) (by omega) (fun c_46 => ?_) (fun c_46 => ?_)
    · refine x_iload_n hF 1 dX2_init_53 rfl rfl ?_
      refine x_bipush hF dX2_init_54 kc_b7 ?_
      refine x_icmp_le hF 64 dX2_init_56 (by decide) (by omega) (by omega) (fun c_56 => ?_) (fun c_56 => ?_)
      · refine x_iload_n hF 1 dX2_init_64 rfl rfl ?_
        refine x_put (ci := 1) (C := RX2) (T := TX2) (N := 6) (w' := wM h d k_ 1 (Lk 0) (fun _ => 0) (fun _ => 0) (fun _ => 0)) hF in_X2 tyX2 tyX2_ok nmX2 0 rfl rfl 0 (by decide) q168 rfl rfl rfl rfl (Nat.le_of_ble_eq_true rfl) rfl dX2_init_65 ?_
        refine x_iconst hF dX2_init_68 kc_i0 ?_
        refine x_istore_n (lv' := [(0, .ref (h 0)), (1, .int (nI k_)), (2, .int (nI 0))]) hF dX2_init_69 rfl (by decide) rfl ?_
        exact loop k_ (by omega) 50 0 (by omega) (by omega)
      · omega
    · omega
theorem m2_init (b : Nat) (u : Int32) : MtC l yX2_init cX2_init 3 { frames := 1, cells := 4, slots := 10136, locals := 26 } D [] [.ref b, .int u] [(b, .inr (1, [.int (nI 0), .null, .int (nI 0), .null, .null, .null]))] 4 10136 (fun w1 tys1 => ∃ (h : Nat → Nat) (d : Nat → ClassId), h 0 = b ∧ tys1 = tM d ∧ ∃ (tr : Nat) (T : Nat → Nat), TB (tcl u) tr T ∧ WM h d (tcl u) tr (Lk 49) T w1) := by
  refine MtC.of rfl rfl (Nat.le_of_ble_eq_true rfl) ?_
  intro p e s m args below meth c Q A hin hF hret
  refine WW.cw (lv2 := [(0, .ref b), (1, .int u)]) rfl rfl rfl ?_
  refine x_aload_n hF 0 dX2_init_0 rfl rfl ?_
  refine x_objInit hF q163 q30 q31 dX2_init_1 (by decide) (by decide) (Nat.le_of_ble_eq_true rfl) ?_
  refine x_aload_n hF 0 dX2_init_4 rfl rfl ?_
  refine x_bipush hF dX2_init_5 kc_b49 ?_
  refine x_newa hF (ty := .int) q66 rfl (fun _ => rfl) (by decide) (by decide) (by decide) (by decide) dX2_init_7 (fun a1 t1 hF1 => ?_)
  refine WW.cw (w' := [(b, .inr (1, [.int (nI 0), .null, .int (nI 0), .null, .null, .null])), (a1, .inl (t1, 49, .inl (nA (fun _ => 0))))]) rfl rfl rfl ?_
  refine x_put (ci := 1) (C := RX2) (T := TX2) (N := 6) (w' := [(b, .inr (1, [.int (nI 0), .ref a1, .int (nI 0), .null, .null, .null])), (a1, .inl (t1, 49, .inl (nA (fun _ => 0))))]) hF1 in_X2 tyX2 tyX2_ok nmX2 0 rfl rfl 1 (by decide) q169 rfl rfl rfl rfl (Nat.le_of_ble_eq_true rfl) rfl dX2_init_9 ?_
  refine x_aload_n hF1 0 dX2_init_12 rfl rfl ?_
  refine x_iconst hF1 dX2_init_13 kc_i1 ?_
  refine x_put (ci := 1) (C := RX2) (T := TX2) (N := 6) (w' := [(b, .inr (1, [.int (nI 0), .ref a1, .int (nI 1), .null, .null, .null])), (a1, .inl (t1, 49, .inl (nA (fun _ => 0))))]) hF1 in_X2 tyX2 tyX2_ok nmX2 0 rfl rfl 2 (by decide) q170 rfl rfl rfl rfl (Nat.le_of_ble_eq_true rfl) rfl dX2_init_14 ?_
  refine x_aload_n hF1 0 dX2_init_17 rfl rfl ?_
  refine x_sipush hF1 dX2_init_18 kc_s5040 ?_
  refine x_newa hF1 (ty := .int) q66 rfl (fun _ => rfl) (by decide) (by decide) (by decide) (by decide) dX2_init_21 (fun a2 t2 hF2 => ?_)
  refine WW.cw (w' := [(b, .inr (1, [.int (nI 0), .ref a1, .int (nI 1), .null, .null, .null])), (a1, .inl (t1, 49, .inl (nA (fun _ => 0)))), (a2, .inl (t2, 5040, .inl (nA (fun _ => 0))))]) rfl rfl rfl ?_
  refine x_put (ci := 1) (C := RX2) (T := TX2) (N := 6) (w' := [(b, .inr (1, [.int (nI 0), .ref a1, .int (nI 1), .ref a2, .null, .null])), (a1, .inl (t1, 49, .inl (nA (fun _ => 0)))), (a2, .inl (t2, 5040, .inl (nA (fun _ => 0))))]) hF2 in_X2 tyX2 tyX2_ok nmX2 0 rfl rfl 3 (by decide) q171 rfl rfl rfl rfl (Nat.le_of_ble_eq_true rfl) rfl dX2_init_23 ?_
  refine x_aload_n hF2 0 dX2_init_26 rfl rfl ?_
  refine x_sipush hF2 dX2_init_27 kc_s5040 ?_
  refine x_newa hF2 (ty := .int) q66 rfl (fun _ => rfl) (by decide) (by decide) (by decide) (by decide) dX2_init_30 (fun a3 t3 hF3 => ?_)
  refine WW.cw (w' := [(b, .inr (1, [.int (nI 0), .ref a1, .int (nI 1), .ref a2, .null, .null])), (a1, .inl (t1, 49, .inl (nA (fun _ => 0)))), (a2, .inl (t2, 5040, .inl (nA (fun _ => 0)))), (a3, .inl (t3, 5040, .inl (nA (fun _ => 0))))]) rfl rfl rfl ?_
  refine x_put (ci := 1) (C := RX2) (T := TX2) (N := 6) (w' := [(b, .inr (1, [.int (nI 0), .ref a1, .int (nI 1), .ref a2, .ref a3, .null])), (a1, .inl (t1, 49, .inl (nA (fun _ => 0)))), (a2, .inl (t2, 5040, .inl (nA (fun _ => 0)))), (a3, .inl (t3, 5040, .inl (nA (fun _ => 0))))]) hF3 in_X2 tyX2 tyX2_ok nmX2 0 rfl rfl 4 (by decide) q172 rfl rfl rfl rfl (Nat.le_of_ble_eq_true rfl) rfl dX2_init_32 ?_
  refine x_aload_n hF3 0 dX2_init_35 rfl rfl ?_
  refine x_bipush hF3 dX2_init_36 kc_b7 ?_
  refine x_newa hF3 (ty := .int) q66 rfl (fun _ => rfl) (by decide) (by decide) (by decide) (by decide) dX2_init_38 (fun a4 t4 hF4 => ?_)
  refine WW.cw (w' := [(b, .inr (1, [.int (nI 0), .ref a1, .int (nI 1), .ref a2, .ref a3, .null])), (a1, .inl (t1, 49, .inl (nA (fun _ => 0)))), (a2, .inl (t2, 5040, .inl (nA (fun _ => 0)))), (a3, .inl (t3, 5040, .inl (nA (fun _ => 0)))), (a4, .inl (t4, 7, .inl (nA (fun _ => 0))))]) rfl rfl rfl ?_
  refine x_put (ci := 1) (C := RX2) (T := TX2) (N := 6) (w' := [(b, .inr (1, [.int (nI 0), .ref a1, .int (nI 1), .ref a2, .ref a3, .ref a4])), (a1, .inl (t1, 49, .inl (nA (fun _ => 0)))), (a2, .inl (t2, 5040, .inl (nA (fun _ => 0)))), (a3, .inl (t3, 5040, .inl (nA (fun _ => 0)))), (a4, .inl (t4, 7, .inl (nA (fun _ => 0))))]) hF4 in_X2 tyX2 tyX2_ok nmX2 0 rfl rfl 5 (by decide) q173 rfl rfl rfl rfl (Nat.le_of_ble_eq_true rfl) rfl dX2_init_40 ?_
  refine WW.cw (w' := [(b, .inr (1, [.int (nI 0), .ref a1, .int (nI 1), .ref a2, .ref a3, .ref a4])), (a1, .inl (t1, 49, .inl (nA (Lk 0)))), (a2, .inl (t2, 5040, .inl (nA (fun _ => 0)))), (a3, .inl (t3, 5040, .inl (nA (fun _ => 0)))), (a4, .inl (t4, 7, .inl (nA (fun _ => 0))))]) (by rw [← Lk_0]) rfl rfl ?_
  exact m2_init_tail (h := fun k => [b, a1, a2, a3, a4].getD k 0) (d := fun k => [t1, t1, t2, t3, t4].getD k t1) hF4 (by decide) (by decide) ⟨by decide, by decide⟩ u (fun w1 pc lv hw hd => hret w1 _ pc lv ⟨_, _, rfl, rfl, hw⟩ hF4 hd)
end
end
section
/-! PURE: the two answer alike -/
theorem row_get {n t : Nat} (ht : t < (trs n).length) : (trs n)[t]? = some (row n t) := by
  unfold row
  rw [List.getD_eq_getElem?_getD, List.getElem?_eq_getElem ht]
  rfl
theorem row_of {n t : Nat} {p : List Nat} (h : (trs n)[t]? = some p) : p = row n t ∧ t < (trs n).length := by
  have ht := (List.getElem?_eq_some_iff.mp h).1
  rw [row_get ht] at h
  exact ⟨(Option.some.inj h).symm, ht⟩
/-- the least length is one, and its first trip is one -/
theorem res_fb {n tr f : Nat} {L : Nat → Nat} {r : Nat × Nat × List Nat} (htr : tr = (trs n).length) (hr : Res (mx L) 0 (trs n) r) (hf : FB n tr L f) : r.1 = vl n L f ∧ r.2.2 = row n f := by
  obtain ⟨i, h1, h2, h3, h4, h5⟩ := hr
  obtain ⟨g1, g2, g3⟩ := hf
  obtain ⟨e1, e2⟩ := row_of h1
  have a1 : r.1 ≤ vl n L f := h3 f _ (row_get (by omega))
  have a2 : vl n L f ≤ r.1 := by
    have := g2 i (by omega)
    unfold vl at this
    rw [← e1, h2] at this
    exact this
  have ei : i = f := by
    rcases Nat.lt_trichotomy i f with q | q | q
    · have := g3 i q
      unfold vl at this a1
      rw [← e1, h2] at this
      omega
    · exact q
    · have := h4 f _ q (row_get (by omega))
      unfold vl at a2
      omega
  exact ⟨by omega, by rw [e1, ei]⟩
theorem countP_ctn {l : List (List Nat)} {P : List Nat → Bool} : ∀ k, k ≤ l.length → (l.take k).countP P = ctn (fun j => P (l.getD j []) = true) k
  | 0, _ => by simp [ctn]
  | k + 1, hk => by
    have ih := countP_ctn (l := l) (P := P) k (by omega)
    have hg : l[k]? = some l[k] := List.getElem?_eq_getElem (by omega)
    have hd : l.getD k [] = l[k] := by rw [List.getD_eq_getElem?_getD, hg]; rfl
    rw [List.take_add_one, hg, List.countP_append, ih]
    by_cases h : P l[k] = true
    · rw [ctn_t (P := fun j => P (l.getD j []) = true) (by rw [hd]; exact h)]
      simp [h]
    · rw [ctn_f (P := fun j => P (l.getD j []) = true) (by rw [hd]; exact h)]
      simp [h]
theorem eq_trips {n tr f : Nat} {L : Nat → Nat} {r : Nat × Nat × List Nat} (htr : tr = (trs n).length) (hr : Res (mx L) 0 (trs n) r) (hf : FB n tr L f) : r.2.1 = ctn (fun j => vl n L j = vl n L f) tr := by
  have e := res_fb htr hr hf
  obtain ⟨i, h1, h2, h3, h4, h5⟩ := hr
  have h6 := countP_ctn (l := trs n) (P := fun q => tot (mx L) 0 q == r.1) (trs n).length (Nat.le_refl _)
  rw [List.take_length] at h6
  rw [h5, h6, ← htr]
  refine ctn_congr (fun j _ => ?_)
  show (tot (mx L) 0 (row n j) == r.1) = true ↔ _
  rw [e.1]
  unfold vl
  simp
theorem eq_town {n tr f j b' c' : Nat} {L T bp : Nat → Nat} (hT : TB n tr T) (hr : Res (mx L) 0 (trs n) (b', c', (List.range n).map bp)) (hf : FB n tr L f) (hj : j < n) : bp j = T (7 * f + j) := by
  have e := (res_fb hT.1 hr hf).2
  have h1 := (hT.2.2 f hf.1).2.1 j hj
  rw [← e] at h1
  have h2 : ((List.range n).map bp)[j]? = some (bp j) := by
    rw [List.getElem?_map, List.getElem?_range hj]
    rfl
  have h3 : some (bp j) = some (T (7 * f + j)) := h2.symm.trans h1
  exact Option.some.inj h3
-- pairs side by side
def prs : List Nat → List (Nat × Nat)
  | [] => []
  | [_] => []
  | a :: b :: r => (a, b) :: prs (b :: r)
theorem adj_prs (g : Nat) : ∀ p, adj g p = prs (p ++ [g])
  | [] => rfl
  | [a] => rfl
  | a :: b :: r => by
    show (a, b) :: adj g (b :: r) = (a, b) :: prs (b :: r ++ [g])
    rw [adj_prs g (b :: r)]
theorem tot_wsum (w : Nat → Nat → Nat) (g : Nat) : ∀ p, tot w g p = wsum w (p ++ [g])
  | [] => rfl
  | [a] => by
    show w a g = w a g + 0
    omega
  | a :: b :: r => by
    show w a b + tot w g (b :: r) = w a b + wsum w (b :: r ++ [g])
    rw [tot_wsum w g (b :: r)]
theorem wsum_cat {w : Nat → Nat → Nat} {x : Nat} {l2 : List Nat} : ∀ l1 : List Nat, wsum w (l1 ++ x :: l2) = wsum w (l1 ++ [x]) + wsum w (x :: l2)
  | [] => by
    show wsum w (x :: l2) = 0 + wsum w (x :: l2)
    omega
  | [a] => by
    show w a x + wsum w (x :: l2) = (w a x + 0) + wsum w (x :: l2)
    omega
  | a :: b :: r => by
    have := wsum_cat (w := w) (x := x) (l2 := l2) (b :: r)
    show w a b + wsum w (b :: r ++ x :: l2) = (w a b + wsum w (b :: r ++ [x])) + wsum w (x :: l2)
    omega
theorem prs_cat {x : Nat} {l2 : List Nat} : ∀ l1 : List Nat, prs (l1 ++ x :: l2) = prs (l1 ++ [x]) ++ prs (x :: l2)
  | [] => rfl
  | [a] => rfl
  | a :: b :: r => by
    have := prs_cat (x := x) (l2 := l2) (b :: r)
    show (a, b) :: prs (b :: r ++ x :: l2) = ((a, b) :: prs (b :: r ++ [x])) ++ prs (x :: l2)
    rw [this]
    rfl
theorem prs_two {a b : Nat} {l r : List Nat} : (b, a) ∈ prs (l ++ b :: a :: r) := by
  rw [prs_cat]
  exact List.mem_append_right _ List.mem_cons_self
theorem prs_split {a b : Nat} : ∀ {l : List Nat}, (b, a) ∈ prs l → ∃ l1 l2, l = l1 ++ b :: a :: l2
  | [], h => by cases h
  | [_], h => by cases h
  | x :: y :: r, h => by
    rcases List.mem_cons.mp (show (b, a) ∈ (x, y) :: prs (y :: r) from h) with e | e
    · have e1 := congrArg Prod.fst e
      have e2 := congrArg Prod.snd e
      dsimp only at e1 e2
      exact ⟨[], r, by rw [e1, e2]; rfl⟩
    · obtain ⟨l1, l2, e2⟩ := prs_split e
      exact ⟨x :: l1, l2, by rw [e2]; rfl⟩
theorem wsum_rev {w : Nat → Nat → Nat} : ∀ l : List Nat, (∀ x y, x ∈ l → y ∈ l → w x y = w y x) → wsum w l.reverse = wsum w l
  | [], _ => rfl
  | [_], _ => rfl
  | a :: b :: r, h => by
    have ih := wsum_rev (b :: r) (fun x y hx hy => h x y (List.mem_cons_of_mem _ hx) (List.mem_cons_of_mem _ hy))
    have e : (a :: b :: r).reverse = r.reverse ++ [b] ++ [a] := by simp
    have e2 : (b :: r).reverse = r.reverse ++ [b] := by simp
    rw [e, wsum_app2, ← e2, ih, h b a (List.mem_cons_of_mem _ List.mem_cons_self) List.mem_cons_self]
    exact Nat.add_comm _ _
theorem prs_rev {x y : Nat} : ∀ l : List Nat, (x, y) ∈ prs l → (y, x) ∈ prs l.reverse
  | [], h => by cases h
  | [_], h => by cases h
  | a :: b :: r, h => by
    have e : (a :: b :: r).reverse = r.reverse ++ b :: [a] := by simp
    have e2 : (b :: r).reverse = r.reverse ++ [b] := by simp
    rw [e, prs_cat, ← e2]
    rcases List.mem_cons.mp (show (x, y) ∈ (a, b) :: prs (b :: r) from h) with q | q
    · have e1 := congrArg Prod.fst q
      have e3 := congrArg Prod.snd q
      dsimp only at e1 e3
      rw [e1, e3]
      exact List.mem_append_right _ List.mem_cons_self
    · exact List.mem_append_left _ (prs_rev (b :: r) q)
/-- a round trip from 0 -/
def Tour (n : Nat) (t : List Nat) : Prop := (∃ r, t = 0 :: r) ∧ t.Nodup ∧ ∀ x, x ∈ t ↔ x < n
theorem len_of {n : Nat} {l : List Nat} (h : l.Nodup) (h1 : ∀ x, x ∈ l → x < n) : l.length = ctn (fun x => x ∈ l) n := by
  induction l with
  | nil => exact (ctn_none (fun x _ q => by cases q)).symm
  | cons a l ih =>
    have h2 := List.nodup_cons.mp h
    have e : ctn (fun x => x ∈ a :: l) n = ctn (fun x => x ∈ l) n + 1 := dis_out (h1 a List.mem_cons_self) h2.1
    rw [e, ← ih h2.2 (fun x hx => h1 x (List.mem_cons_of_mem _ hx))]
    rfl
theorem trs_tour {n : Nat} (hn3 : 3 ≤ n) {t : List Nat} (h : t ∈ trs n) : Tour n t := by
  obtain ⟨q, e, e1, e2, e3⟩ := cmp_app h
  have hc : ctn (fun x => ¬ x ∈ [0] ∧ ¬ x = 0) n = n - 1 := by
    have e1 : ctn (fun _ : Nat => True) n = n := ctn_full (fun _ _ => trivial)
    have e2 := ctn_del (P := fun _ : Nat => True) (show 0 < n by omega) trivial
    have e3 : ctn (fun x => ¬ x ∈ [0] ∧ ¬ x = 0) n = ctn (fun j => True ∧ ¬ j = 0) n := ctn_congr (fun x _ => by simp)
    omega
  have hl := cmp_lt (show 0 < n by omega) h
  refine ⟨⟨q, e⟩, ?_, fun x => ⟨fun hx => hl.1 x hx, fun hx => ?_⟩⟩
  · rw [e]
    exact List.nodup_cons.mpr ⟨fun q9 => (e2 0 q9).2.2 rfl, e3⟩
  · by_cases e0 : x = 0
    · rw [e, e0]; exact List.mem_cons_self
    · exact cmp_all hc h x hx e0
theorem tour_trs {n : Nat} (hn3 : 3 ≤ n) {t : List Nat} (h : Tour n t) : t ∈ trs n := by
  obtain ⟨⟨r, e⟩, h2, h3⟩ := h
  have h4 := len_of h2 (fun x hx => (h3 x).mp hx)
  have h5 : ctn (fun x => x ∈ t) n = n := ctn_full (fun x hx => (h3 x).mpr hx)
  rw [e] at h2
  have h6 := List.nodup_cons.mp h2
  have hl : r.length = n - 1 := by
    rw [h5, e] at h4
    have : r.length + 1 = n := h4
    omega
  have := cmp_mk (n := n) (g := 0) r [0] (fun x hx => ⟨(h3 x).mp (by rw [e]; exact List.mem_cons_of_mem _ hx), fun q => by
    have : x = 0 := by simpa using q
    exact h6.1 (by rw [← this]; exact hx), fun q => h6.1 (by rw [← q]; exact hx)⟩) h6.2
  rw [hl] at this
  rw [e]
  exact this
end
section
/-! PURE: trips that use, or avoid, a pair; nets -/
/-- a trip with b ahead of a is a way from a over all to b -/
theorem tour_way {n a b : Nat} {w : Nat → Nat → Nat} (hn3 : 3 ≤ n) (hab : ¬ a = b) {t : List Nat} (h : Tour n t) (hb : (b, a) ∈ adj 0 t) : ∃ q, q ∈ cmp n b (n - 2) [a] ∧ tot w b q + w b a = tot w 0 t := by
  obtain ⟨⟨r, e⟩, h2, h3⟩ := h
  -- the way: q0 begins with a, and t is q0 ++ [b] turned
  have key : ∃ q0 : List Nat, tot w b (a :: q0) + w b a = tot w 0 t ∧ (a :: q0 ++ [b]).Nodup ∧ ∀ x, x ∈ a :: q0 ++ [b] ↔ x < n := by
    rw [adj_prs] at hb
    obtain ⟨l1, l2, e2⟩ := prs_split hb
    have hsum : tot w 0 t = wsum w (l1 ++ [b]) + (w b a + wsum w (a :: l2)) := by
      rw [tot_wsum, e2, wsum_cat]
      rfl
    rcases List.eq_nil_or_concat l2 with e3 | ⟨l3, z, e3⟩
    · -- a is the 0 at the end
      rw [e3] at e2
      have e4 : t ++ [0] = (l1 ++ [b]) ++ [a] := by rw [e2]; simp
      obtain ⟨e5, e6⟩ := List.append_inj' e4 rfl
      have ea : a = 0 := by simpa using e6.symm
      cases l1 with
      | nil =>
        rw [e] at e5
        have : 0 = b := by
          have := List.cons.inj (show (0 :: r : List Nat) = b :: [] from e5)
          exact this.1
        omega
      | cons x l1 =>
        have ex : x = 0 := by
          rw [e] at e5
          exact ((List.cons.inj (show (0 :: r : List Nat) = x :: (l1 ++ [b]) from e5)).1).symm
        have et : t = a :: l1 ++ [b] := by rw [e5, ex, ea]
        refine ⟨l1, ?_, by rw [← et]; exact h2, by rw [← et]; exact h3⟩
        rw [hsum, e3, tot_wsum, ex, ← ea]
        show wsum w (a :: l1 ++ [b]) + w b a = wsum w (a :: l1 ++ [b]) + (w b a + 0)
        omega
    · have e3 : l2 = l3 ++ [z] := by rw [e3, List.concat_eq_append]
      have e4 : t ++ [0] = (l1 ++ b :: a :: l3) ++ [z] := by rw [e2, e3]; simp
      obtain ⟨e5, e6⟩ := List.append_inj' e4 rfl
      have ez : z = 0 := by simpa using e6.symm
      have hperm : (a :: (l3 ++ l1) ++ [b]).Perm t := by
        rw [e5]
        have p1 : (a :: (l3 ++ l1) ++ [b]) = (a :: l3) ++ (l1 ++ [b]) := by simp
        have p2 : (l1 ++ b :: a :: l3) = (l1 ++ [b]) ++ (a :: l3) := by simp
        rw [p1, p2]
        exact List.perm_append_comm
      refine ⟨l3 ++ l1, ?_, hperm.symm.nodup h2, fun x => by rw [hperm.mem_iff]; exact h3 x⟩
      rw [hsum, tot_wsum, e3, ez]
      cases l1 with
      | nil =>
        rw [e] at e5
        have eb : b = 0 := ((List.cons.inj (show (0 :: r : List Nat) = b :: a :: l3 from e5)).1).symm
        show wsum w (a :: (l3 ++ []) ++ [b]) + w b a = 0 + (w b a + wsum w (a :: (l3 ++ [0])))
        rw [List.append_nil, eb]
        show wsum w (a :: l3 ++ [0]) + w 0 a = 0 + (w 0 a + wsum w (a :: l3 ++ [0]))
        omega
      | cons x l1 =>
        have ex : x = 0 := by
          rw [e] at e5
          exact ((List.cons.inj (show (0 :: r : List Nat) = x :: (l1 ++ b :: a :: l3) from e5)).1).symm
        rw [ex]
        have e7 : a :: (l3 ++ 0 :: l1) ++ [b] = (a :: l3) ++ 0 :: (l1 ++ [b]) := by simp
        rw [e7, wsum_cat]
        show wsum w (a :: l3 ++ [0]) + wsum w (0 :: (l1 ++ [b])) + w b a = wsum w (0 :: (l1 ++ [b])) + (w b a + wsum w (a :: (l3 ++ [0])))
        show wsum w (a :: l3 ++ [0]) + wsum w (0 :: (l1 ++ [b])) + w b a = wsum w (0 :: (l1 ++ [b])) + (w b a + wsum w (a :: l3 ++ [0]))
        omega
  obtain ⟨q0, k1, k2, k3⟩ := key
  refine ⟨a :: q0, ?_, k1⟩
  have k4 := List.nodup_append.mp k2
  have k5 := List.nodup_cons.mp k4.1
  have k6 := len_of k4.1 (fun x hx => (k3 x).mp (List.mem_append_left _ hx))
  have k7 := len_of k2 (fun x hx => (k3 x).mp hx)
  have k8 : ctn (fun x => x ∈ a :: q0 ++ [b]) n = n := ctn_full (fun x hx => (k3 x).mpr hx)
  have hl : q0.length = n - 2 := by
    rw [k8] at k7
    simp at k7
    omega
  have := cmp_mk (n := n) (g := b) q0 [a] (fun x hx => ⟨(k3 x).mp (List.mem_append_left _ (List.mem_cons_of_mem _ hx)), fun q => by
    have : x = a := by simpa using q
    exact k5.1 (by rw [← this]; exact hx), fun q => k4.2.2 x (List.mem_cons_of_mem _ hx) b (by simp) q⟩) k5.2
  rw [hl] at this
  exact this
theorem tour_rev {n : Nat} {w : Nat → Nat → Nat} (hw : ∀ x y, x < n → y < n → w x y = w y x) {t : List Nat} (h : Tour n t) : ∃ t', Tour n t' ∧ tot w 0 t' = tot w 0 t ∧ ∀ x y, (x, y) ∈ adj 0 t → (y, x) ∈ adj 0 t' := by
  obtain ⟨⟨r, e⟩, h2, h3⟩ := h
  have hr : (0 :: r.reverse) ++ [0] = ((0 :: r) ++ [0]).reverse := by simp
  have h0 : 0 < n := (h3 0).mp (by rw [e]; exact List.mem_cons_self)
  have hp : (0 :: r.reverse).Perm t := by
    rw [e]
    exact List.Perm.cons 0 (List.reverse_perm r)
  refine ⟨0 :: r.reverse, ⟨⟨_, rfl⟩, hp.symm.nodup h2, fun x => by rw [hp.mem_iff]; exact h3 x⟩, ?_, fun x y hxy => ?_⟩
  · rw [tot_wsum, tot_wsum, hr, e]
    refine wsum_rev _ (fun x y hx hy => hw x y ?_ ?_)
    · rcases List.mem_append.mp hx with q | q
      · exact (h3 x).mp (by rw [e]; exact q)
      · have : x = 0 := by simpa using q
        omega
    · rcases List.mem_append.mp hy with q | q
      · exact (h3 y).mp (by rw [e]; exact q)
      · have : y = 0 := by simpa using q
        omega
  · rw [adj_prs] at hxy ⊢
    rw [hr]
    rw [e] at hxy
    exact prs_rev _ hxy
theorem use_way {n a b : Nat} {w : Nat → Nat → Nat} (hn3 : 3 ≤ n) (hw : ∀ x y, x < n → y < n → w x y = w y x) (ha : a < n) (hb : b < n) (hab : ¬ a = b) {t : List Nat} (h : Tour n t) (hu : usd a b t) : ∃ q, q ∈ cmp n b (n - 2) [a] ∧ tot w b q + w a b = tot w 0 t := by
  rw [hw a b ha hb]
  rcases hu with hu | hu
  · obtain ⟨t', h1, h2, h3⟩ := tour_rev hw h
    rw [← h2]
    exact tour_way hn3 hab h1 (h3 a b hu)
  · exact tour_way hn3 hab h hu
/-- a way from a over all to b, and back, is a trip -/
theorem way_use {n a b : Nat} {w : Nat → Nat → Nat} (hn3 : 3 ≤ n) (hw : ∀ x y, x < n → y < n → w x y = w y x) (ha : a < n) (hb : b < n) (hab : ¬ a = b) {q : List Nat} (h : q ∈ cmp n b (n - 2) [a]) : ∃ t, Tour n t ∧ usd a b t ∧ tot w 0 t = tot w b q + w a b := by
  rw [hw a b ha hb]
  obtain ⟨q0, e, e1, e2, e3⟩ := cmp_app h
  have e : q = a :: q0 := e
  have hc : ctn (fun x => ¬ x ∈ [a] ∧ ¬ x = b) n = n - 2 := by
    have e1 : ctn (fun _ : Nat => True) n = n := ctn_full (fun _ _ => trivial)
    have e2 := ctn_del (P := fun _ : Nat => True) ha trivial
    have e3 := ctn_del (P := fun j => True ∧ ¬ j = a) hb ⟨trivial, fun q => hab q.symm⟩
    have e4 : ctn (fun x => ¬ x ∈ [a] ∧ ¬ x = b) n = ctn (fun j => (True ∧ ¬ j = a) ∧ ¬ j = b) n := ctn_congr (fun x _ => by simp)
    omega
  have hall := cmp_all hc h
  have hmem : ∀ x, x ∈ q ++ [b] ↔ x < n := fun x => by
    rw [List.mem_append]
    constructor
    · rintro (q1 | q1)
      · exact (cmp_lt ha h).1 x q1
      · have : x = b := by simpa using q1
        omega
    · intro hx
      by_cases ex : x = b
      · right; simp [ex]
      · left; exact hall x hx ex
  have hnd : (q ++ [b]).Nodup := by
    rw [List.nodup_append]
    refine ⟨by rw [e]; exact List.nodup_cons.mpr ⟨fun q9 => (e2 a q9).2.1 (by simp), e3⟩, by simp, fun x hx y hy => ?_⟩
    have ey : y = b := by simpa using hy
    rw [ey]
    rw [e] at hx
    rcases List.mem_cons.mp hx with q9 | q9
    · rw [q9]; exact hab
    · exact (e2 x q9).2.2
  obtain ⟨l1, l2, hl⟩ := List.append_of_mem ((hmem 0).mpr (by omega))
  have hperm : (0 :: l2 ++ l1).Perm (q ++ [b]) := by
    rw [hl]
    exact List.perm_append_comm (l₁ := 0 :: l2) (l₂ := l1)
  refine ⟨0 :: l2 ++ l1, ⟨⟨l2 ++ l1, rfl⟩, hperm.symm.nodup hnd, fun x => by rw [hperm.mem_iff]; exact hmem x⟩, ?_, ?_⟩
  · right
    rw [adj_prs]
    -- the last of 0 :: l2 is b
    have hlast : ∃ l', 0 :: l2 = l' ++ [b] ∧ q = l1 ++ l' := by
      rcases List.eq_nil_or_concat (0 :: l2) with e5 | ⟨l', z, e5⟩
      · cases e5
      · have e5 : 0 :: l2 = l' ++ [z] := by rw [e5, List.concat_eq_append]
        rw [e5] at hl
        have e6 : q ++ [b] = (l1 ++ l') ++ [z] := by rw [hl]; simp
        obtain ⟨e7, e8⟩ := List.append_inj' e6 rfl
        have ez : z = b := by simpa using e8.symm
        exact ⟨l', by rw [e5, ez], e7⟩
    obtain ⟨l', e5, e6⟩ := hlast
    rw [e5]
    cases l1 with
    | nil =>
      have e7 : l' = q := e6.symm
      have ea : a = 0 := by
        rw [← e7] at e
        rw [e] at e5
        exact ((List.cons.inj (show (0 :: l2 : List Nat) = a :: (q0 ++ [b]) from e5)).1).symm
      rw [ea]
      have : l' ++ [b] ++ [] ++ [0] = l' ++ b :: 0 :: [] := by simp
      rw [this]
      exact prs_two
    | cons x l1 =>
      have ex : x = a := by
        rw [e] at e6
        exact ((List.cons.inj (show (a :: q0 : List Nat) = x :: (l1 ++ l') from e6)).1).symm
      rw [ex]
      have : l' ++ [b] ++ a :: l1 ++ [0] = l' ++ b :: a :: (l1 ++ [0]) := by simp
      rw [this]
      exact prs_two
  · rw [tot_wsum, tot_wsum, hl]
    cases l1 with
    | nil =>
      have ea : a = 0 := by
        rw [e] at hl
        exact (List.cons.inj (show (a :: (q0 ++ [b]) : List Nat) = 0 :: l2 from hl)).1
      have e5 : 0 :: l2 ++ [] ++ [0] = q ++ b :: [0] := by
        have : 0 :: l2 = q ++ [b] := hl.symm
        rw [List.append_nil, this]
        simp
      rw [e5, wsum_cat]
      show wsum w (q ++ [b]) + (w b 0 + 0) = wsum w (0 :: l2) + w b a
      rw [hl, ea]
      show wsum w (0 :: l2) + (w b 0 + 0) = wsum w (0 :: l2) + w b 0
      omega
    | cons x l1 =>
      have ex : x = a := by
        rw [e] at hl
        exact ((List.cons.inj (show (a :: (q0 ++ [b]) : List Nat) = x :: (l1 ++ 0 :: l2) from hl)).1).symm
      rw [ex] at hl ⊢
      have e5 : 0 :: l2 ++ a :: l1 ++ [0] = (0 :: l2) ++ a :: (l1 ++ [0]) := by simp
      rw [e5, wsum_cat (l1 := 0 :: l2)]
      have e6 : wsum w (a :: l1 ++ 0 :: l2) = wsum w (a :: l1 ++ [0]) + wsum w (0 :: l2) := wsum_cat _
      rw [e6]
      have hlast : ∃ l', 0 :: l2 = l' ++ [b] := by
        rcases List.eq_nil_or_concat (0 :: l2) with e5 | ⟨l', z, e5⟩
        · cases e5
        · have e5 : 0 :: l2 = l' ++ [z] := by rw [e5, List.concat_eq_append]
          rw [e5] at hl
          have e6 : q ++ [b] = (a :: l1 ++ l') ++ [z] := by rw [hl]; simp
          obtain ⟨e7, e8⟩ := List.append_inj' e6 rfl
          have ez : z = b := by simpa using e8.symm
          exact ⟨l', by rw [e5, ez]⟩
      obtain ⟨l', e7⟩ := hlast
      have e8 : wsum w (0 :: l2 ++ [a]) = wsum w (0 :: l2) + w b a := by
        rw [e7]
        exact wsum_app2 l' b a
      rw [e8]
      show wsum w (0 :: l2) + w b a + wsum w (a :: l1 ++ [0]) = wsum w (a :: l1 ++ [0]) + wsum w (0 :: l2) + w b a
      omega
end
section
/-! PURE: using, walk, avoiding, reach, net -/
/-- what 'least' has found -/
def LSt (n tr : Nat) (L : Nat → Nat) (a b us : Nat) (r0 : Int32) : Prop := (r0 = -1 ∧ ∀ j, j < tr → ¬ cnd n a b us j) ∨ ∃ f, r0 = nI (vl n L f) ∧ f < tr ∧ cnd n a b us f ∧ ∀ j, j < tr → cnd n a b us j → vl n L f ≤ vl n L j
theorem eq_using {n tr a b : Nat} {L T : Nat → Nat} {r0 : Int32} {r : Nat × Nat × List Nat} (hn3 : 3 ≤ n) (hn : n ≤ 7) (hL : LOK n L) (hT : TB n tr T) (ha : a < n) (hb : b < n) (hab : ¬ a = b) (hr : Res (mx L) b (cmp n b (n - 2) [a]) r) (h : LSt n tr L a b 1 r0) : r0 = nI (r.1 + L (7 * a + b)) := by
  obtain ⟨i, h1, h2, h3, h4, h5⟩ := hr
  obtain ⟨t, t1, t2, t3⟩ := way_use (w := mx L) hn3 hL.2 ha hb hab (List.mem_of_getElem? h1)
  obtain ⟨k, hk⟩ := List.getElem?_of_mem (tour_trs hn3 t1)
  obtain ⟨e1, e2⟩ := row_of hk
  have htr := hT.1
  have hc : cnd n a b 1 k := Or.inl ⟨by rw [← e1]; exact t2, rfl⟩
  have hv : vl n L k = r.1 + L (7 * a + b) := by
    unfold vl
    rw [← e1, t3, h2]
    rfl
  rcases h with ⟨_, h⟩ | ⟨f, rfl, f1, f2, f3⟩
  · exact absurd hc (h k (by omega))
  · congr 1
    have a1 := f3 k (by omega) hc
    have hu : usd a b (row n f) := by
      rcases f2 with q | q
      · exact q.1
      · omega
    obtain ⟨q, q1, q2⟩ := use_way (w := mx L) hn3 hL.2 ha hb hab (trs_tour hn3 (List.mem_of_getElem? (row_get (n := n) (t := f) (by omega)))) hu
    obtain ⟨j, hj⟩ := List.getElem?_of_mem q1
    have a2 := h3 j q hj
    have q3 : tot (mx L) b q + L (7 * a + b) = vl n L f := q2
    omega
theorem eq_walk {n tr a b : Nat} {L T : Nat → Nat} {r0 : Int32} {r : Nat × Nat × List Nat} (hn3 : 3 ≤ n) (hn : n ≤ 7) (hL : LOK n L) (hT : TB n tr T) (ha : a < n) (hb : b < n) (hab : ¬ a = b) (hr : Res (mx L) b (cmp n b (n - 2) [a]) r) (h : LSt n tr L a b 1 r0) : r0 - nI (L (7 * a + b)) = nI r.1 := by
  rw [eq_using hn3 hn hL hT ha hb hab hr h, pk_sub (Nat.le_add_left _ _), Nat.add_sub_cancel]
theorem wsum_congr {w w' : Nat → Nat → Nat} : ∀ l : List Nat, (∀ x y, (x, y) ∈ prs l → w x y = w' x y) → wsum w l = wsum w' l
  | [], _ => rfl
  | [_], _ => rfl
  | a :: b :: r, h => by
    show w a b + wsum w (b :: r) = w' a b + wsum w' (b :: r)
    rw [h a b List.mem_cons_self, wsum_congr (b :: r) (fun x y hxy => h x y (List.mem_cons_of_mem _ hxy))]
theorem wsum_ge {w : Nat → Nat → Nat} {x y : Nat} : ∀ l : List Nat, (x, y) ∈ prs l → w x y ≤ wsum w l
  | [], h => by cases h
  | [_], h => by cases h
  | a :: b :: r, h => by
    show w x y ≤ w a b + wsum w (b :: r)
    rcases List.mem_cons.mp (show (x, y) ∈ (a, b) :: prs (b :: r) from h) with e | e
    · have e1 := congrArg Prod.fst e
      have e2 := congrArg Prod.snd e
      dsimp only at e1 e2
      rw [e1, e2]
      omega
    · have := wsum_ge (w := w) (b :: r) e
      omega
theorem prs_in {x y : Nat} : ∀ l : List Nat, (x, y) ∈ prs l → x ∈ l ∧ y ∈ l
  | [], h => by cases h
  | [_], h => by cases h
  | a :: b :: r, h => by
    rcases List.mem_cons.mp (show (x, y) ∈ (a, b) :: prs (b :: r) from h) with e | e
    · have e1 := congrArg Prod.fst e
      have e2 := congrArg Prod.snd e
      dsimp only at e1 e2
      rw [e1, e2]
      exact ⟨List.mem_cons_self, List.mem_cons_of_mem _ List.mem_cons_self⟩
    · have := prs_in (b :: r) e
      exact ⟨List.mem_cons_of_mem _ this.1, List.mem_cons_of_mem _ this.2⟩
theorem far_use {n a b : Nat} {L : Nat → Nat} {t : List Nat} (hu : usd a b t) : 10000 ≤ tot (mx (up2 L a b 10000)) 0 t := by
  rw [tot_wsum]
  have e1 : mx (up2 L a b 10000) a b = 10000 := by
    unfold mx up2 va_up
    by_cases h : 7 * a + b = 7 * b + a
    · rw [if_pos h]
    · rw [if_neg h, if_pos rfl]
  have e2 : mx (up2 L a b 10000) b a = 10000 := by
    unfold mx up2 va_up
    rw [if_pos rfl]
  rcases hu with hu | hu
  · rw [adj_prs] at hu
    have := wsum_ge (w := mx (up2 L a b 10000)) _ hu
    omega
  · rw [adj_prs] at hu
    have := wsum_ge (w := mx (up2 L a b 10000)) _ hu
    omega
theorem far_avoid {n a b : Nat} {L : Nat → Nat} {t : List Nat} (hn : n ≤ 7) (ha : a < n) (hb : b < n) (ht : Tour n t) (hu : ¬ usd a b t) : tot (mx (up2 L a b 10000)) 0 t = tot (mx L) 0 t := by
  rw [tot_wsum, tot_wsum]
  refine wsum_congr _ (fun x y hxy => ?_)
  have h0 : 0 < n := (ht.2.2 0).mp (by obtain ⟨r, e⟩ := ht.1; rw [e]; exact List.mem_cons_self)
  have hin : ∀ z, z ∈ t ++ [0] → z < n := fun z hz => by
    rcases List.mem_append.mp hz with q | q
    · exact (ht.2.2 z).mp q
    · have : z = 0 := by simpa using q
      omega
  have h2 := prs_in _ hxy
  have hx := hin x h2.1
  have hy := hin y h2.2
  unfold mx up2 va_up
  by_cases e1 : 7 * x + y = 7 * b + a
  · have : x = b ∧ y = a := by omega
    rw [this.1, this.2] at hxy
    exact absurd (Or.inr (by rw [adj_prs]; exact hxy)) hu
  · rw [if_neg e1]
    by_cases e2 : 7 * x + y = 7 * a + b
    · have : x = a ∧ y = b := by omega
      rw [this.1, this.2] at hxy
      exact absurd (Or.inl (by rw [adj_prs]; exact hxy)) hu
    · rw [if_neg e2]
def cands (n : Nat) : List (List Nat) := if n = 4 then [[0, 1, 2, 3], [0, 1, 3, 2], [0, 2, 1, 3]] else if n = 5 then [[0, 1, 2, 3, 4], [0, 2, 4, 1, 3]] else if n = 6 then [[0, 1, 2, 3, 4, 5], [0, 2, 4, 1, 5, 3]] else [[0, 1, 2, 3, 4, 5, 6], [0, 2, 4, 6, 1, 3, 5]]
theorem cands_in : ∀ n, n < 8 → 4 ≤ n → ∀ t, t ∈ cands n → t ∈ trs n := by decide +kernel
theorem cands_b : (List.range 8).all (fun n => (List.range n).all (fun a => (List.range n).all (fun b => decide (n < 4) || (a == b) || (cands n).any (fun t => !((adj 0 t).contains (a, b)) && !((adj 0 t).contains (b, a)))))) = true := by decide +kernel
theorem cands_av (n : Nat) (h1 : n < 8) (h2 : 4 ≤ n) (a : Nat) (ha : a < n) (b : Nat) (hb : b < n) (hab : ¬ a = b) : ∃ t, t ∈ cands n ∧ ¬ (a, b) ∈ adj 0 t ∧ ¬ (b, a) ∈ adj 0 t := by
  have c1 := List.all_eq_true.mp cands_b n (List.mem_range.mpr h1)
  have c2 := List.all_eq_true.mp c1 a (List.mem_range.mpr ha)
  have c3 := List.all_eq_true.mp c2 b (List.mem_range.mpr hb)
  rw [show decide (n < 4) = false by simp; omega, show (a == b) = false by simpa using hab, Bool.false_or, Bool.false_or] at c3
  obtain ⟨t, t1, t2⟩ := List.any_eq_true.mp c3
  refine ⟨t, t1, ?_, ?_⟩
  · intro q
    rw [List.contains_iff_mem.mpr q] at t2
    simp at t2
  · intro q
    rw [List.contains_iff_mem.mpr q] at t2
    simp at t2
theorem eq_avoid {n tr a b : Nat} {L T : Nat → Nat} {r0 : Int32} {r : Nat × Nat × List Nat} (hn3 : 3 ≤ n) (hn : n ≤ 7) (h4 : ¬ n = 3) (hL : LOK n L) (hT : TB n tr T) (ha : a < n) (hb : b < n) (hab : ¬ a = b) (hr : Res (mx (up2 L a b 10000)) 0 (trs n) r) (h : LSt n tr L a b 0 r0) : r0 = nI r.1 := by
  obtain ⟨i, h1, h2, h3, _, _⟩ := hr
  have htr := hT.1
  have tour : ∀ t, t < tr → Tour n (row n t) := fun t ht => trs_tour hn3 (List.mem_of_getElem? (row_get (n := n) (t := t) (by omega)))
  have small : ∀ t, t < tr → vl n L t ≤ 420 := fun t ht => vl_le hn (by omega) hL hT ht
  obtain ⟨t0, c1, c2, c3⟩ := cands_av n (by omega) (by omega) a ha b hb hab
  obtain ⟨k, hk⟩ := List.getElem?_of_mem (cands_in n (by omega) (by omega) t0 c1)
  obtain ⟨e1, e2⟩ := row_of hk
  have hku : ¬ usd a b (row n k) := fun q => by
    rw [← e1] at q
    rcases q with q | q
    · exact c2 q
    · exact c3 q
  have val : ∀ t, t < tr → ¬ usd a b (row n t) → tot (mx (up2 L a b 10000)) 0 (row n t) = vl n L t := fun t ht hu => far_avoid hn ha hb (tour t ht) hu
  have hck : cnd n a b 0 k := Or.inr ⟨hku, rfl⟩
  have hrk : r.1 ≤ 420 := by
    have := h3 k _ (row_get e2)
    rw [val k (by omega) hku] at this
    have := small k (by omega)
    omega
  obtain ⟨e3, e4⟩ := row_of h1
  have hiu : ¬ usd a b (row n i) := fun q => by
    have := far_use (n := n) (L := L) q
    rw [← e3, h2] at this
    omega
  rcases h with ⟨_, h⟩ | ⟨f, rfl, f1, f2, f3⟩
  · exact absurd hck (h k (by omega))
  · congr 1
    have a1 := f3 i (by omega) (Or.inr ⟨hiu, rfl⟩)
    have hv : vl n L i = r.1 := by
      rw [← val i (by omega) hiu, ← e3, h2]
    have hfu : ¬ usd a b (row n f) := by
      rcases f2 with q | q
      · omega
      · exact q.1
    have a2 := h3 f _ (row_get (by omega))
    rw [val f f1 hfu] at a2
    omega
theorem npt_cnt {n k : Nat} {L : Nat → Nat} {lst : List (Nat × Nat)} (hL : LOK n L) (h : PR (mx L) (fun x => x < n) 0 lst) (hall : ∀ x, x < n → x ∈ vis 0 lst) : npt n L k = cnt k lst + 1 :=
  parts_eq (f := mi (mx L) n k) hL.2 (fun u _ => ⟨mi_cn (mx L) n k u, mi_le (cn_rf (mx L) n k u)⟩) (fun _ _ => rfl) h hall
theorem eq_reach {n q : Nat} {L : Nat → Nat} {lst : List (Nat × Nat)} (hL : LOK n L) (h : PR (mx L) (fun x => x < n) 0 lst) (hall : ∀ x, x < n → x ∈ vis 0 lst) (hq : q ≤ 60) (h1 : q = 60 ∨ npt n L q = 1) (h2 : ∀ j, j < q → ¬ npt n L j = 1) : emax lst = q := by
  have hm : emax lst ≤ 60 := emax_le (pr_edge (B := 60) (fun x y _ _ => hL.1 _) h)
  have hc : ∀ k, npt n L k = 1 ↔ emax lst ≤ k := fun k => by
    rw [npt_cnt hL h hall, ← cnt_zero]
    omega
  have hlow : q ≤ emax lst := Nat.le_of_not_lt (fun q9 => h2 _ q9 ((hc _).mpr (Nat.le_refl _)))
  rcases h1 with h1 | h1
  · omega
  · have := (hc q).mp h1
    omega
theorem eq_net {n : Nat} {L : Nat → Nat} {lst : List (Nat × Nat)} (hL : LOK n L) (h : PR (mx L) (fun x => x < n) 0 lst) (hall : ∀ x, x < n → x ∈ vis 0 lst) : esum lst = sumK (fun k => npt n L k - 1) 60 := by
  rw [← sumK_cnt lst 60 (pr_edge (B := 60) (fun x y _ _ => hL.1 _) h)]
  refine sumK_congr (fun k _ => ?_)
  rw [npt_cnt hL h hall]
  omega
end
section
/-! THE LAW: its script, its cell method, its switch -/
section
variable {p : Program} {l : Launch} {e : Env} {R : Room} {s : State} {m : MethodId} {args : Array Value} {below : List Frame} {meth : Method} {c : Code} {Q : State → Prop} {D : va_G} {A : Nat → Prop} {nL ce sl : Nat} {w wr : va_W} {pc : Nat} {lv : List (Nat × Value)} {st rest : List Value} {cc : ByteArray} {own : String} {tys : List (ClassId × FieldType)} {b L : Nat} {xs : Nat → Int32}
theorem x_slen (hF : FX p s m args c D A cc nL own tys) (hX : va_X b L xs s s.heap) (hbl : b < s.heap.size) (hbA : ¬ A b) (hd : decode cc pc = .ok (.arraylength, 1)) (kk : WW p l e R s m args below meth c Q D A nL ce sl w (pc + 1) lv (.int (nI L) :: st)) : WW p l e R s m args below meth c Q D A nL ce sl w pc lv (.ref b :: st) :=
  fun H locs ls hP hD hS hL => va_slen hF.1 hF.2.1 hX hbl hbA hS hd (kk H locs ls hP hD hS hL)
theorem x_sld (hF : FX p s m args c D A cc nL own tys) (hX : va_X b L xs s s.heap) (hbl : b < s.heap.size) (hbA : ¬ A b) {i : Nat} (hi : i < L) (hL2 : L < 2147483648) (hd : decode cc pc = .ok (.iaload, 1)) (kk : WW p l e R s m args below meth c Q D A nL ce sl w (pc + 1) lv (.int (xs i) :: st)) : WW p l e R s m args below meth c Q D A nL ce sl w pc lv (.int (nI i) :: .ref b :: st) :=
  fun H locs ls hP hD hS hL => va_sld hF.1 hF.2.1 hX hbl hbA hS (vp_in_nI hi hL2) hd (by rw [nI_clamp (Nat.lt_trans hi hL2)]; exact kk H locs ls hP hD hS hL)
theorem x_tableIn (hF : FX p s m args c D A cc nL own tys) {dflt lo hi off : Int} {offs : Array Int} {len : Nat} (tgt : Nat) {x : Int32} (hd : decode cc pc = .ok (.tableswitch dflt lo hi offs, len)) (h1 : ¬ x.toInt < lo) (h2 : ¬ hi < x.toInt) (ho : offs[(x.toInt - lo).toNat]? = some off) (ht : (pc : Int) + off = (tgt : Int)) (kk : WW p l e R s m args below meth c Q D A nL ce sl w tgt lv st) : WW p l e R s m args below meth c Q D A nL ce sl w pc lv (.int x :: st) :=
  fun H locs ls hP hD hS hL => lv_tableIn hF.1 hF.2.1 hd h1 h2 ho ht (kk H locs ls hP hD hS hL)
theorem x_tableOut (hF : FX p s m args c D A cc nL own tys) {dflt lo hi : Int} {offs : Array Int} {len : Nat} (tgt : Nat) {x : Int32} (hd : decode cc pc = .ok (.tableswitch dflt lo hi offs, len)) (h : x.toInt < lo ∨ hi < x.toInt) (ht : (pc : Int) + dflt = (tgt : Int)) (kk : WW p l e R s m args below meth c Q D A nL ce sl w tgt lv st) : WW p l e R s m args below meth c Q D A nL ce sl w pc lv (.int x :: st) :=
  fun H locs ls hP hD hS hL => lv_tableOut hF.1 hF.2.1 hd h ht (kk H locs ls hP hD hS hL)
theorem vP0 {D : va_G} {cl : List vw_C} {H : Heap} : va_P D cl [] H := fun k q h => by cases k <;> cases h
theorem vD0 {A : Nat → Prop} : va_D A [] := ⟨fun i j p q h => (by cases i <;> cases h), fun k q h => (by cases k <;> cases h)⟩
/-- cell(script, 0) -/
def cel (L : Nat) (xs : Nat → Int32) : Int32 := if 0 < L then xs 0 else nI 0
theorem m0_cell (l : Launch) (D : va_G) (b L : Nat) (xs : Nat → Int32) (hL2 : L < 2147483648) (sz : Nat) : Met l yX0_cell (ws_ yX0_cell cX0_cell 2 (some .int)) (rmr 0 0) (va_Pc [.ref b, .int (nI 0)] (fun U => U.heap.size = sz ∧ va_X b L xs U U.heap ∧ va_K D vwCl [] U)) (va_Qi (fun r (_ : Unit) => r = cel L xs) (fun _ _ => True) (va_A [] sz)) 0 0 (va_A [] sz) := by
  refine Met.ofW (cc := cX0_cell) (maxL := 2) (ret := some .int) (by decide) rfl ?_
  intro p e s m args below meth c s₁ B hml hv
  obtain ⟨rfl, hsz, hX, hK⟩ := hv
  have hx := B.exec
  have hb := B.bytes
  have hr := B.returns
  have hts := atoms_spec (ws := ws_ yX0_cell cX0_cell 2 (some .int)) B.pre
  have hts : ∀ w ∈ lw_all, w.before _ s = true := fun w h => hts w (List.mem_cons_of_mem _ h)
  have hown : s.vm.findClass yX0_cell.cls = some m.cls := findClass_of_methodNamed B.named
  have hlocks := B.notSynchronized
  subst hsz
  have hbl : b < s.heap.size := by
    obtain ⟨scr, h1, _⟩ := hX
    exact (Array.getElem?_eq_some_iff.mp h1).1
  have hbA : ¬ va_A [] s.heap.size b := by
    rintro (⟨k, e', h⟩ | h)
    · cases k <;> cases h
    · omega
  have hl := lv_entry [.ref b, .int (nI 0)] (n := 2) (Nat.le_of_ble_eq_true rfl)
  rw [lg_entry_eq]
  have hF : FX p s m _ c D (va_A [] s.heap.size) cX0_cell 2 yX0_cell.cls [] := ⟨hx, hb, hml, hown, hts, hK, fun q h => Or.inr h⟩
  have hret : ∀ (pc : Nat) (lv : List (Nat × Value)), decode cX0_cell pc = .ok (.ireturn, 1) → WW p l e (rmr 0 0) s m ([Value.ref b, Value.int (nI 0)] : List Value).toArray below meth c (MQ below (va_Qi (fun r (_ : Unit) => r = cel L xs) (fun _ _ => True) (va_A [] s.heap.size)) ([Value.ref b, Value.int (nI 0)] : List Value).toArray s 0 0 (va_A [] s.heap.size)) D (va_A [] s.heap.size) 2 0 0 [] pc lv [.int (cel L xs)] := by
    intro pc lv hdg H locs ls hP1 hD1 hS1 hl1
    exact W.iret (v := cel L xs) hx hb hr (fun t ht hW => ⟨⟨cel L xs, (), rfl, rfl, trivial⟩, hS1.F ht⟩) hS1.2.2 hdg hlocks
  have key : WW p l e (rmr 0 0) s m ([Value.ref b, Value.int (nI 0)] : List Value).toArray below meth c (MQ below (va_Qi (fun r (_ : Unit) => r = cel L xs) (fun _ _ => True) (va_A [] s.heap.size)) ([Value.ref b, Value.int (nI 0)] : List Value).toArray s 0 0 (va_A [] s.heap.size)) D (va_A [] s.heap.size) 2 0 0 [] 0 [(0, .ref b), (1, .int (nI 0))] [] := by
    refine x_iload_n hF 1 dX0_cell_0 rfl rfl ?_
    refine x_aload_n hF 0 dX0_cell_1 rfl rfl ?_
    refine x_slen hF hX hbl hbA dX0_cell_2 ?_
    refine x_icmp_ge hF 12 dX0_cell_3 (by decide) (by omega) (by omega) (fun c_3 => ?_) (fun c_3 => ?_)
    · refine x_iconst hF dX0_cell_12 kc_i0 ?_
      have e0 : cel L xs = nI 0 := if_neg (by omega)
      refine WW.cw (st2 := [.int (cel L xs)]) rfl rfl (by rw [e0]) ?_
      exact hret _ _ dX0_cell_13
    · refine x_aload_n hF 0 dX0_cell_6 rfl rfl ?_
      refine x_iload_n hF 1 dX0_cell_7 rfl rfl ?_
      refine x_sld hF hX hbl hbA c_3 hL2 dX0_cell_8 ?_
      refine x_goto hF 13 dX0_cell_9 (by decide) ?_
      have e0 : cel L xs = xs 0 := if_pos c_3
      rw [← e0]
      exact hret _ _ dX0_cell_13
  exact key s.heap [] _ vP0 vD0 va_S.rf hl
theorem x_cell (hF : FX p s m args c D A cc nL RX0 tys) (hX : va_X b L xs s s.heap) (hL2 : L < 2147483648) (hbl : b < s.heap.size) (hbA : ¬ A b) (isR : List Nat) (hRm : isR.map (fun i => w[i]?) = wr.map some) (hRn : va_nd isR = true) (hRf : 1 ≤ R.frames) (hRl : 21 ≤ R.locals) (hro : (rest.map fun v => v.category).sum ≤ 8) (hd : decode cc pc = .ok (.invokestatic 9, 3)) (hcs : ce ≤ R.cells ∧ sl ≤ R.slots)
    (kk : WW p l e R s m args below meth c Q D A nL ce sl wr (pc + 3) lv (.int (cel L xs) :: rest)) : WW p l e R s m args below meth c Q D A nL ce sl w pc lv (.int (nI 0) :: .ref b :: rest) := by
  intro H locs ls hP hD hS hL
  have hK := hF.2.2.2.2.2.1.sub (tys' := []) [] rfl
  have hFc : ∀ q, va_A [] H.size q → A q := by
    rintro q (⟨k, e', h⟩ | h)
    · cases k <;> cases h
    · exact hF.2.2.2.2.2.2 q (Nat.le_trans hS.1 h)
  have hXH : va_X b L xs s H := hX.kept (hS.2.1 b hbl hbA)
  refine va_calli (A1 := va_A [] H.size) (va_runS (As := [.ref b, .int (nI 0)]) (rest := rest) ⟨hF.1, hF.2.1, hF.2.2.1, hF.2.2.2.1, hF.2.2.2.2.1⟩ (m0_cell l D b L xs hL2 H.size) (va_cwS 2 hF.2.2.2.2.1 (lw_S q155 q156 q21 q157) rfl rfl rfl (by decide +kernel) ⟨hRf, hRl⟩) ⟨fun a U g mk q => by obtain ⟨q0, q1, qX, qK⟩ := q; exact ⟨q0, q1, va_X.moved (u := U) (U := U.calling g mk a) (Vm.Alike.refl U.vm) qX, va_K.moved (u := U) (U := U.calling g mk a) (Vm.Alike.refl U.vm) qK⟩, fun U hU hW => ⟨rfl, by rw [hU], by rw [hU]; exact hXH.moved hW.alike, va_K.moved hW.alike hK⟩⟩ rfl rfl hL.1 rfl (lv_room hro) hd hcs) hS (fun q _ h => hFc q h) hFc (fun r u t H1 locs1 ht hvm hw1 hB hz1 hk1 hS1 => ?_)
  subst hw1
  obtain ⟨hP2, hD2⟩ := va_join (wr := wr) (w1 := []) hP hD [] isR rfl hRm hRn (fun _ _ h => by cases h) hk1 hFc vP0 vD0
  rw [List.append_nil] at hP2 hD2
  exact kk H1 locs1 ls hP2 hD2 hS1 hL
end
theorem loop_in {L i : Nat} (hL : L ≤ 257) (hi : i ≤ 300) (h : ¬ nI L - nI 4 < nI i) : i + 4 ≤ L := by
  refine Nat.le_of_not_lt (fun q => h ?_)
  rw [Int32.lt_iff_toInt_lt, pk_sub_toInt (by omega) (by omega), nI_toInt (by omega)]
  omega
theorem and15 (x : Int32) : ∃ j : Nat, j < 16 ∧ x &&& nI 15 = nI j := pk_andE x 4 (by decide +kernel)
end
section
/-! PURE: what the two methods of a call answer is alike, and the two pictures go on with the same lengths -/
def PP (hx : Nat → Nat) (dx : Nat → ClassId) (hm : Nat → Nat) (dm : Nat → ClassId) (n tr : Nat) (T : Nat → Nat) (w1 w2 : va_W) : Prop := ∃ L : Nat → Nat, LOK n L ∧ WX hx dx n L w1 ∧ WM hm dm n tr L T w2
section
variable {hx hm : Nat → Nat} {dx dm : Nat → ClassId} {n tr goal best bc : Nat} {L T G pt P pa la nt bp ne : Nat → Nat} {w1 w2 : va_W} {r1 r2 u v x : Int32}
theorem nj {n a b : Nat} (hn : n ≤ 7) (ha : a < n) (hb : b < n) (h : nI a = nI b) : a = b := (nI_eq (by omega) (by omega)).mp h
theorem cpl_n {n a b : Nat} (hn : n ≤ 7) (ha : a < n) (hb : b < n) (hab : ¬ a = b) : cpl n (nI a) (nI b) := ⟨⟨a, ha, rfl⟩, ⟨b, hb, rfl⟩, fun q => hab (nj hn ha hb q)⟩
theorem pp_same (hL : LOK n L) (h1 : WX hx dx n L w1) (h2 : w2 = wM hm dm n tr L T G pt) : PP hx dx hm dm n tr T w1 w2 := ⟨L, hL, h1, G, pt, h2⟩
theorem j_road (hn : n ≤ 7) (hL : LOK n L)
    (h1 : (r1 = nI 0 ∧ ¬ (cpl n u v ∧ ¬ x < 0 ∧ x ≤ nI 60) ∧ w1 = wX hx dx n goal best bc L P pa la nt bp ne) ∨ (∃ a b k : Nat, a < n ∧ b < n ∧ ¬ a = b ∧ k ≤ 60 ∧ u = nI a ∧ v = nI b ∧ x = nI k ∧ r1 = nI 1 ∧ w1 = wX hx dx n goal best bc (up2 L a b k) P pa la nt bp ne))
    (h2 : (r2 = nI 0 ∧ ¬ (cpl n u v ∧ ¬ x < 0 ∧ x ≤ nI 60) ∧ w2 = wM hm dm n tr L T G pt) ∨ (∃ a b k : Nat, a < n ∧ b < n ∧ ¬ a = b ∧ k ≤ 60 ∧ u = nI a ∧ v = nI b ∧ x = nI k ∧ r2 = nI 1 ∧ w2 = wM hm dm n tr (up2 L a b k) T G pt)) : r1 = r2 ∧ PP hx dx hm dm n tr T w1 w2 := by
  have yes : ∀ a b k : Nat, a < n → b < n → ¬ a = b → k ≤ 60 → cpl n (nI a) (nI b) ∧ ¬ nI k < 0 ∧ nI k ≤ nI 60 := fun a b k ha hb hab hk => ⟨cpl_n hn ha hb hab, nI_pos (by omega), (nI_leI (by omega) (by omega)).mpr hk⟩
  rcases h1 with ⟨a1, a2, a3⟩ | ⟨a, b, k, ha, hb, hab, hk, e1, e2, e3, e4, e5⟩
  · rcases h2 with ⟨b1, b2, b3⟩ | ⟨a, b, k, ha, hb, hab, hk, e1, e2, e3, e4, e5⟩
    · exact ⟨by rw [a1, b1], pp_same hL ⟨_, _, _, _, _, _, _, _, _, a3⟩ b3⟩
    · subst e1; subst e2; subst e3
      exact absurd (yes a b k ha hb hab hk) a2
  · rcases h2 with ⟨b1, b2, b3⟩ | ⟨a', b', k', ha', hb', hab', hk', f1, f2, f3, f4, f5⟩
    · subst e1; subst e2; subst e3
      exact absurd (yes a b k ha hb hab hk) b2
    · subst e1; subst e2; subst e3
      have g1 := nj hn ha ha' f1
      have g2 := nj hn hb hb' f2
      have g3 : k = k' := (nI_eq (by omega) (by omega)).mp f3
      subst g1; subst g2; subst g3
      exact ⟨by rw [e4, f4], _, lok_up hn hL ha hb hk, ⟨_, _, _, _, _, _, _, _, _, e5⟩, ⟨_, _, f5⟩⟩
theorem j_shortest (hL : LOK n L) (hT : TB n tr T)
    (h1 : ∃ (g' b' c' : Nat) (P' pa' la' nt' bp' ne' : Nat → Nat), Res (mx L) 0 (trs n) (b', c', (List.range n).map bp') ∧ r1 = nI b' ∧ w1 = wX hx dx n g' b' c' L P' pa' la' nt' bp' ne')
    (h2 : (∃ f, FB n tr L f ∧ r2 = nI (vl n L f)) ∧ w2 = wM hm dm n tr L T G pt) : r1 = r2 ∧ PP hx dx hm dm n tr T w1 w2 := by
  obtain ⟨g', b', c', P', pa', la', nt', bp', ne', hr, e1, e2⟩ := h1
  obtain ⟨⟨f, hf, e3⟩, e4⟩ := h2
  have e : b' = vl n L f := (res_fb hT.1 hr hf).1
  exact ⟨by rw [e1, e3, e], pp_same hL ⟨_, _, _, _, _, _, _, _, _, e2⟩ e4⟩
theorem j_town (hn : n ≤ 7) (hL : LOK n L) (hT : TB n tr T)
    (h1 : WX hx dx n L w1 ∧ ((¬ twn n u ∧ r1 = -1) ∨ ∃ (j b' c' : Nat) (bp' : Nat → Nat), j < n ∧ u = nI j ∧ Res (mx L) 0 (trs n) (b', c', (List.range n).map bp') ∧ r1 = nI (bp' j)))
    (h2 : ((¬ twn n u ∧ r2 = -1) ∨ ∃ j f : Nat, j < n ∧ u = nI j ∧ FB n tr L f ∧ r2 = nI (T (7 * f + j))) ∧ w2 = wM hm dm n tr L T G pt) : r1 = r2 ∧ PP hx dx hm dm n tr T w1 w2 := by
  obtain ⟨hW, h1⟩ := h1
  obtain ⟨h2, hw⟩ := h2
  refine ⟨?_, pp_same hL hW hw⟩
  rcases h1 with ⟨a1, a2⟩ | ⟨j, b', c', bp', hj, ej, hr, e1⟩
  · rcases h2 with ⟨b1, b2⟩ | ⟨j, f, hj, ej, hf, e2⟩
    · rw [a2, b2]
    · exact absurd ⟨j, hj, ej⟩ a1
  · rcases h2 with ⟨b1, b2⟩ | ⟨j', f, hj', ej', hf, e2⟩
    · exact absurd ⟨j, hj, ej⟩ b1
    · have g := nj hn hj hj' (ej.symm.trans ej')
      subst g
      rw [e1, e2, eq_town hT hr hf hj]
theorem j_trips (hL : LOK n L) (hT : TB n tr T)
    (h1 : WX hx dx n L w1 ∧ ∃ (b' c' : Nat) (p' : List Nat), Res (mx L) 0 (trs n) (b', c', p') ∧ r1 = nI c')
    (h2 : (∃ f, FB n tr L f ∧ r2 = nI (ctn (fun j => vl n L j = vl n L f) tr)) ∧ w2 = wM hm dm n tr L T G pt) : r1 = r2 ∧ PP hx dx hm dm n tr T w1 w2 := by
  obtain ⟨hW, b', c', p', hr, e1⟩ := h1
  obtain ⟨⟨f, hf, e2⟩, hw⟩ := h2
  have e : c' = ctn (fun j => vl n L j = vl n L f) tr := eq_trips hT.1 hr hf
  exact ⟨by rw [e1, e2, e], pp_same hL hW hw⟩
theorem j_using (hn3 : 3 ≤ n) (hn : n ≤ 7) (hL : LOK n L) (hT : TB n tr T)
    (h1 : WX hx dx n L w1 ∧ ((¬ cpl n u v ∧ r1 = -1) ∨ ∃ (a b b' c' : Nat) (p' : List Nat), a < n ∧ b < n ∧ ¬ a = b ∧ u = nI a ∧ v = nI b ∧ Res (mx L) b (cmp n b (n - 2) [a]) (b', c', p') ∧ r1 = nI (b' + L (7 * a + b))))
    (h2 : ((¬ cpl n u v ∧ r2 = -1) ∨ ∃ (a b : Nat) (r0 : Int32), a < n ∧ b < n ∧ ¬ a = b ∧ u = nI a ∧ v = nI b ∧ ((r0 = -1 ∧ ∀ j, j < tr → ¬ cnd n a b 1 j) ∨ ∃ f, r0 = nI (vl n L f) ∧ f < tr ∧ cnd n a b 1 f ∧ ∀ j, j < tr → cnd n a b 1 j → vl n L f ≤ vl n L j) ∧ r2 = r0) ∧ w2 = wM hm dm n tr L T G pt) : r1 = r2 ∧ PP hx dx hm dm n tr T w1 w2 := by
  obtain ⟨hW, h1⟩ := h1
  obtain ⟨h2, hw⟩ := h2
  refine ⟨?_, pp_same hL hW hw⟩
  rcases h1 with ⟨a1, a2⟩ | ⟨a, b, b', c', p', ha, hb, hab, e1, e2, hr, e3⟩
  · rcases h2 with ⟨b1, b2⟩ | ⟨a, b, r0, ha, hb, hab, e1, e2, hs, e3⟩
    · rw [a2, b2]
    · subst e1; subst e2
      exact absurd (cpl_n hn ha hb hab) a1
  · rcases h2 with ⟨b1, b2⟩ | ⟨x, y, r0, hx', hy', hxy, f1, f2, hs, f3⟩
    · subst e1; subst e2
      exact absurd (cpl_n hn ha hb hab) b1
    · have g1 := nj hn ha hx' (e1.symm.trans f1)
      have g2 := nj hn hb hy' (e2.symm.trans f2)
      subst g1; subst g2
      rw [e3, f3]
      exact (eq_using hn3 hn hL hT ha hb hab hr hs).symm
theorem j_walk (hn3 : 3 ≤ n) (hn : n ≤ 7) (hL : LOK n L) (hT : TB n tr T)
    (h1 : WX hx dx n L w1 ∧ ((¬ cpl n u v ∧ r1 = -1) ∨ ∃ (a b b' c' : Nat) (p' : List Nat), a < n ∧ b < n ∧ ¬ a = b ∧ u = nI a ∧ v = nI b ∧ Res (mx L) b (cmp n b (n - 2) [a]) (b', c', p') ∧ r1 = nI (b')))
    (h2 : ((¬ cpl n u v ∧ r2 = -1) ∨ ∃ (a b : Nat) (r0 : Int32), a < n ∧ b < n ∧ ¬ a = b ∧ u = nI a ∧ v = nI b ∧ ((r0 = -1 ∧ ∀ j, j < tr → ¬ cnd n a b 1 j) ∨ ∃ f, r0 = nI (vl n L f) ∧ f < tr ∧ cnd n a b 1 f ∧ ∀ j, j < tr → cnd n a b 1 j → vl n L f ≤ vl n L j) ∧ r2 = r0 - nI (L (7 * a + b))) ∧ w2 = wM hm dm n tr L T G pt) : r1 = r2 ∧ PP hx dx hm dm n tr T w1 w2 := by
  obtain ⟨hW, h1⟩ := h1
  obtain ⟨h2, hw⟩ := h2
  refine ⟨?_, pp_same hL hW hw⟩
  rcases h1 with ⟨a1, a2⟩ | ⟨a, b, b', c', p', ha, hb, hab, e1, e2, hr, e3⟩
  · rcases h2 with ⟨b1, b2⟩ | ⟨a, b, r0, ha, hb, hab, e1, e2, hs, e3⟩
    · rw [a2, b2]
    · subst e1; subst e2
      exact absurd (cpl_n hn ha hb hab) a1
  · rcases h2 with ⟨b1, b2⟩ | ⟨x, y, r0, hx', hy', hxy, f1, f2, hs, f3⟩
    · subst e1; subst e2
      exact absurd (cpl_n hn ha hb hab) b1
    · have g1 := nj hn ha hx' (e1.symm.trans f1)
      have g2 := nj hn hb hy' (e2.symm.trans f2)
      subst g1; subst g2
      rw [e3, f3]
      exact (eq_walk hn3 hn hL hT ha hb hab hr hs).symm
theorem j_avoiding (hn3 : 3 ≤ n) (hn : n ≤ 7) (hL : LOK n L) (hT : TB n tr T)
    (h1 : WX hx dx n L w1 ∧ ((¬ (cpl n u v ∧ ¬ n = 3) ∧ r1 = -1) ∨ ∃ (a b b' c' : Nat) (p' : List Nat), a < n ∧ b < n ∧ ¬ a = b ∧ ¬ n = 3 ∧ u = nI a ∧ v = nI b ∧ Res (mx (up2 L a b 10000)) 0 (trs n) (b', c', p') ∧ r1 = nI b'))
    (h2 : ((¬ (cpl n u v ∧ ¬ n = 3) ∧ r2 = -1) ∨ ∃ (a b : Nat) (r0 : Int32), a < n ∧ b < n ∧ ¬ a = b ∧ ¬ n = 3 ∧ u = nI a ∧ v = nI b ∧ ((r0 = -1 ∧ ∀ j, j < tr → ¬ cnd n a b 0 j) ∨ ∃ f, r0 = nI (vl n L f) ∧ f < tr ∧ cnd n a b 0 f ∧ ∀ j, j < tr → cnd n a b 0 j → vl n L f ≤ vl n L j) ∧ r2 = r0) ∧ w2 = wM hm dm n tr L T G pt) : r1 = r2 ∧ PP hx dx hm dm n tr T w1 w2 := by
  obtain ⟨hW, h1⟩ := h1
  obtain ⟨h2, hw⟩ := h2
  refine ⟨?_, pp_same hL hW hw⟩
  rcases h1 with ⟨a1, a2⟩ | ⟨a, b, b', c', p', ha, hb, hab, h4, e1, e2, hr, e3⟩
  · rcases h2 with ⟨b1, b2⟩ | ⟨a, b, r0, ha, hb, hab, h4, e1, e2, hs, e3⟩
    · rw [a2, b2]
    · subst e1; subst e2
      exact absurd ⟨cpl_n hn ha hb hab, h4⟩ a1
  · rcases h2 with ⟨b1, b2⟩ | ⟨x, y, r0, hx', hy', hxy, h4', f1, f2, hs, f3⟩
    · subst e1; subst e2
      exact absurd ⟨cpl_n hn ha hb hab, h4⟩ b1
    · have g1 := nj hn ha hx' (e1.symm.trans f1)
      have g2 := nj hn hb hy' (e2.symm.trans f2)
      subst g1; subst g2
      rw [e3, f3]
      exact (eq_avoid hn3 hn h4 hL hT ha hb hab hr hs).symm
theorem j_reach (hL : LOK n L)
    (h1 : WX hx dx n L w1 ∧ ∃ lst : List (Nat × Nat), PR (mx L) (fun x => x < n) 0 lst ∧ (∀ x, x < n → x ∈ vis 0 lst) ∧ r1 = nI (emax lst))
    (h2 : ∃ (q : Nat) (pt' : Nat → Nat), r2 = nI q ∧ q ≤ 60 ∧ (q = 60 ∨ npt n L q = 1) ∧ (∀ j, j < q → ¬ npt n L j = 1) ∧ w2 = wM hm dm n tr L T G pt') : r1 = r2 ∧ PP hx dx hm dm n tr T w1 w2 := by
  obtain ⟨hW, lst, a1, a2, a3⟩ := h1
  obtain ⟨q, pt', b1, b2, b3, b4, b5⟩ := h2
  exact ⟨by rw [a3, b1, eq_reach hL a1 a2 b2 b3 b4], pp_same hL hW b5⟩
theorem j_net (hL : LOK n L)
    (h1 : WX hx dx n L w1 ∧ ∃ lst : List (Nat × Nat), PR (mx L) (fun x => x < n) 0 lst ∧ (∀ x, x < n → x ∈ vis 0 lst) ∧ r1 = nI (esum lst))
    (h2 : ∃ pt' : Nat → Nat, r2 = nI (sumK (fun k => npt n L k - 1) 60) ∧ w2 = wM hm dm n tr L T G pt') : r1 = r2 ∧ PP hx dx hm dm n tr T w1 w2 := by
  obtain ⟨hW, lst, a1, a2, a3⟩ := h1
  obtain ⟨pt', b1, b5⟩ := h2
  exact ⟨by rw [a3, b1, eq_net hL a1 a2], pp_same hL hW b5⟩
theorem j_shift (hn : n ≤ 7) (hL : LOK n L)
    (h1 : (¬ (twn n u ∧ ¬ v < -60 ∧ v ≤ nI 60) ∧ r1 = -1 ∧ WX hx dx n L w1) ∨ ∃ a : Nat, a < n ∧ u = nI a ∧ (¬ v < -60 ∧ v ≤ nI 60) ∧ r1 = nI (shf a v.toInt L n).2 ∧ WX hx dx n (shf a v.toInt L n).1 w1)
    (h2 : (¬ (twn n u ∧ ¬ v < -60 ∧ v ≤ nI 60) ∧ r2 = -1 ∧ w2 = wM hm dm n tr L T G pt) ∨ ∃ a : Nat, a < n ∧ u = nI a ∧ (¬ v < -60 ∧ v ≤ nI 60) ∧ r2 = nI (shf a v.toInt L n).2 ∧ w2 = wM hm dm n tr ((shf a v.toInt L n).1) T G pt) : r1 = r2 ∧ PP hx dx hm dm n tr T w1 w2 := by
  rcases h1 with ⟨a1, a2, a3⟩ | ⟨a, ha, e1, e2, e3, e4⟩
  · rcases h2 with ⟨b1, b2, b3⟩ | ⟨a, ha, e1, e2, e3, e4⟩
    · exact ⟨by rw [a2, b2], pp_same hL a3 b3⟩
    · exact absurd ⟨⟨a, ha, e1⟩, e2.1, e2.2⟩ a1
  · rcases h2 with ⟨b1, b2, b3⟩ | ⟨a', ha', f1, f2, f3, f4⟩
    · exact absurd ⟨⟨a, ha, e1⟩, e2.1, e2.2⟩ b1
    · have g := nj hn ha ha' (e1.symm.trans f1)
      subst g
      exact ⟨by rw [e3, f3], _, shf_ok hn hL ha n (Nat.le_refl _), e4, _, _, f4⟩
-- the first object's picture behind a call
theorem jx_road (h1 : (r1 = nI 0 ∧ ¬ (cpl n u v ∧ ¬ x < 0 ∧ x ≤ nI 60) ∧ w1 = wX hx dx n goal best bc L P pa la nt bp ne) ∨ (∃ a b k : Nat, a < n ∧ b < n ∧ ¬ a = b ∧ k ≤ 60 ∧ u = nI a ∧ v = nI b ∧ x = nI k ∧ r1 = nI 1 ∧ w1 = wX hx dx n goal best bc (up2 L a b k) P pa la nt bp ne)) : ∃ L', WX hx dx n L' w1 := by
  rcases h1 with ⟨a1, a2, a3⟩ | ⟨a, b, k, ha, hb, hab, hk, e1, e2, e3, e4, e5⟩
  · exact ⟨_, _, _, _, _, _, _, _, _, _, a3⟩
  · exact ⟨_, _, _, _, _, _, _, _, _, _, e5⟩
theorem jx_shortest (h1 : ∃ (g' b' c' : Nat) (P' pa' la' nt' bp' ne' : Nat → Nat), Res (mx L) 0 (trs n) (b', c', (List.range n).map bp') ∧ r1 = nI b' ∧ w1 = wX hx dx n g' b' c' L P' pa' la' nt' bp' ne') : ∃ L', WX hx dx n L' w1 := by
  obtain ⟨g', b', c', P', pa', la', nt', bp', ne', hr, e1, e2⟩ := h1
  exact ⟨_, _, _, _, _, _, _, _, _, _, e2⟩
theorem jx_and {Z : Prop} (h1 : WX hx dx n L w1 ∧ Z) : ∃ L', WX hx dx n L' w1 := ⟨L, h1.1⟩
theorem jx_shift (h1 : (¬ (twn n u ∧ ¬ v < -60 ∧ v ≤ nI 60) ∧ r1 = -1 ∧ WX hx dx n L w1) ∨ ∃ a : Nat, a < n ∧ u = nI a ∧ (¬ v < -60 ∧ v ≤ nI 60) ∧ r1 = nI (shf a v.toInt L n).2 ∧ WX hx dx n (shf a v.toInt L n).1 w1) : ∃ L', WX hx dx n L' w1 := by
  rcases h1 with ⟨a1, a2, a3⟩ | ⟨a, ha, e1, e2, e3, e4⟩
  · exact ⟨_, a3⟩
  · exact ⟨_, e4⟩
end
end
section
/-! THE LAW: its ten cases (printed by a program, wip/D-64046w/src) -/
set_option maxRecDepth 100000
abbrev lwL (b : Nat) (hx hm : Nat → Nat) (i : Nat) : List (Nat × Value) := [(0, .ref b), (1, .ref (hx 0)), (2, .ref (hm 0)), (3, .int (nI i))]
section
variable {p : Program} {l : Launch} {e : Env} {s : State} {m : MethodId} {args : Array Value} {below : List Frame} {meth : Method} {c : Code} {Q : State → Prop} {D : va_G} {A : Nat → Prop} {b Ls i : Nat} {xs : Nat → Int32} {hx hm : Nat → Nat} {dx dm : Nat → ClassId} {n tr goal best bc : Nat} {L T G pt P pa la nt bp ne : Nat → Nat}
theorem law_road (hF : FX p s m args c D A cL_law 4 RX0 (tX dx ++ tM dm)) (hX : va_X b Ls xs s s.heap) (hbl : b < s.heap.size) (hbA : ¬ A b) (hL2 : Ls ≤ 257) (hi : i + 4 ≤ Ls) (hn3 : 3 ≤ n) (hn : n ≤ 7) (hL : LOK n L) (hT : TB n tr T) (hnext : ∀ w1 w2 : va_W, PP hx dx hm dm n tr T w1 w2 → WW p l e room_1 s m args below meth c Q D A 4 13 10290 (w1 ++ w2) 346 (lwL b hx hm i) []) : WW p l e room_1 s m args below meth c Q D A 4 13 10290 (wX hx dx n goal best bc L P pa la nt bp ne ++ wM hm dm n tr L T G pt) 96 (lwL b hx hm i) [] := by
  refine x_aload_n hF 1 dL_law_96 rfl rfl ?_
  refine x_aload_n hF 0 dL_law_97 rfl rfl ?_
  refine x_iload_n hF 3 dL_law_98 rfl rfl ?_
  refine x_iconst hF dL_law_99 kc_i1 ?_
  refine x_iadd hF dL_law_100 ?_
  refine x_sld hF hX hbl hbA (i := i + 1) (by omega) (by omega) dL_law_101 ?_
  refine x_aload_n hF 0 dL_law_102 rfl rfl ?_
  refine x_iload_n hF 3 dL_law_103 rfl rfl ?_
  refine x_iconst hF dL_law_104 kc_i2 ?_
  refine x_iadd hF dL_law_105 ?_
  refine x_sld hF hX hbl hbA (i := i + 2) (by omega) (by omega) dL_law_106 ?_
  refine x_aload_n hF 0 dL_law_107 rfl rfl ?_
  refine x_iload_n hF 3 dL_law_108 rfl rfl ?_
  refine x_iconst hF dL_law_109 kc_i3 ?_
  refine x_iadd hF dL_law_110 ?_
  refine x_sld hF hX hbl hbA (i := i + 3) (by omega) (by omega) dL_law_111 ?_
  refine x_callF (C := RX1) (T := TX1) (N := 11) (ci := 0) (q0 := 0) (b := hx 0) (As := [.int (xs (i + 1)), .int (xs (i + 2)), .int (xs (i + 3))]) (rest := []) (wc := wX hx dx n goal best bc L P pa la nt bp ne) (wr := wM hm dm n tr L T G pt) hF (m1_road hn (xs (i + 1)) (xs (i + 2)) (xs (i + 3))) 3 (lw_V q68 q69 q70 q22 q71) rfl rfl (by decide +kernel) ⟨Nat.le_of_ble_eq_true rfl, Nat.le_of_ble_eq_true rfl⟩ [0, 1, 2, 3, 4, 5, 6, 7] [8, 9, 10, 11, 12] [0, 1, 2, 3, 4, 5, 6] rfl rfl (by decide) rfl (by decide) (by decide) rfl rfl rfl rfl rfl (Nat.le_of_ble_eq_true rfl) dL_law_112 ⟨Nat.le_of_ble_eq_true rfl, Nat.le_of_ble_eq_true rfl⟩ (fun r_1 w_1 hp_1 => ?_)
  obtain ⟨L_1, g_1, b_1, c_1, P_1, pa_1, la_1, nt_1, bp_1, ne_1, rfl⟩ := jx_road hp_1
  refine x_aload_n hF 2 dL_law_115 rfl rfl ?_
  refine x_aload_n hF 0 dL_law_116 rfl rfl ?_
  refine x_iload_n hF 3 dL_law_117 rfl rfl ?_
  refine x_iconst hF dL_law_118 kc_i1 ?_
  refine x_iadd hF dL_law_119 ?_
  refine x_sld hF hX hbl hbA (i := i + 1) (by omega) (by omega) dL_law_120 ?_
  refine x_aload_n hF 0 dL_law_121 rfl rfl ?_
  refine x_iload_n hF 3 dL_law_122 rfl rfl ?_
  refine x_iconst hF dL_law_123 kc_i2 ?_
  refine x_iadd hF dL_law_124 ?_
  refine x_sld hF hX hbl hbA (i := i + 2) (by omega) (by omega) dL_law_125 ?_
  refine x_aload_n hF 0 dL_law_126 rfl rfl ?_
  refine x_iload_n hF 3 dL_law_127 rfl rfl ?_
  refine x_iconst hF dL_law_128 kc_i3 ?_
  refine x_iadd hF dL_law_129 ?_
  refine x_sld hF hX hbl hbA (i := i + 3) (by omega) (by omega) dL_law_130 ?_
  refine x_callF (C := RX2) (T := TX2) (N := 6) (ci := 1) (q0 := 0) (b := hm 0) (As := [.int (xs (i + 1)), .int (xs (i + 2)), .int (xs (i + 3))]) (rest := [.int r_1]) (wc := wM hm dm n tr L T G pt) (wr := wX hx dx n g_1 b_1 c_1 L_1 P_1 pa_1 la_1 nt_1 bp_1 ne_1) hF (m2_road hn (xs (i + 1)) (xs (i + 2)) (xs (i + 3))) 3 (lw_V q187 q188 q189 q23 q190) rfl rfl (by decide +kernel) ⟨Nat.le_of_ble_eq_true rfl, Nat.le_of_ble_eq_true rfl⟩ [0, 1, 2, 3, 4] [5, 6, 7, 8, 9, 10, 11, 12] [7, 8, 9, 10] rfl rfl (by decide) rfl (by decide) (by decide) rfl rfl rfl rfl rfl (Nat.le_of_ble_eq_true rfl) dL_law_131 ⟨Nat.le_of_ble_eq_true rfl, Nat.le_of_ble_eq_true rfl⟩ (fun r_2 w_2 hp_2 => ?_)
  obtain ⟨er, hpp⟩ := j_road hn hL hp_1 hp_2
  exact x_icmp_eqR hF 346 dL_law_134 (by decide) (fun _ => hnext _ _ hpp) (fun q => absurd er q)
theorem law_shortest (hF : FX p s m args c D A cL_law 4 RX0 (tX dx ++ tM dm)) (hX : va_X b Ls xs s s.heap) (hbl : b < s.heap.size) (hbA : ¬ A b) (hL2 : Ls ≤ 257) (hi : i + 4 ≤ Ls) (hn3 : 3 ≤ n) (hn : n ≤ 7) (hL : LOK n L) (hT : TB n tr T) (hnext : ∀ w1 w2 : va_W, PP hx dx hm dm n tr T w1 w2 → WW p l e room_1 s m args below meth c Q D A 4 13 10290 (w1 ++ w2) 346 (lwL b hx hm i) []) : WW p l e room_1 s m args below meth c Q D A 4 13 10290 (wX hx dx n goal best bc L P pa la nt bp ne ++ wM hm dm n tr L T G pt) 139 (lwL b hx hm i) [] := by
  refine x_aload_n hF 1 dL_law_139 rfl rfl ?_
  refine x_callF (C := RX1) (T := TX1) (N := 11) (ci := 0) (q0 := 0) (b := hx 0) (As := []) (rest := []) (wc := wX hx dx n goal best bc L P pa la nt bp ne) (wr := wM hm dm n tr L T G pt) hF (m1_shortest hn3 hn hL) 0 (lw_V q80 q81 q82 q22 q83) rfl rfl (by decide +kernel) ⟨Nat.le_of_ble_eq_true rfl, Nat.le_of_ble_eq_true rfl⟩ [0, 1, 2, 3, 4, 5, 6, 7] [8, 9, 10, 11, 12] [0, 1, 2, 3, 4, 5, 6] rfl rfl (by decide) rfl (by decide) (by decide) rfl rfl rfl rfl rfl (Nat.le_of_ble_eq_true rfl) dL_law_140 ⟨Nat.le_of_ble_eq_true rfl, Nat.le_of_ble_eq_true rfl⟩ (fun r_1 w_1 hp_1 => ?_)
  obtain ⟨L_1, g_1, b_1, c_1, P_1, pa_1, la_1, nt_1, bp_1, ne_1, rfl⟩ := jx_shortest hp_1
  refine x_aload_n hF 2 dL_law_143 rfl rfl ?_
  refine x_callF (C := RX2) (T := TX2) (N := 6) (ci := 1) (q0 := 0) (b := hm 0) (As := []) (rest := [.int r_1]) (wc := wM hm dm n tr L T G pt) (wr := wX hx dx n g_1 b_1 c_1 L_1 P_1 pa_1 la_1 nt_1 bp_1 ne_1) hF (m2_shortest hn3 hn hL hT) 0 (lw_V q203 q204 q205 q23 q206) rfl rfl (by decide +kernel) ⟨Nat.le_of_ble_eq_true rfl, Nat.le_of_ble_eq_true rfl⟩ [0, 1, 2, 3, 4] [5, 6, 7, 8, 9, 10, 11, 12] [7, 8, 9, 10] rfl rfl (by decide) rfl (by decide) (by decide) rfl rfl rfl rfl rfl (Nat.le_of_ble_eq_true rfl) dL_law_144 ⟨Nat.le_of_ble_eq_true rfl, Nat.le_of_ble_eq_true rfl⟩ (fun r_2 w_2 hp_2 => ?_)
  obtain ⟨er, hpp⟩ := j_shortest hL hT hp_1 hp_2
  exact x_icmp_eqR hF 346 dL_law_147 (by decide) (fun _ => hnext _ _ hpp) (fun q => absurd er q)
theorem law_town (hF : FX p s m args c D A cL_law 4 RX0 (tX dx ++ tM dm)) (hX : va_X b Ls xs s s.heap) (hbl : b < s.heap.size) (hbA : ¬ A b) (hL2 : Ls ≤ 257) (hi : i + 4 ≤ Ls) (hn3 : 3 ≤ n) (hn : n ≤ 7) (hL : LOK n L) (hT : TB n tr T) (hnext : ∀ w1 w2 : va_W, PP hx dx hm dm n tr T w1 w2 → WW p l e room_1 s m args below meth c Q D A 4 13 10290 (w1 ++ w2) 346 (lwL b hx hm i) []) : WW p l e room_1 s m args below meth c Q D A 4 13 10290 (wX hx dx n goal best bc L P pa la nt bp ne ++ wM hm dm n tr L T G pt) 152 (lwL b hx hm i) [] := by
  refine x_aload_n hF 1 dL_law_152 rfl rfl ?_
  refine x_aload_n hF 0 dL_law_153 rfl rfl ?_
  refine x_iload_n hF 3 dL_law_154 rfl rfl ?_
  refine x_iconst hF dL_law_155 kc_i1 ?_
  refine x_iadd hF dL_law_156 ?_
  refine x_sld hF hX hbl hbA (i := i + 1) (by omega) (by omega) dL_law_157 ?_
  refine x_callF (C := RX1) (T := TX1) (N := 11) (ci := 0) (q0 := 0) (b := hx 0) (As := [.int (xs (i + 1))]) (rest := []) (wc := wX hx dx n goal best bc L P pa la nt bp ne) (wr := wM hm dm n tr L T G pt) hF (m1_town hn3 hn hL (xs (i + 1))) 1 (lw_V q117 q118 q119 q22 q120) rfl rfl (by decide +kernel) ⟨Nat.le_of_ble_eq_true rfl, Nat.le_of_ble_eq_true rfl⟩ [0, 1, 2, 3, 4, 5, 6, 7] [8, 9, 10, 11, 12] [0, 1, 2, 3, 4, 5, 6] rfl rfl (by decide) rfl (by decide) (by decide) rfl rfl rfl rfl rfl (Nat.le_of_ble_eq_true rfl) dL_law_158 ⟨Nat.le_of_ble_eq_true rfl, Nat.le_of_ble_eq_true rfl⟩ (fun r_1 w_1 hp_1 => ?_)
  obtain ⟨L_1, g_1, b_1, c_1, P_1, pa_1, la_1, nt_1, bp_1, ne_1, rfl⟩ := jx_and hp_1
  refine x_aload_n hF 2 dL_law_161 rfl rfl ?_
  refine x_aload_n hF 0 dL_law_162 rfl rfl ?_
  refine x_iload_n hF 3 dL_law_163 rfl rfl ?_
  refine x_iconst hF dL_law_164 kc_i1 ?_
  refine x_iadd hF dL_law_165 ?_
  refine x_sld hF hX hbl hbA (i := i + 1) (by omega) (by omega) dL_law_166 ?_
  refine x_callF (C := RX2) (T := TX2) (N := 6) (ci := 1) (q0 := 0) (b := hm 0) (As := [.int (xs (i + 1))]) (rest := [.int r_1]) (wc := wM hm dm n tr L T G pt) (wr := wX hx dx n g_1 b_1 c_1 L_1 P_1 pa_1 la_1 nt_1 bp_1 ne_1) hF (m2_town hn3 hn hL hT (xs (i + 1))) 1 (lw_V q219 q220 q221 q23 q222) rfl rfl (by decide +kernel) ⟨Nat.le_of_ble_eq_true rfl, Nat.le_of_ble_eq_true rfl⟩ [0, 1, 2, 3, 4] [5, 6, 7, 8, 9, 10, 11, 12] [7, 8, 9, 10] rfl rfl (by decide) rfl (by decide) (by decide) rfl rfl rfl rfl rfl (Nat.le_of_ble_eq_true rfl) dL_law_167 ⟨Nat.le_of_ble_eq_true rfl, Nat.le_of_ble_eq_true rfl⟩ (fun r_2 w_2 hp_2 => ?_)
  obtain ⟨er, hpp⟩ := j_town hn hL hT hp_1 hp_2
  exact x_icmp_eqR hF 346 dL_law_170 (by decide) (fun _ => hnext _ _ hpp) (fun q => absurd er q)
theorem law_trips (hF : FX p s m args c D A cL_law 4 RX0 (tX dx ++ tM dm)) (hX : va_X b Ls xs s s.heap) (hbl : b < s.heap.size) (hbA : ¬ A b) (hL2 : Ls ≤ 257) (hi : i + 4 ≤ Ls) (hn3 : 3 ≤ n) (hn : n ≤ 7) (hL : LOK n L) (hT : TB n tr T) (hnext : ∀ w1 w2 : va_W, PP hx dx hm dm n tr T w1 w2 → WW p l e room_1 s m args below meth c Q D A 4 13 10290 (w1 ++ w2) 346 (lwL b hx hm i) []) : WW p l e room_1 s m args below meth c Q D A 4 13 10290 (wX hx dx n goal best bc L P pa la nt bp ne ++ wM hm dm n tr L T G pt) 175 (lwL b hx hm i) [] := by
  refine x_aload_n hF 1 dL_law_175 rfl rfl ?_
  refine x_callF (C := RX1) (T := TX1) (N := 11) (ci := 0) (q0 := 0) (b := hx 0) (As := []) (rest := []) (wc := wX hx dx n goal best bc L P pa la nt bp ne) (wr := wM hm dm n tr L T G pt) hF (m1_trips hn3 hn hL) 0 (lw_V q122 q123 q124 q22 q125) rfl rfl (by decide +kernel) ⟨Nat.le_of_ble_eq_true rfl, Nat.le_of_ble_eq_true rfl⟩ [0, 1, 2, 3, 4, 5, 6, 7] [8, 9, 10, 11, 12] [0, 1, 2, 3, 4, 5, 6] rfl rfl (by decide) rfl (by decide) (by decide) rfl rfl rfl rfl rfl (Nat.le_of_ble_eq_true rfl) dL_law_176 ⟨Nat.le_of_ble_eq_true rfl, Nat.le_of_ble_eq_true rfl⟩ (fun r_1 w_1 hp_1 => ?_)
  obtain ⟨L_1, g_1, b_1, c_1, P_1, pa_1, la_1, nt_1, bp_1, ne_1, rfl⟩ := jx_and hp_1
  refine x_aload_n hF 2 dL_law_179 rfl rfl ?_
  refine x_callF (C := RX2) (T := TX2) (N := 6) (ci := 1) (q0 := 0) (b := hm 0) (As := []) (rest := [.int r_1]) (wc := wM hm dm n tr L T G pt) (wr := wX hx dx n g_1 b_1 c_1 L_1 P_1 pa_1 la_1 nt_1 bp_1 ne_1) hF (m2_trips hn3 hn hL hT) 0 (lw_V q223 q224 q225 q23 q226) rfl rfl (by decide +kernel) ⟨Nat.le_of_ble_eq_true rfl, Nat.le_of_ble_eq_true rfl⟩ [0, 1, 2, 3, 4] [5, 6, 7, 8, 9, 10, 11, 12] [7, 8, 9, 10] rfl rfl (by decide) rfl (by decide) (by decide) rfl rfl rfl rfl rfl (Nat.le_of_ble_eq_true rfl) dL_law_180 ⟨Nat.le_of_ble_eq_true rfl, Nat.le_of_ble_eq_true rfl⟩ (fun r_2 w_2 hp_2 => ?_)
  obtain ⟨er, hpp⟩ := j_trips hL hT hp_1 hp_2
  exact x_icmp_eqR hF 346 dL_law_183 (by decide) (fun _ => hnext _ _ hpp) (fun q => absurd er q)
theorem law_using (hF : FX p s m args c D A cL_law 4 RX0 (tX dx ++ tM dm)) (hX : va_X b Ls xs s s.heap) (hbl : b < s.heap.size) (hbA : ¬ A b) (hL2 : Ls ≤ 257) (hi : i + 4 ≤ Ls) (hn3 : 3 ≤ n) (hn : n ≤ 7) (hL : LOK n L) (hT : TB n tr T) (hnext : ∀ w1 w2 : va_W, PP hx dx hm dm n tr T w1 w2 → WW p l e room_1 s m args below meth c Q D A 4 13 10290 (w1 ++ w2) 346 (lwL b hx hm i) []) : WW p l e room_1 s m args below meth c Q D A 4 13 10290 (wX hx dx n goal best bc L P pa la nt bp ne ++ wM hm dm n tr L T G pt) 188 (lwL b hx hm i) [] := by
  refine x_aload_n hF 1 dL_law_188 rfl rfl ?_
  refine x_aload_n hF 0 dL_law_189 rfl rfl ?_
  refine x_iload_n hF 3 dL_law_190 rfl rfl ?_
  refine x_iconst hF dL_law_191 kc_i1 ?_
  refine x_iadd hF dL_law_192 ?_
  refine x_sld hF hX hbl hbA (i := i + 1) (by omega) (by omega) dL_law_193 ?_
  refine x_aload_n hF 0 dL_law_194 rfl rfl ?_
  refine x_iload_n hF 3 dL_law_195 rfl rfl ?_
  refine x_iconst hF dL_law_196 kc_i2 ?_
  refine x_iadd hF dL_law_197 ?_
  refine x_sld hF hX hbl hbA (i := i + 2) (by omega) (by omega) dL_law_198 ?_
  refine x_callF (C := RX1) (T := TX1) (N := 11) (ci := 0) (q0 := 0) (b := hx 0) (As := [.int (xs (i + 1)), .int (xs (i + 2))]) (rest := []) (wc := wX hx dx n goal best bc L P pa la nt bp ne) (wr := wM hm dm n tr L T G pt) hF (m1_using hn3 hn hL (xs (i + 1)) (xs (i + 2))) 2 (lw_V q126 q127 q128 q22 q129) rfl rfl (by decide +kernel) ⟨Nat.le_of_ble_eq_true rfl, Nat.le_of_ble_eq_true rfl⟩ [0, 1, 2, 3, 4, 5, 6, 7] [8, 9, 10, 11, 12] [0, 1, 2, 3, 4, 5, 6] rfl rfl (by decide) rfl (by decide) (by decide) rfl rfl rfl rfl rfl (Nat.le_of_ble_eq_true rfl) dL_law_199 ⟨Nat.le_of_ble_eq_true rfl, Nat.le_of_ble_eq_true rfl⟩ (fun r_1 w_1 hp_1 => ?_)
  obtain ⟨L_1, g_1, b_1, c_1, P_1, pa_1, la_1, nt_1, bp_1, ne_1, rfl⟩ := jx_and hp_1
  refine x_aload_n hF 2 dL_law_202 rfl rfl ?_
  refine x_aload_n hF 0 dL_law_203 rfl rfl ?_
  refine x_iload_n hF 3 dL_law_204 rfl rfl ?_
  refine x_iconst hF dL_law_205 kc_i1 ?_
  refine x_iadd hF dL_law_206 ?_
  refine x_sld hF hX hbl hbA (i := i + 1) (by omega) (by omega) dL_law_207 ?_
  refine x_aload_n hF 0 dL_law_208 rfl rfl ?_
  refine x_iload_n hF 3 dL_law_209 rfl rfl ?_
  refine x_iconst hF dL_law_210 kc_i2 ?_
  refine x_iadd hF dL_law_211 ?_
  refine x_sld hF hX hbl hbA (i := i + 2) (by omega) (by omega) dL_law_212 ?_
  refine x_callF (C := RX2) (T := TX2) (N := 6) (ci := 1) (q0 := 0) (b := hm 0) (As := [.int (xs (i + 1)), .int (xs (i + 2))]) (rest := [.int r_1]) (wc := wM hm dm n tr L T G pt) (wr := wX hx dx n g_1 b_1 c_1 L_1 P_1 pa_1 la_1 nt_1 bp_1 ne_1) hF (m2_using hn3 hn hL hT (xs (i + 1)) (xs (i + 2))) 2 (lw_V q228 q229 q230 q23 q231) rfl rfl (by decide +kernel) ⟨Nat.le_of_ble_eq_true rfl, Nat.le_of_ble_eq_true rfl⟩ [0, 1, 2, 3, 4] [5, 6, 7, 8, 9, 10, 11, 12] [7, 8, 9, 10] rfl rfl (by decide) rfl (by decide) (by decide) rfl rfl rfl rfl rfl (Nat.le_of_ble_eq_true rfl) dL_law_213 ⟨Nat.le_of_ble_eq_true rfl, Nat.le_of_ble_eq_true rfl⟩ (fun r_2 w_2 hp_2 => ?_)
  obtain ⟨er, hpp⟩ := j_using hn3 hn hL hT hp_1 hp_2
  exact x_icmp_eqR hF 346 dL_law_216 (by decide) (fun _ => hnext _ _ hpp) (fun q => absurd er q)
theorem law_avoiding (hF : FX p s m args c D A cL_law 4 RX0 (tX dx ++ tM dm)) (hX : va_X b Ls xs s s.heap) (hbl : b < s.heap.size) (hbA : ¬ A b) (hL2 : Ls ≤ 257) (hi : i + 4 ≤ Ls) (hn3 : 3 ≤ n) (hn : n ≤ 7) (hL : LOK n L) (hT : TB n tr T) (hnext : ∀ w1 w2 : va_W, PP hx dx hm dm n tr T w1 w2 → WW p l e room_1 s m args below meth c Q D A 4 13 10290 (w1 ++ w2) 346 (lwL b hx hm i) []) : WW p l e room_1 s m args below meth c Q D A 4 13 10290 (wX hx dx n goal best bc L P pa la nt bp ne ++ wM hm dm n tr L T G pt) 221 (lwL b hx hm i) [] := by
  refine x_aload_n hF 1 dL_law_221 rfl rfl ?_
  refine x_aload_n hF 0 dL_law_222 rfl rfl ?_
  refine x_iload_n hF 3 dL_law_223 rfl rfl ?_
  refine x_iconst hF dL_law_224 kc_i1 ?_
  refine x_iadd hF dL_law_225 ?_
  refine x_sld hF hX hbl hbA (i := i + 1) (by omega) (by omega) dL_law_226 ?_
  refine x_aload_n hF 0 dL_law_227 rfl rfl ?_
  refine x_iload_n hF 3 dL_law_228 rfl rfl ?_
  refine x_iconst hF dL_law_229 kc_i2 ?_
  refine x_iadd hF dL_law_230 ?_
  refine x_sld hF hX hbl hbA (i := i + 2) (by omega) (by omega) dL_law_231 ?_
  refine x_callF (C := RX1) (T := TX1) (N := 11) (ci := 0) (q0 := 0) (b := hx 0) (As := [.int (xs (i + 1)), .int (xs (i + 2))]) (rest := []) (wc := wX hx dx n goal best bc L P pa la nt bp ne) (wr := wM hm dm n tr L T G pt) hF (m1_avoiding hn3 hn hL (xs (i + 1)) (xs (i + 2))) 2 (lw_V q130 q131 q132 q22 q133) rfl rfl (by decide +kernel) ⟨Nat.le_of_ble_eq_true rfl, Nat.le_of_ble_eq_true rfl⟩ [0, 1, 2, 3, 4, 5, 6, 7] [8, 9, 10, 11, 12] [0, 1, 2, 3, 4, 5, 6] rfl rfl (by decide) rfl (by decide) (by decide) rfl rfl rfl rfl rfl (Nat.le_of_ble_eq_true rfl) dL_law_232 ⟨Nat.le_of_ble_eq_true rfl, Nat.le_of_ble_eq_true rfl⟩ (fun r_1 w_1 hp_1 => ?_)
  obtain ⟨L_1, g_1, b_1, c_1, P_1, pa_1, la_1, nt_1, bp_1, ne_1, rfl⟩ := jx_and hp_1
  refine x_aload_n hF 2 dL_law_235 rfl rfl ?_
  refine x_aload_n hF 0 dL_law_236 rfl rfl ?_
  refine x_iload_n hF 3 dL_law_237 rfl rfl ?_
  refine x_iconst hF dL_law_238 kc_i1 ?_
  refine x_iadd hF dL_law_239 ?_
  refine x_sld hF hX hbl hbA (i := i + 1) (by omega) (by omega) dL_law_240 ?_
  refine x_aload_n hF 0 dL_law_241 rfl rfl ?_
  refine x_iload_n hF 3 dL_law_242 rfl rfl ?_
  refine x_iconst hF dL_law_243 kc_i2 ?_
  refine x_iadd hF dL_law_244 ?_
  refine x_sld hF hX hbl hbA (i := i + 2) (by omega) (by omega) dL_law_245 ?_
  refine x_callF (C := RX2) (T := TX2) (N := 6) (ci := 1) (q0 := 0) (b := hm 0) (As := [.int (xs (i + 1)), .int (xs (i + 2))]) (rest := [.int r_1]) (wc := wM hm dm n tr L T G pt) (wr := wX hx dx n g_1 b_1 c_1 L_1 P_1 pa_1 la_1 nt_1 bp_1 ne_1) hF (m2_avoiding hn3 hn hL hT (xs (i + 1)) (xs (i + 2))) 2 (lw_V q240 q241 q242 q23 q243) rfl rfl (by decide +kernel) ⟨Nat.le_of_ble_eq_true rfl, Nat.le_of_ble_eq_true rfl⟩ [0, 1, 2, 3, 4] [5, 6, 7, 8, 9, 10, 11, 12] [7, 8, 9, 10] rfl rfl (by decide) rfl (by decide) (by decide) rfl rfl rfl rfl rfl (Nat.le_of_ble_eq_true rfl) dL_law_246 ⟨Nat.le_of_ble_eq_true rfl, Nat.le_of_ble_eq_true rfl⟩ (fun r_2 w_2 hp_2 => ?_)
  obtain ⟨er, hpp⟩ := j_avoiding hn3 hn hL hT hp_1 hp_2
  exact x_icmp_eqR hF 346 dL_law_249 (by decide) (fun _ => hnext _ _ hpp) (fun q => absurd er q)
theorem law_walk (hF : FX p s m args c D A cL_law 4 RX0 (tX dx ++ tM dm)) (hX : va_X b Ls xs s s.heap) (hbl : b < s.heap.size) (hbA : ¬ A b) (hL2 : Ls ≤ 257) (hi : i + 4 ≤ Ls) (hn3 : 3 ≤ n) (hn : n ≤ 7) (hL : LOK n L) (hT : TB n tr T) (hnext : ∀ w1 w2 : va_W, PP hx dx hm dm n tr T w1 w2 → WW p l e room_1 s m args below meth c Q D A 4 13 10290 (w1 ++ w2) 346 (lwL b hx hm i) []) : WW p l e room_1 s m args below meth c Q D A 4 13 10290 (wX hx dx n goal best bc L P pa la nt bp ne ++ wM hm dm n tr L T G pt) 254 (lwL b hx hm i) [] := by
  refine x_aload_n hF 1 dL_law_254 rfl rfl ?_
  refine x_aload_n hF 0 dL_law_255 rfl rfl ?_
  refine x_iload_n hF 3 dL_law_256 rfl rfl ?_
  refine x_iconst hF dL_law_257 kc_i1 ?_
  refine x_iadd hF dL_law_258 ?_
  refine x_sld hF hX hbl hbA (i := i + 1) (by omega) (by omega) dL_law_259 ?_
  refine x_aload_n hF 0 dL_law_260 rfl rfl ?_
  refine x_iload_n hF 3 dL_law_261 rfl rfl ?_
  refine x_iconst hF dL_law_262 kc_i2 ?_
  refine x_iadd hF dL_law_263 ?_
  refine x_sld hF hX hbl hbA (i := i + 2) (by omega) (by omega) dL_law_264 ?_
  refine x_callF (C := RX1) (T := TX1) (N := 11) (ci := 0) (q0 := 0) (b := hx 0) (As := [.int (xs (i + 1)), .int (xs (i + 2))]) (rest := []) (wc := wX hx dx n goal best bc L P pa la nt bp ne) (wr := wM hm dm n tr L T G pt) hF (m1_walk hn3 hn hL (xs (i + 1)) (xs (i + 2))) 2 (lw_V q138 q139 q140 q22 q141) rfl rfl (by decide +kernel) ⟨Nat.le_of_ble_eq_true rfl, Nat.le_of_ble_eq_true rfl⟩ [0, 1, 2, 3, 4, 5, 6, 7] [8, 9, 10, 11, 12] [0, 1, 2, 3, 4, 5, 6] rfl rfl (by decide) rfl (by decide) (by decide) rfl rfl rfl rfl rfl (Nat.le_of_ble_eq_true rfl) dL_law_265 ⟨Nat.le_of_ble_eq_true rfl, Nat.le_of_ble_eq_true rfl⟩ (fun r_1 w_1 hp_1 => ?_)
  obtain ⟨L_1, g_1, b_1, c_1, P_1, pa_1, la_1, nt_1, bp_1, ne_1, rfl⟩ := jx_and hp_1
  refine x_aload_n hF 2 dL_law_268 rfl rfl ?_
  refine x_aload_n hF 0 dL_law_269 rfl rfl ?_
  refine x_iload_n hF 3 dL_law_270 rfl rfl ?_
  refine x_iconst hF dL_law_271 kc_i1 ?_
  refine x_iadd hF dL_law_272 ?_
  refine x_sld hF hX hbl hbA (i := i + 1) (by omega) (by omega) dL_law_273 ?_
  refine x_aload_n hF 0 dL_law_274 rfl rfl ?_
  refine x_iload_n hF 3 dL_law_275 rfl rfl ?_
  refine x_iconst hF dL_law_276 kc_i2 ?_
  refine x_iadd hF dL_law_277 ?_
  refine x_sld hF hX hbl hbA (i := i + 2) (by omega) (by omega) dL_law_278 ?_
  refine x_callF (C := RX2) (T := TX2) (N := 6) (ci := 1) (q0 := 0) (b := hm 0) (As := [.int (xs (i + 1)), .int (xs (i + 2))]) (rest := [.int r_1]) (wc := wM hm dm n tr L T G pt) (wr := wX hx dx n g_1 b_1 c_1 L_1 P_1 pa_1 la_1 nt_1 bp_1 ne_1) hF (m2_walk hn3 hn hL hT (xs (i + 1)) (xs (i + 2))) 2 (lw_V q244 q245 q246 q23 q247) rfl rfl (by decide +kernel) ⟨Nat.le_of_ble_eq_true rfl, Nat.le_of_ble_eq_true rfl⟩ [0, 1, 2, 3, 4] [5, 6, 7, 8, 9, 10, 11, 12] [7, 8, 9, 10] rfl rfl (by decide) rfl (by decide) (by decide) rfl rfl rfl rfl rfl (Nat.le_of_ble_eq_true rfl) dL_law_279 ⟨Nat.le_of_ble_eq_true rfl, Nat.le_of_ble_eq_true rfl⟩ (fun r_2 w_2 hp_2 => ?_)
  obtain ⟨er, hpp⟩ := j_walk hn3 hn hL hT hp_1 hp_2
  exact x_icmp_eqR hF 346 dL_law_282 (by decide) (fun _ => hnext _ _ hpp) (fun q => absurd er q)
theorem law_reach (hF : FX p s m args c D A cL_law 4 RX0 (tX dx ++ tM dm)) (hX : va_X b Ls xs s s.heap) (hbl : b < s.heap.size) (hbA : ¬ A b) (hL2 : Ls ≤ 257) (hi : i + 4 ≤ Ls) (hn3 : 3 ≤ n) (hn : n ≤ 7) (hL : LOK n L) (hT : TB n tr T) (hnext : ∀ w1 w2 : va_W, PP hx dx hm dm n tr T w1 w2 → WW p l e room_1 s m args below meth c Q D A 4 13 10290 (w1 ++ w2) 346 (lwL b hx hm i) []) : WW p l e room_1 s m args below meth c Q D A 4 13 10290 (wX hx dx n goal best bc L P pa la nt bp ne ++ wM hm dm n tr L T G pt) 287 (lwL b hx hm i) [] := by
  refine x_aload_n hF 1 dL_law_287 rfl rfl ?_
  refine x_callF (C := RX1) (T := TX1) (N := 11) (ci := 0) (q0 := 0) (b := hx 0) (As := []) (rest := []) (wc := wX hx dx n goal best bc L P pa la nt bp ne) (wr := wM hm dm n tr L T G pt) hF (m1_reach hn3 hn hL) 0 (lw_V q142 q143 q144 q22 q145) rfl rfl (by decide +kernel) ⟨Nat.le_of_ble_eq_true rfl, Nat.le_of_ble_eq_true rfl⟩ [0, 1, 2, 3, 4, 5, 6, 7] [8, 9, 10, 11, 12] [0, 1, 2, 3, 4, 5, 6] rfl rfl (by decide) rfl (by decide) (by decide) rfl rfl rfl rfl rfl (Nat.le_of_ble_eq_true rfl) dL_law_288 ⟨Nat.le_of_ble_eq_true rfl, Nat.le_of_ble_eq_true rfl⟩ (fun r_1 w_1 hp_1 => ?_)
  obtain ⟨L_1, g_1, b_1, c_1, P_1, pa_1, la_1, nt_1, bp_1, ne_1, rfl⟩ := jx_and hp_1
  refine x_aload_n hF 2 dL_law_291 rfl rfl ?_
  refine x_callF (C := RX2) (T := TX2) (N := 6) (ci := 1) (q0 := 0) (b := hm 0) (As := []) (rest := [.int r_1]) (wc := wM hm dm n tr L T G pt) (wr := wX hx dx n g_1 b_1 c_1 L_1 P_1 pa_1 la_1 nt_1 bp_1 ne_1) hF (m2_reach hn3 hn hL) 0 (lw_V q248 q249 q250 q23 q251) rfl rfl (by decide +kernel) ⟨Nat.le_of_ble_eq_true rfl, Nat.le_of_ble_eq_true rfl⟩ [0, 1, 2, 3, 4] [5, 6, 7, 8, 9, 10, 11, 12] [7, 8, 9, 10] rfl rfl (by decide) rfl (by decide) (by decide) rfl rfl rfl rfl rfl (Nat.le_of_ble_eq_true rfl) dL_law_292 ⟨Nat.le_of_ble_eq_true rfl, Nat.le_of_ble_eq_true rfl⟩ (fun r_2 w_2 hp_2 => ?_)
  obtain ⟨er, hpp⟩ := j_reach hL hp_1 hp_2
  exact x_icmp_eqR hF 346 dL_law_295 (by decide) (fun _ => hnext _ _ hpp) (fun q => absurd er q)
theorem law_net (hF : FX p s m args c D A cL_law 4 RX0 (tX dx ++ tM dm)) (hX : va_X b Ls xs s s.heap) (hbl : b < s.heap.size) (hbA : ¬ A b) (hL2 : Ls ≤ 257) (hi : i + 4 ≤ Ls) (hn3 : 3 ≤ n) (hn : n ≤ 7) (hL : LOK n L) (hT : TB n tr T) (hnext : ∀ w1 w2 : va_W, PP hx dx hm dm n tr T w1 w2 → WW p l e room_1 s m args below meth c Q D A 4 13 10290 (w1 ++ w2) 346 (lwL b hx hm i) []) : WW p l e room_1 s m args below meth c Q D A 4 13 10290 (wX hx dx n goal best bc L P pa la nt bp ne ++ wM hm dm n tr L T G pt) 300 (lwL b hx hm i) [] := by
  refine x_aload_n hF 1 dL_law_300 rfl rfl ?_
  refine x_callF (C := RX1) (T := TX1) (N := 11) (ci := 0) (q0 := 0) (b := hx 0) (As := []) (rest := []) (wc := wX hx dx n goal best bc L P pa la nt bp ne) (wr := wM hm dm n tr L T G pt) hF (m1_net hn3 hn hL) 0 (lw_V q146 q147 q148 q22 q149) rfl rfl (by decide +kernel) ⟨Nat.le_of_ble_eq_true rfl, Nat.le_of_ble_eq_true rfl⟩ [0, 1, 2, 3, 4, 5, 6, 7] [8, 9, 10, 11, 12] [0, 1, 2, 3, 4, 5, 6] rfl rfl (by decide) rfl (by decide) (by decide) rfl rfl rfl rfl rfl (Nat.le_of_ble_eq_true rfl) dL_law_301 ⟨Nat.le_of_ble_eq_true rfl, Nat.le_of_ble_eq_true rfl⟩ (fun r_1 w_1 hp_1 => ?_)
  obtain ⟨L_1, g_1, b_1, c_1, P_1, pa_1, la_1, nt_1, bp_1, ne_1, rfl⟩ := jx_and hp_1
  refine x_aload_n hF 2 dL_law_304 rfl rfl ?_
  refine x_callF (C := RX2) (T := TX2) (N := 6) (ci := 1) (q0 := 0) (b := hm 0) (As := []) (rest := [.int r_1]) (wc := wM hm dm n tr L T G pt) (wr := wX hx dx n g_1 b_1 c_1 L_1 P_1 pa_1 la_1 nt_1 bp_1 ne_1) hF (m2_net hn3 hn hL) 0 (lw_V q256 q257 q258 q23 q259) rfl rfl (by decide +kernel) ⟨Nat.le_of_ble_eq_true rfl, Nat.le_of_ble_eq_true rfl⟩ [0, 1, 2, 3, 4] [5, 6, 7, 8, 9, 10, 11, 12] [7, 8, 9, 10] rfl rfl (by decide) rfl (by decide) (by decide) rfl rfl rfl rfl rfl (Nat.le_of_ble_eq_true rfl) dL_law_305 ⟨Nat.le_of_ble_eq_true rfl, Nat.le_of_ble_eq_true rfl⟩ (fun r_2 w_2 hp_2 => ?_)
  obtain ⟨er, hpp⟩ := j_net hL hp_1 hp_2
  exact x_icmp_eqR hF 346 dL_law_308 (by decide) (fun _ => hnext _ _ hpp) (fun q => absurd er q)
theorem law_shift (hF : FX p s m args c D A cL_law 4 RX0 (tX dx ++ tM dm)) (hX : va_X b Ls xs s s.heap) (hbl : b < s.heap.size) (hbA : ¬ A b) (hL2 : Ls ≤ 257) (hi : i + 4 ≤ Ls) (hn3 : 3 ≤ n) (hn : n ≤ 7) (hL : LOK n L) (hT : TB n tr T) (hnext : ∀ w1 w2 : va_W, PP hx dx hm dm n tr T w1 w2 → WW p l e room_1 s m args below meth c Q D A 4 13 10290 (w1 ++ w2) 346 (lwL b hx hm i) []) : WW p l e room_1 s m args below meth c Q D A 4 13 10290 (wX hx dx n goal best bc L P pa la nt bp ne ++ wM hm dm n tr L T G pt) 313 (lwL b hx hm i) [] := by
  refine x_aload_n hF 1 dL_law_313 rfl rfl ?_
  refine x_aload_n hF 0 dL_law_314 rfl rfl ?_
  refine x_iload_n hF 3 dL_law_315 rfl rfl ?_
  refine x_iconst hF dL_law_316 kc_i1 ?_
  refine x_iadd hF dL_law_317 ?_
  refine x_sld hF hX hbl hbA (i := i + 1) (by omega) (by omega) dL_law_318 ?_
  refine x_aload_n hF 0 dL_law_319 rfl rfl ?_
  refine x_iload_n hF 3 dL_law_320 rfl rfl ?_
  refine x_iconst hF dL_law_321 kc_i2 ?_
  refine x_iadd hF dL_law_322 ?_
  refine x_sld hF hX hbl hbA (i := i + 2) (by omega) (by omega) dL_law_323 ?_
  refine x_callF (C := RX1) (T := TX1) (N := 11) (ci := 0) (q0 := 0) (b := hx 0) (As := [.int (xs (i + 1)), .int (xs (i + 2))]) (rest := []) (wc := wX hx dx n goal best bc L P pa la nt bp ne) (wr := wM hm dm n tr L T G pt) hF (m1_shift hn3 hn hL (xs (i + 1)) (xs (i + 2))) 2 (lw_V q150 q151 q152 q22 q153) rfl rfl (by decide +kernel) ⟨Nat.le_of_ble_eq_true rfl, Nat.le_of_ble_eq_true rfl⟩ [0, 1, 2, 3, 4, 5, 6, 7] [8, 9, 10, 11, 12] [0, 1, 2, 3, 4, 5, 6] rfl rfl (by decide) rfl (by decide) (by decide) rfl rfl rfl rfl rfl (Nat.le_of_ble_eq_true rfl) dL_law_324 ⟨Nat.le_of_ble_eq_true rfl, Nat.le_of_ble_eq_true rfl⟩ (fun r_1 w_1 hp_1 => ?_)
  obtain ⟨L_1, g_1, b_1, c_1, P_1, pa_1, la_1, nt_1, bp_1, ne_1, rfl⟩ := jx_shift hp_1
  refine x_aload_n hF 2 dL_law_327 rfl rfl ?_
  refine x_aload_n hF 0 dL_law_328 rfl rfl ?_
  refine x_iload_n hF 3 dL_law_329 rfl rfl ?_
  refine x_iconst hF dL_law_330 kc_i1 ?_
  refine x_iadd hF dL_law_331 ?_
  refine x_sld hF hX hbl hbA (i := i + 1) (by omega) (by omega) dL_law_332 ?_
  refine x_aload_n hF 0 dL_law_333 rfl rfl ?_
  refine x_iload_n hF 3 dL_law_334 rfl rfl ?_
  refine x_iconst hF dL_law_335 kc_i2 ?_
  refine x_iadd hF dL_law_336 ?_
  refine x_sld hF hX hbl hbA (i := i + 2) (by omega) (by omega) dL_law_337 ?_
  refine x_callF (C := RX2) (T := TX2) (N := 6) (ci := 1) (q0 := 0) (b := hm 0) (As := [.int (xs (i + 1)), .int (xs (i + 2))]) (rest := [.int r_1]) (wc := wM hm dm n tr L T G pt) (wr := wX hx dx n g_1 b_1 c_1 L_1 P_1 pa_1 la_1 nt_1 bp_1 ne_1) hF (m2_shift hn3 hn hL (xs (i + 1)) (xs (i + 2))) 2 (lw_V q260 q261 q262 q23 q263) rfl rfl (by decide +kernel) ⟨Nat.le_of_ble_eq_true rfl, Nat.le_of_ble_eq_true rfl⟩ [0, 1, 2, 3, 4] [5, 6, 7, 8, 9, 10, 11, 12] [7, 8, 9, 10] rfl rfl (by decide) rfl (by decide) (by decide) rfl rfl rfl rfl rfl (Nat.le_of_ble_eq_true rfl) dL_law_338 ⟨Nat.le_of_ble_eq_true rfl, Nat.le_of_ble_eq_true rfl⟩ (fun r_2 w_2 hp_2 => ?_)
  obtain ⟨er, hpp⟩ := j_shift hn hL hp_1 hp_2
  exact x_icmp_eqR hF 346 dL_law_341 (by decide) (fun _ => hnext _ _ hpp) (fun q => absurd er q)
end
end
section
set_option maxRecDepth 100000
/-! THE CLAIM OUT OF ONE WALK OF THE LAW'S BODY. Your part is whole_start (and what it stands on); all else here is the same for every law, but numbers. -/
def R_law : String := "TourSolverLaw"
def lw_P (b : Addr) (xs : List Int32) (args : Array Value) (s : State) : Prop := args = #[.ref b] ∧ s.IntsAt b xs ∧ xs.length ≤ 257 ∧ (Jvm.Cond.and given_1 narrow_1).before args s = true
def lw_Q (_ : Array Value) (s : State) (o : Outcome) (t : State) : Prop := o = .returned (some (.int 1)) ∧ Framed s o t [] 600000 7290000
def lw_Z (below : List Frame) (a : Array Value) (s : State) : State → Prop := fun t => ∃ o, t.status = .running ∧ Ended t below o ∧ lw_Q a s o t
/-- the law's own end, with 1 on the stack, nothing written that was there before, its room as the claim has it -/
theorem lw_ret {p : Program} {l : Launch} {e : Env} {s : State} {m : MethodId} {below : List Frame} {meth : Method} {c : Code} {b : Nat} (hx : p.tables.exec = Jvm.exec) (hb : c.code = code) (hr : meth.sig.returnType = ret) (hlocks : meth.locks = false) {pc : Nat} {H : Heap} {ls : Array Slot} (hdg : decode code pc = .ok (.ireturn, 1)) : W p l e room_1 s m #[Value.ref b] below meth c H [] 600000 7290000 (lw_Z below #[Value.ref b] s) (F0 m pc ls [.int 1]) := by
  intro T hT X
  obtain ⟨fs, hret, hrun, hended, hW, hframe⟩ := X.leave (v := some (.int 1)) (hlocks := hlocks) (fun h => by rw [hr] at h; cases h)
  have hmeth' : T.vm.method? m = some meth := X.method'
  refine ⟨T.setFrames fs, ?_, .returned (some (.int 1)), hrun, hended, rfl, ⟨_, rfl⟩, hW, hframe⟩
  jvm_step X.here [X.here.top, hx, hb, hdg, hmeth', hr, ret, narrow_b1]
  (try refine ⟨rfl, ?_⟩); (try refine ⟨rfl, ?_⟩)
  first | (intro acts; rw [hret _ acts rfl rfl rfl]) | rw [hret _ _ rfl rfl rfl]
  exact Steps.refl _
/-- what holds at the law's entry: the machine, the code, the tables' words (any of lw_tbl by 'hts w (by decide +kernel)'), the script of L ints xs at the cell b, what the Statement gives of the start (any of its parts by flat_of_before) -/
def lw_At (p : Program) (s : State) (m : MethodId) (meth : Method) (c : Code) (b L : Nat) (xs : Nat → Int32) : Prop :=
  p.tables.exec = Jvm.exec ∧ c.code = code ∧ meth.sig.returnType = ret ∧ c.maxLocals = 4 ∧ s.vm.findClass R_law = some m.cls ∧ (∀ w ∈ lw_tbl, w.before #[Value.ref b] s = true) ∧ va_X b L xs s s.heap ∧ b < s.heap.size ∧ meth.locks = false ∧ (Jvm.Cond.and given_1 narrow_1).before #[Value.ref b] s = true
theorem law_loop {p : Program} {l : Launch} {e : Env} {s : State} {m : MethodId} {below : List Frame} {meth : Method} {c : Code} {D : va_G} {b Ls : Nat} {xs : Nat → Int32} {hx hm : Nat → Nat} {dx dm : Nat → ClassId} {n tr : Nat} {T : Nat → Nat} (hL2 : Ls ≤ 257) (C0 : lw_At p s m meth c b Ls xs) (hF : FX p s m #[Value.ref b] c D (fun q : Nat => s.heap.size ≤ q) cL_law 4 RX0 (tX dx ++ tM dm)) (hn3 : 3 ≤ n) (hn : n ≤ 7) (hT : TB n tr T) :
    ∀ (f i : Nat) (w1 w2 : va_W), i ≤ 300 → 301 ≤ i + f → PP hx dx hm dm n tr T w1 w2 → WW p l e room_1 s m #[Value.ref b] below meth c (lw_Z below #[Value.ref b] s) D (fun q : Nat => s.heap.size ≤ q) 4 13 10290 (w1 ++ w2) 28 (lwL b hx hm i) [] := by
  obtain ⟨hx0, hb0, hr0, hml0, hown0, hts0, hX, hbl, hlocks, hgv⟩ := C0
  have hbA : ¬ (fun q : Nat => s.heap.size ≤ q) b := Nat.not_le.mpr hbl
  intro f
  induction f with
  | zero =>
    intro i w1 w2 h1 h2
    exact absurd h2 (by omega)
  | succ f ih =>
    intro i w1 w2 hi hif hpp
    obtain ⟨L, hL, ⟨goal, best, bc, P, pa, la, nt, bp, ne, rfl⟩, ⟨G, pt, rfl⟩⟩ := hpp
    refine x_iload_n hF 3 dL_law_28 rfl rfl ?_
    refine x_aload_n hF 0 dL_law_29 rfl rfl ?_
    refine x_slen hF hX hbl hbA dL_law_30 ?_
    refine x_iconst hF dL_law_31 kc_i4 ?_
    refine x_isubR hF dL_law_32 rfl ?_
    refine x_icmp_gtR hF 352 dL_law_33 (by decide) (fun _ => ?_) (fun c_33 => ?_)
    · refine x_iconst (v := 1) hF dL_law_352 (by decide +kernel) ?_
      intro H locs ls hP hD hS hl
      refine va_forget (fun q hq => hS.2.2 q hq) ?_
      refine W.widen (k := 600000) (n := 7290000) (Nat.le_of_ble_eq_true rfl) (Nat.le_of_ble_eq_true rfl) ?_
      exact lw_ret hx0 hb0 hr0 hlocks dL_law_353
    · have hi4 : i + 4 ≤ Ls := loop_in hL2 hi c_33
      have hnext : ∀ v1 v2 : va_W, PP hx dx hm dm n tr T v1 v2 → WW p l e room_1 s m #[Value.ref b] below meth c (lw_Z below #[Value.ref b] s) D (fun q : Nat => s.heap.size ≤ q) 4 13 10290 (v1 ++ v2) 346 (lwL b hx hm i) [] := by
        intro v1 v2 hv
        refine x_iinc (v := nI (i + 4)) (lv' := lwL b hx hm (i + 4)) hF 3 dL_law_346 rfl (ii_4 _) (by decide) rfl ?_
        refine x_goto hF 28 dL_law_349 (by decide) ?_
        exact ih (i + 4) v1 v2 (by omega) (by omega) hv
      refine x_aload_n hF 0 dL_law_36 rfl rfl ?_
      refine x_iload_n hF 3 dL_law_37 rfl rfl ?_
      refine x_sld hF hX hbl hbA (i := i) (by omega) (by omega) dL_law_38 ?_
      refine x_bipush hF dL_law_39 kc_b15 ?_
      obtain ⟨j, hj, ej⟩ := and15 (xs i)
      refine x_iand (v := nI j) hF dL_law_41 ej ?_
      have hje : (nI j).toInt = j := nI_toInt (by omega)
      have hin : ∀ (off : Int) (tgt : Nat), j ≤ 9 → (#[54, 97, 110, 133, 146, 179, 212, 245, 258, 271] : Array Int)[j]? = some off → ((42 : Nat) : Int) + off = (tgt : Int) → WW p l e room_1 s m #[Value.ref b] below meth c (lw_Z below #[Value.ref b] s) D (fun q : Nat => s.heap.size ≤ q) 4 13 10290 (wX hx dx n goal best bc L P pa la nt bp ne ++ wM hm dm n tr L T G pt) tgt (lwL b hx hm i) [] → WW p l e room_1 s m #[Value.ref b] below meth c (lw_Z below #[Value.ref b] s) D (fun q : Nat => s.heap.size ≤ q) 4 13 10290 (wX hx dx n goal best bc L P pa la nt bp ne ++ wM hm dm n tr L T G pt) 42 (lwL b hx hm i) [.int (nI j)] := by
        intro off tgt h9 ho ht kk
        refine x_tableIn hF tgt dL_law_42 (by rw [hje]; omega) (by rw [hje]; omega) (off := off) ?_ ht kk
        rw [hje]
        have : ((j : Int) - 0).toNat = j := by omega
        rw [this]
        exact ho
      by_cases h9 : j ≤ 9
      · rcases (show j = 0 ∨ j = 1 ∨ j = 2 ∨ j = 3 ∨ j = 4 ∨ j = 5 ∨ j = 6 ∨ j = 7 ∨ j = 8 ∨ j = 9 by omega) with h | h | h | h | h | h | h | h | h | h
        · exact hin 54 96 h9 (by rw [h]; rfl) (by decide) (law_road hF hX hbl hbA hL2 hi4 hn3 hn hL hT hnext)
        · exact hin 97 139 h9 (by rw [h]; rfl) (by decide) (law_shortest hF hX hbl hbA hL2 hi4 hn3 hn hL hT hnext)
        · exact hin 110 152 h9 (by rw [h]; rfl) (by decide) (law_town hF hX hbl hbA hL2 hi4 hn3 hn hL hT hnext)
        · exact hin 133 175 h9 (by rw [h]; rfl) (by decide) (law_trips hF hX hbl hbA hL2 hi4 hn3 hn hL hT hnext)
        · exact hin 146 188 h9 (by rw [h]; rfl) (by decide) (law_using hF hX hbl hbA hL2 hi4 hn3 hn hL hT hnext)
        · exact hin 179 221 h9 (by rw [h]; rfl) (by decide) (law_avoiding hF hX hbl hbA hL2 hi4 hn3 hn hL hT hnext)
        · exact hin 212 254 h9 (by rw [h]; rfl) (by decide) (law_walk hF hX hbl hbA hL2 hi4 hn3 hn hL hT hnext)
        · exact hin 245 287 h9 (by rw [h]; rfl) (by decide) (law_reach hF hX hbl hbA hL2 hi4 hn3 hn hL hT hnext)
        · exact hin 258 300 h9 (by rw [h]; rfl) (by decide) (law_net hF hX hbl hbA hL2 hi4 hn3 hn hL hT hnext)
        · exact hin 271 313 h9 (by rw [h]; rfl) (by decide) (law_shift hF hX hbl hbA hL2 hi4 hn3 hn hL hT hnext)
      · refine x_tableOut hF 346 dL_law_42 (Or.inr (by rw [hje]; omega)) (by decide) ?_
        exact hnext _ _ ⟨L, hL, ⟨_, _, _, _, _, _, _, _, _, rfl⟩, ⟨_, _, rfl⟩⟩
theorem fs_X : ∀ j, j < 11 → defaultValue (tyX1 j) = vp_V [.int (nI 0), .null, .int (nI 0), .null, .null, .null, .null, .int (nI 0), .int (nI 0), .null, .null] j := by
  rw [nI_0]
  intro j hj
  rcases (show j = 0 ∨ j = 1 ∨ j = 2 ∨ j = 3 ∨ j = 4 ∨ j = 5 ∨ j = 6 ∨ j = 7 ∨ j = 8 ∨ j = 9 ∨ j = 10 by omega) with h | h | h | h | h | h | h | h | h | h | h <;> subst h <;> rfl
theorem fs_M : ∀ j, j < 6 → defaultValue (tyX2 j) = vp_V [.int (nI 0), .null, .int (nI 0), .null, .null, .null] j := by
  rw [nI_0]
  intro j hj
  rcases (show j = 0 ∨ j = 1 ∨ j = 2 ∨ j = 3 ∨ j = 4 ∨ j = 5 by omega) with h | h | h | h | h | h <;> subst h <;> rfl
/-- from the entry, for every script of at most 257 ints, the law comes to its end with true -/
theorem whole_start {p : Program} {e : Env} {s : State} {m : MethodId} {below : List Frame} {meth : Method} {c : Code} (l : Launch) {b L : Nat} {xs : Nat → Int32} (hL : L ≤ 257) (C0 : lw_At p s m meth c b L xs) : W p l e room_1 s m #[Value.ref b] below meth c s.heap [] 0 0 (lw_Z below #[Value.ref b] s) (entryFrame m ([Value.ref b] : List Value).toArray 4) := by
  obtain ⟨hx0, hb0, hr0, hml0, hown0, hts0, hX, hbl, hlocks, hgv⟩ := id C0
  have hbA : ¬ (fun q : Nat => s.heap.size ≤ q) b := Nat.not_le.mpr hbl
  have hts : ∀ w ∈ lw_all, w.before #[Value.ref b] s = true := fun w h => hts0 w (lw_all_tbl h)
  obtain ⟨c0, iS0, hKn0⟩ := u_known (C := RX1) (T := TX1) (N := 11) (n := 11) hts in_X1 (hts _ q25)
  obtain ⟨c1, iS1, hKn1⟩ := u_known (C := RX2) (T := TX2) (N := 6) (n := 6) hts in_X2 (hts _ q159)
  obtain ⟨D, hK⟩ : ∃ D : va_G, va_K D vwCl [] s := by
    refine ⟨(fun k => if k = 0 then c0 else c1, fun k => if k = 0 then iS0 else iS1), ?_, fun k q h => by simp at h⟩
    intro k q hq
    match k, hq with
    | 0, hq => cases hq; exact hKn0
    | 1, hq => cases hq; exact hKn1
    | k + 2, hq => simp at hq
  have hF : FX p s m #[Value.ref b] c D (fun q : Nat => s.heap.size ≤ q) cL_law 4 RX0 [] := ⟨hx0, hb0, hml0, hown0, hts, hK, fun _ h => h⟩
  have hl := lv_entry ([.ref b]) (n := 4) (Nat.le_of_ble_eq_true rfl)
  rw [lg_entry_eq]
  have key : WW p l e room_1 s m #[Value.ref b] below meth c (lw_Z below #[Value.ref b] s) D (fun q : Nat => s.heap.size ≤ q) 4 0 0 [] 0 [(0, .ref b)] [] := by
    refine x_new (ci := 0) (fs := [.int (nI 0), .null, .int (nI 0), .null, .null, .null, .null, .int (nI 0), .int (nI 0), .null, .null]) (C := RX1) (T := TX1) (N := 11) hF in_X1 tyX1 tyX1_ok q24 q25 q22 rfl fs_X (Nat.le_of_ble_eq_true rfl) (Nat.le_of_ble_eq_true rfl) dL_law_0 (fun q => ?_)
    refine x_dup hF dL_law_3 rfl ?_
    refine x_aload_n hF 0 dL_law_4 rfl rfl ?_
    refine x_iconst hF dL_law_5 kc_i0 ?_
    refine x_cell (wr := [(q, .inr (0, [.int (nI 0), .null, .int (nI 0), .null, .null, .null, .null, .int (nI 0), .int (nI 0), .null, .null]))]) hF hX (by omega) hbl hbA [0] rfl (by decide) (Nat.le_of_ble_eq_true rfl) (Nat.le_of_ble_eq_true rfl) (Nat.le_of_ble_eq_true rfl) dL_law_6 ⟨Nat.le_of_ble_eq_true rfl, Nat.le_of_ble_eq_true rfl⟩ ?_
    refine x_callC (b := q) (As := [.int (cel L xs)]) (rest := [.ref q]) (wr := []) hF (m1_init q (cel L xs)) 1 q28 q22 q26 q27 rfl rfl rfl (by decide +kernel) ⟨Nat.le_of_ble_eq_true rfl, Nat.le_of_ble_eq_true rfl⟩ [0] [] rfl rfl (by decide) rfl (by decide) (by decide) rfl rfl (Nat.le_of_ble_eq_true rfl) dL_law_9 ⟨Nat.le_of_ble_eq_true rfl, Nat.le_of_ble_eq_true rfl⟩ (fun w1 tys1 hp1 hF1 => ?_)
    obtain ⟨hx, dx, rfl, rfl, goal, best, bc, P, pa, la, nt, bp, ne, rfl⟩ := hp1
    refine x_astore_n (lv' := [(0, .ref b), (1, .ref (hx 0))]) hF1 dL_law_12 rfl (by decide) rfl ?_
    refine x_new (ci := 1) (fs := [.int (nI 0), .null, .int (nI 0), .null, .null, .null]) (C := RX2) (T := TX2) (N := 6) hF1 in_X2 tyX2 tyX2_ok q158 q159 q23 rfl fs_M (Nat.le_of_ble_eq_true rfl) (Nat.le_of_ble_eq_true rfl) dL_law_13 (fun q => ?_)
    refine x_dup hF1 dL_law_16 rfl ?_
    refine x_aload_n hF1 0 dL_law_17 rfl rfl ?_
    refine x_iconst hF1 dL_law_18 kc_i0 ?_
    refine x_cell (wr := wX hx dx (tcl (cel L xs)) goal best bc (Lk 49) P pa la nt bp ne ++ [(q, .inr (1, [.int (nI 0), .null, .int (nI 0), .null, .null, .null]))]) hF1 hX (by omega) hbl hbA [0, 1, 2, 3, 4, 5, 6, 7, 8] rfl (by decide) (Nat.le_of_ble_eq_true rfl) (Nat.le_of_ble_eq_true rfl) (Nat.le_of_ble_eq_true rfl) dL_law_19 ⟨Nat.le_of_ble_eq_true rfl, Nat.le_of_ble_eq_true rfl⟩ ?_
    refine x_callC (b := q) (As := [.int (cel L xs)]) (rest := [.ref q]) (wr := wX hx dx (tcl (cel L xs)) goal best bc (Lk 49) P pa la nt bp ne) hF1 (m2_init q (cel L xs)) 1 q162 q23 q160 q161 rfl rfl rfl (by decide +kernel) ⟨Nat.le_of_ble_eq_true rfl, Nat.le_of_ble_eq_true rfl⟩ [8] [0, 1, 2, 3, 4, 5, 6, 7] rfl rfl (by decide) rfl (by decide) (by decide) rfl rfl (Nat.le_of_ble_eq_true rfl) dL_law_22 ⟨Nat.le_of_ble_eq_true rfl, Nat.le_of_ble_eq_true rfl⟩ (fun w2 tys2 hp2 hF2 => ?_)
    obtain ⟨hm, dm, rfl, rfl, tr, T, hT, hW2⟩ := hp2
    refine x_astore_n (lv' := [(0, .ref b), (1, .ref (hx 0)), (2, .ref (hm 0))]) hF2 dL_law_25 rfl (by decide) rfl ?_
    refine x_iconst hF2 dL_law_26 kc_i1 ?_
    refine x_istore_n (lv' := [(0, .ref b), (1, .ref (hx 0)), (2, .ref (hm 0)), (3, .int (nI 1))]) hF2 dL_law_27 rfl (by decide) rfl ?_
    have ht := tcl_in (cel L xs)
    exact law_loop (hx := hx) (dx := dx) (hm := hm) (dm := dm) hL C0 hF2 ht.1 ht.2 hT 300 1 _ _ (by omega) (by omega) ⟨Lk 49, Lk_ok _ ht.2, ⟨_, _, _, _, _, _, _, _, _, rfl⟩, hW2⟩
  exact key s.heap [] _ vP0 vD0 va_S.rf hl
end
section
set_option maxRecDepth 100000
set_option maxHeartbeats 4000000 in
theorem lw_walk (l : Launch) (b : Addr) (xs : List Int32) : MetFree l x (headSpec (Jvm.Cond.code x code maxLocals ret :: tables_1) room_1) (lw_P b xs) (fun _ _ _ _ _ => True) lw_Q := by
  refine MetFree.of_bodyS (code := code) (maxLocals := maxLocals) (ret := ret) (by decide) ?_ ?_
  · intro args s m h hn
    obtain ⟨meth, c, h1, h2, h3, h4, h5, h6, -, -⟩ := Cond.code_spec hn (atoms_spec (ws := Jvm.Cond.code x code maxLocals ret :: tables_1) h _ List.mem_cons_self)
    exact ⟨meth, c, h1, h2, h3, h4, h5, h6⟩
  · intro p e s m args below meth c s₁ B hml0 hP _
    obtain ⟨rfl, hx, hbd, hgv⟩ := hP
    obtain ⟨scr, harrAt, hlist, hof, hsmall⟩ := hx
    obtain ⟨hcb, hkn, -, -⟩ := State.arrayAt?_spec harrAt
    have hown : s.vm.findClass R_law = some m.cls := findClass_of_methodNamed B.named
    have hts0 : ∀ c ∈ (Jvm.Cond.code x code maxLocals ret :: tables_1), c.before #[Value.ref b] s = true := atoms_spec (ws := Jvm.Cond.code x code maxLocals ret :: tables_1) B.pre
    have hts : ∀ w ∈ lw_tbl, w.before #[Value.ref b] s = true := k2_hts_sels lw_privs (fun w hw => hts0 w (List.mem_cons_of_mem _ hw)) lw_privs_ok
    have hml : c.maxLocals = 4 := B.maxLocals_eq (hts0 _ List.mem_cons_self)
    have X₀ : Stand p l e room_1 s m #[Value.ref b] below meth c s₁ [] 0 0 := Stand.of_body B
    have hh0 : s₁.heap = s.heap := by rw [B.state]; rfl
    have hsz : scr.slots.size = xs.length := by rw [← Array.length_toList, hlist, List.length_map]
    have hval : ∀ j : Nat, j < xs.length → scr.slots[j]? = some (.int (xs.getD j 0)) := fun j hj => by
      rw [← Array.getElem?_toList, hlist]
      simp [hj]
    have hbl : b < s.heap.size := (Array.getElem?_eq_some_iff.mp hcb).1
    have hX : va_X b xs.length (fun j => xs.getD j 0) s s.heap := ⟨scr, hcb, hof, hkn, hsz, hval⟩
    have K : W p l e room_1 s m #[Value.ref b] below meth c s₁.heap [] 0 0 (lw_Z below #[Value.ref b] s) (entryFrame m ([Value.ref b] : List Value).toArray 4) := by
      rw [hh0]
      exact whole_start l hbd ⟨B.exec, B.bytes, B.returns, hml, hown, hts, hX, hbl, B.notSynchronized, hgv⟩
    obtain ⟨t, a1, o, b1, b2, b3⟩ := K s₁ rfl X₀
    exact ⟨t, o, a1, b1, b2, b3⟩
theorem lw_pre_spec {args : Array Value} {s : State} (h : (Jvm.Cond.and given_1 narrow_1).before args s = true) (hr : rest_1_c.before args s = true) : ∃ (b : Addr) (xs : List Int32), lw_P b xs args s := by
  have hs := flat_of_before _ h
  have hq := flat_of_before _ hr
  have hc : (Cond.count 1).before args s = true := hs _ (by decide +kernel)
  have harr : (Cond.arrayOf (.arg 0) .int).before args s = true := hs _ (by decide +kernel)
  have hle : (Cond.le (.length (.arg 0)) (.int 257)).before args s = true := hs _ (by decide +kernel)
  have hlen : (Cond.isInt (.length (.arg 0))).before args s = true := hq _ (by decide +kernel)
  have hall : (Cond.all (.arg 0) (.isInt (.elem (.arg 0) (.index 0)))).before args s = true := hq _ (by decide +kernel)
  obtain ⟨b, xs, hb, hx⟩ := State.ints_of_pre rfl harr hlen hall
  have hsm : xs.length < 2 ^ 31 := hx.choose_spec.2.2.2
  have hev : (Term.length (.arg 0)).eval args s none [] s = some (.int xs.length.toInt32) := hx.length_eval hb
  have hv := Cond.le_ints hev (show (Term.int 257).eval args s none [] s = some (.int 257) from rfl)
  have hd : xs.length.toInt32 ≤ 257 := by
    simpa [Cond.before, Cond.holds, hv] using hle
  have hN : xs.length ≤ 257 := (Int32.ofNat_le_ofNat hsm (by decide)).mp (show Int32.ofNat xs.length ≤ Int32.ofNat 257 from hd)
  exact ⟨b, xs, Cond.one_arg hc (show args[0]? = some (.ref b) from hb), hx, hN, h⟩
theorem lw_comes (l : Launch) : Comes l x (Jvm.Cond.code x code maxLocals ret :: tables_1) room_1 (fun tb e args s => Calls_1 tb e args s ∧ rest_1 tb e args s ∧ Pre_1 tb e args s)
    (fun _ _ args s o t => lw_Q args s o t) := by
  intro p e ha hc hk s m args below hf hfit hheap happ hpre
  obtain ⟨b, xs, hP⟩ := lw_pre_spec hpre.2.2 hpre.2.1
  obtain ⟨k, o, h1, h2, h3, hQ⟩ := lw_walk l b xs p e ha hc hk s m args below hf ((Spec.applies_iff_loose hf).mp happ).1 hP trivial
  exact ⟨k, o, h1, h2, h3, hQ⟩
theorem lw_frame {s t : State} {o : Outcome} {args : Array Value} (h : Framed s o t [] 600000 7290000) :
    Framed s o t (fieldLocs frame_1_writes args s ++ arrayLocs frame_1_arrays args s ++ staticLocs frame_1_statics s) 600000 7290000 := h
theorem lw_limb (L : Cond) (hL : ∀ (args : Array Value) (s t : State), L.after args s (.returned (some (.int 1))) t = true) :
    ArmFor flags0 classFile x code maxLocals ret World_1 tables_1 room_1 Calls_1 rest_1 Pre_1
      (fun tb e a s o t => postC L tb e a s o t ∧ Framed s o t (fieldLocs frame_1_writes a s ++ arrayLocs frame_1_arrays a s ++ staticLocs frame_1_statics s) 600000 7290000) := by
  intro l _ _ _ p e ha hc hk s m args below hf hfit hheap happ hpre
  obtain ⟨k, o, h1, h2, h3, rfl, hF⟩ := lw_comes l p e ha hc hk s m args below hf hfit hheap happ hpre
  exact ⟨k, _, h1, h2, h3, hL args s _, lw_frame hF⟩
theorem i_vc : Claimed_1_1 ∧ Claimed_1_2 := ⟨lw_limb limb_1_1 (fun args s t => by simp [limb_1_1, Cond.after, Cond.holds, Cond.value]), lw_limb limb_1_2 (fun args s t => Cond.after_iff.mpr (by
  first | (rw [show limb_1_2 = Cond.eq .result (.int 1) from rfl, Cond.eq_ints (x := 1) (y := 1) rfl rfl]; simp; done) | (simp [limb_1_2, Cond.value, Term.eval]; done)))⟩
end
